/-! DialMenusModel: methods and words -/
set_option maxRecDepth 100000
abbrev cX1_init : ByteArray := prog_7_method_1_code
def yX1_init : MethodName := ⟨RX1, "<init>", "()V"⟩
def dkwX1_init_9 : List UInt8 := [167, 0, 16, 27, 16, 22, 162, 0, 8, 16, 8, 167, 0, 5, 16, 9, 79, 132, 1, 1, 167, 255, 203, 177]
abbrev dktX1_init_9 : List UInt8 := dkwX1_init_9 ++ []
def dkwX1_init_8 : List UInt8 := [27, 16, 15, 162, 0, 11, 5, 27, 6, 108, 96, 167, 0, 27, 27, 16, 19, 162, 0, 8, 16, 7]
abbrev dktX1_init_8 : List UInt8 := dkwX1_init_8 ++ dktX1_init_9
def dkwX1_init_7 : List UInt8 := [181, 0, 67, 42, 16, 10, 188, 10, 181, 0, 70, 3, 60, 27, 16, 26, 162, 0, 53, 42, 180, 0, 22, 27]
abbrev dktX1_init_7 : List UInt8 := dkwX1_init_7 ++ dktX1_init_8
def dkwX1_init_6 : List UInt8 := [42, 17, 4, 101, 188, 10, 181, 0, 61, 42, 16, 14, 188, 10, 181, 0, 64, 42, 17, 0, 196, 188, 10]
abbrev dktX1_init_6 : List UInt8 := dkwX1_init_6 ++ dktX1_init_7
def dkwX1_init_5 : List UInt8 := [16, 11, 188, 10, 181, 0, 52, 42, 16, 11, 188, 10, 181, 0, 55, 42, 17, 0, 225, 188, 10, 181, 0, 58]
abbrev dktX1_init_5 : List UInt8 := dkwX1_init_5 ++ dktX1_init_6
def dkwX1_init_4 : List UInt8 := [16, 26, 188, 10, 181, 0, 43, 42, 16, 11, 188, 10, 181, 0, 46, 42, 16, 11, 188, 10, 181, 0, 49, 42]
abbrev dktX1_init_4 : List UInt8 := dkwX1_init_4 ++ dktX1_init_5
def dkwX1_init_3 : List UInt8 := [16, 14, 188, 10, 181, 0, 34, 42, 16, 112, 188, 10, 181, 0, 37, 42, 16, 14, 188, 10, 181, 0, 40, 42]
abbrev dktX1_init_3 : List UInt8 := dkwX1_init_3 ++ dktX1_init_4
def dkwX1_init_2 : List UInt8 := [188, 10, 181, 0, 25, 42, 16, 14, 188, 10, 181, 0, 28, 42, 17, 0, 196, 188, 10, 181, 0, 31, 42]
abbrev dktX1_init_2 : List UInt8 := dkwX1_init_2 ++ dktX1_init_3
def dkwX1_init_1 : List UInt8 := [188, 10, 181, 0, 16, 42, 16, 14, 188, 10, 181, 0, 19, 42, 16, 26, 188, 10, 181, 0, 22, 42, 16, 10]
abbrev dktX1_init_1 : List UInt8 := dkwX1_init_1 ++ dktX1_init_2
def dkwX1_init_0 : List UInt8 := [42, 183, 0, 1, 42, 16, 50, 188, 10, 181, 0, 7, 42, 16, 14, 188, 10, 181, 0, 13, 42, 16, 112]
abbrev dktX1_init_0 : List UInt8 := dkwX1_init_0 ++ dktX1_init_1
theorem dksX1_init_0 : cX1_init.data.toList.drop 0 = dktX1_init_0 := by decide +kernel
theorem dksX1_init_1 : cX1_init.data.toList.drop 23 = dktX1_init_1 := dk_seg dksX1_init_0 23 rfl rfl
theorem dksX1_init_2 : cX1_init.data.toList.drop 47 = dktX1_init_2 := dk_seg dksX1_init_1 24 rfl rfl
theorem dksX1_init_3 : cX1_init.data.toList.drop 70 = dktX1_init_3 := dk_seg dksX1_init_2 23 rfl rfl
theorem dksX1_init_4 : cX1_init.data.toList.drop 94 = dktX1_init_4 := dk_seg dksX1_init_3 24 rfl rfl
theorem dksX1_init_5 : cX1_init.data.toList.drop 118 = dktX1_init_5 := dk_seg dksX1_init_4 24 rfl rfl
theorem dksX1_init_6 : cX1_init.data.toList.drop 142 = dktX1_init_6 := dk_seg dksX1_init_5 24 rfl rfl
theorem dksX1_init_7 : cX1_init.data.toList.drop 165 = dktX1_init_7 := dk_seg dksX1_init_6 23 rfl rfl
theorem dksX1_init_8 : cX1_init.data.toList.drop 189 = dktX1_init_8 := dk_seg dksX1_init_7 24 rfl rfl
theorem dksX1_init_9 : cX1_init.data.toList.drop 211 = dktX1_init_9 := dk_seg dksX1_init_8 22 rfl rfl
theorem dX1_init_0 : decode cX1_init 0 = .ok (.aload_n 0, 1) := dk_42 (dk_at dksX1_init_0 0 rfl rfl)
theorem dX1_init_1 : decode cX1_init 1 = .ok (.invokespecial 1, 3) := dk_183 0 1 (dk_at dksX1_init_0 1 rfl rfl)
theorem dX1_init_4 : decode cX1_init 4 = .ok (.aload_n 0, 1) := dk_42 (dk_at dksX1_init_0 4 rfl rfl)
theorem dX1_init_5 : decode cX1_init 5 = .ok (.bipush 50, 2) := dk_16 50 (dk_at dksX1_init_0 5 rfl rfl)
theorem dX1_init_7 : decode cX1_init 7 = .ok (.newarray .int, 2) := dk_188_10 (dk_at dksX1_init_0 7 rfl rfl)
theorem dX1_init_9 : decode cX1_init 9 = .ok (.putfield 7, 3) := dk_181 0 7 (dk_at dksX1_init_0 9 rfl rfl)
theorem dX1_init_12 : decode cX1_init 12 = .ok (.aload_n 0, 1) := dk_42 (dk_at dksX1_init_0 12 rfl rfl)
theorem dX1_init_13 : decode cX1_init 13 = .ok (.bipush 14, 2) := dk_16 14 (dk_at dksX1_init_0 13 rfl rfl)
theorem dX1_init_15 : decode cX1_init 15 = .ok (.newarray .int, 2) := dk_188_10 (dk_at dksX1_init_0 15 rfl rfl)
theorem dX1_init_17 : decode cX1_init 17 = .ok (.putfield 13, 3) := dk_181 0 13 (dk_at dksX1_init_0 17 rfl rfl)
theorem dX1_init_20 : decode cX1_init 20 = .ok (.aload_n 0, 1) := dk_42 (dk_at dksX1_init_0 20 rfl rfl)
theorem dX1_init_21 : decode cX1_init 21 = .ok (.bipush 112, 2) := dk_16 112 (dk_at dksX1_init_0 21 rfl rfl)
theorem dX1_init_23 : decode cX1_init 23 = .ok (.newarray .int, 2) := dk_188_10 (dk_at dksX1_init_1 0 rfl rfl)
theorem dX1_init_25 : decode cX1_init 25 = .ok (.putfield 16, 3) := dk_181 0 16 (dk_at dksX1_init_1 2 rfl rfl)
theorem dX1_init_28 : decode cX1_init 28 = .ok (.aload_n 0, 1) := dk_42 (dk_at dksX1_init_1 5 rfl rfl)
theorem dX1_init_29 : decode cX1_init 29 = .ok (.bipush 14, 2) := dk_16 14 (dk_at dksX1_init_1 6 rfl rfl)
theorem dX1_init_31 : decode cX1_init 31 = .ok (.newarray .int, 2) := dk_188_10 (dk_at dksX1_init_1 8 rfl rfl)
theorem dX1_init_33 : decode cX1_init 33 = .ok (.putfield 19, 3) := dk_181 0 19 (dk_at dksX1_init_1 10 rfl rfl)
theorem dX1_init_36 : decode cX1_init 36 = .ok (.aload_n 0, 1) := dk_42 (dk_at dksX1_init_1 13 rfl rfl)
theorem dX1_init_37 : decode cX1_init 37 = .ok (.bipush 26, 2) := dk_16 26 (dk_at dksX1_init_1 14 rfl rfl)
theorem dX1_init_39 : decode cX1_init 39 = .ok (.newarray .int, 2) := dk_188_10 (dk_at dksX1_init_1 16 rfl rfl)
theorem dX1_init_41 : decode cX1_init 41 = .ok (.putfield 22, 3) := dk_181 0 22 (dk_at dksX1_init_1 18 rfl rfl)
theorem dX1_init_44 : decode cX1_init 44 = .ok (.aload_n 0, 1) := dk_42 (dk_at dksX1_init_1 21 rfl rfl)
theorem dX1_init_45 : decode cX1_init 45 = .ok (.bipush 10, 2) := dk_16 10 (dk_at dksX1_init_1 22 rfl rfl)
theorem dX1_init_47 : decode cX1_init 47 = .ok (.newarray .int, 2) := dk_188_10 (dk_at dksX1_init_2 0 rfl rfl)
theorem dX1_init_49 : decode cX1_init 49 = .ok (.putfield 25, 3) := dk_181 0 25 (dk_at dksX1_init_2 2 rfl rfl)
theorem dX1_init_52 : decode cX1_init 52 = .ok (.aload_n 0, 1) := dk_42 (dk_at dksX1_init_2 5 rfl rfl)
theorem dX1_init_53 : decode cX1_init 53 = .ok (.bipush 14, 2) := dk_16 14 (dk_at dksX1_init_2 6 rfl rfl)
theorem dX1_init_55 : decode cX1_init 55 = .ok (.newarray .int, 2) := dk_188_10 (dk_at dksX1_init_2 8 rfl rfl)
theorem dX1_init_57 : decode cX1_init 57 = .ok (.putfield 28, 3) := dk_181 0 28 (dk_at dksX1_init_2 10 rfl rfl)
theorem dX1_init_60 : decode cX1_init 60 = .ok (.aload_n 0, 1) := dk_42 (dk_at dksX1_init_2 13 rfl rfl)
theorem dX1_init_61 : decode cX1_init 61 = .ok (.sipush 196, 3) := dk_17 0 196 (dk_at dksX1_init_2 14 rfl rfl)
theorem dX1_init_64 : decode cX1_init 64 = .ok (.newarray .int, 2) := dk_188_10 (dk_at dksX1_init_2 17 rfl rfl)
theorem dX1_init_66 : decode cX1_init 66 = .ok (.putfield 31, 3) := dk_181 0 31 (dk_at dksX1_init_2 19 rfl rfl)
theorem dX1_init_69 : decode cX1_init 69 = .ok (.aload_n 0, 1) := dk_42 (dk_at dksX1_init_2 22 rfl rfl)
theorem dX1_init_70 : decode cX1_init 70 = .ok (.bipush 14, 2) := dk_16 14 (dk_at dksX1_init_3 0 rfl rfl)
theorem dX1_init_72 : decode cX1_init 72 = .ok (.newarray .int, 2) := dk_188_10 (dk_at dksX1_init_3 2 rfl rfl)
theorem dX1_init_74 : decode cX1_init 74 = .ok (.putfield 34, 3) := dk_181 0 34 (dk_at dksX1_init_3 4 rfl rfl)
theorem dX1_init_77 : decode cX1_init 77 = .ok (.aload_n 0, 1) := dk_42 (dk_at dksX1_init_3 7 rfl rfl)
theorem dX1_init_78 : decode cX1_init 78 = .ok (.bipush 112, 2) := dk_16 112 (dk_at dksX1_init_3 8 rfl rfl)
theorem dX1_init_80 : decode cX1_init 80 = .ok (.newarray .int, 2) := dk_188_10 (dk_at dksX1_init_3 10 rfl rfl)
theorem dX1_init_82 : decode cX1_init 82 = .ok (.putfield 37, 3) := dk_181 0 37 (dk_at dksX1_init_3 12 rfl rfl)
theorem dX1_init_85 : decode cX1_init 85 = .ok (.aload_n 0, 1) := dk_42 (dk_at dksX1_init_3 15 rfl rfl)
theorem dX1_init_86 : decode cX1_init 86 = .ok (.bipush 14, 2) := dk_16 14 (dk_at dksX1_init_3 16 rfl rfl)
theorem dX1_init_88 : decode cX1_init 88 = .ok (.newarray .int, 2) := dk_188_10 (dk_at dksX1_init_3 18 rfl rfl)
theorem dX1_init_90 : decode cX1_init 90 = .ok (.putfield 40, 3) := dk_181 0 40 (dk_at dksX1_init_3 20 rfl rfl)
theorem dX1_init_93 : decode cX1_init 93 = .ok (.aload_n 0, 1) := dk_42 (dk_at dksX1_init_3 23 rfl rfl)
theorem dX1_init_94 : decode cX1_init 94 = .ok (.bipush 26, 2) := dk_16 26 (dk_at dksX1_init_4 0 rfl rfl)
theorem dX1_init_96 : decode cX1_init 96 = .ok (.newarray .int, 2) := dk_188_10 (dk_at dksX1_init_4 2 rfl rfl)
theorem dX1_init_98 : decode cX1_init 98 = .ok (.putfield 43, 3) := dk_181 0 43 (dk_at dksX1_init_4 4 rfl rfl)
theorem dX1_init_101 : decode cX1_init 101 = .ok (.aload_n 0, 1) := dk_42 (dk_at dksX1_init_4 7 rfl rfl)
theorem dX1_init_102 : decode cX1_init 102 = .ok (.bipush 11, 2) := dk_16 11 (dk_at dksX1_init_4 8 rfl rfl)
theorem dX1_init_104 : decode cX1_init 104 = .ok (.newarray .int, 2) := dk_188_10 (dk_at dksX1_init_4 10 rfl rfl)
theorem dX1_init_106 : decode cX1_init 106 = .ok (.putfield 46, 3) := dk_181 0 46 (dk_at dksX1_init_4 12 rfl rfl)
theorem dX1_init_109 : decode cX1_init 109 = .ok (.aload_n 0, 1) := dk_42 (dk_at dksX1_init_4 15 rfl rfl)
theorem dX1_init_110 : decode cX1_init 110 = .ok (.bipush 11, 2) := dk_16 11 (dk_at dksX1_init_4 16 rfl rfl)
theorem dX1_init_112 : decode cX1_init 112 = .ok (.newarray .int, 2) := dk_188_10 (dk_at dksX1_init_4 18 rfl rfl)
theorem dX1_init_114 : decode cX1_init 114 = .ok (.putfield 49, 3) := dk_181 0 49 (dk_at dksX1_init_4 20 rfl rfl)
theorem dX1_init_117 : decode cX1_init 117 = .ok (.aload_n 0, 1) := dk_42 (dk_at dksX1_init_4 23 rfl rfl)
theorem dX1_init_118 : decode cX1_init 118 = .ok (.bipush 11, 2) := dk_16 11 (dk_at dksX1_init_5 0 rfl rfl)
theorem dX1_init_120 : decode cX1_init 120 = .ok (.newarray .int, 2) := dk_188_10 (dk_at dksX1_init_5 2 rfl rfl)
theorem dX1_init_122 : decode cX1_init 122 = .ok (.putfield 52, 3) := dk_181 0 52 (dk_at dksX1_init_5 4 rfl rfl)
theorem dX1_init_125 : decode cX1_init 125 = .ok (.aload_n 0, 1) := dk_42 (dk_at dksX1_init_5 7 rfl rfl)
theorem dX1_init_126 : decode cX1_init 126 = .ok (.bipush 11, 2) := dk_16 11 (dk_at dksX1_init_5 8 rfl rfl)
theorem dX1_init_128 : decode cX1_init 128 = .ok (.newarray .int, 2) := dk_188_10 (dk_at dksX1_init_5 10 rfl rfl)
theorem dX1_init_130 : decode cX1_init 130 = .ok (.putfield 55, 3) := dk_181 0 55 (dk_at dksX1_init_5 12 rfl rfl)
theorem dX1_init_133 : decode cX1_init 133 = .ok (.aload_n 0, 1) := dk_42 (dk_at dksX1_init_5 15 rfl rfl)
theorem dX1_init_134 : decode cX1_init 134 = .ok (.sipush 225, 3) := dk_17 0 225 (dk_at dksX1_init_5 16 rfl rfl)
theorem dX1_init_137 : decode cX1_init 137 = .ok (.newarray .int, 2) := dk_188_10 (dk_at dksX1_init_5 19 rfl rfl)
theorem dX1_init_139 : decode cX1_init 139 = .ok (.putfield 58, 3) := dk_181 0 58 (dk_at dksX1_init_5 21 rfl rfl)
theorem dX1_init_142 : decode cX1_init 142 = .ok (.aload_n 0, 1) := dk_42 (dk_at dksX1_init_6 0 rfl rfl)
theorem dX1_init_143 : decode cX1_init 143 = .ok (.sipush 1125, 3) := dk_17 4 101 (dk_at dksX1_init_6 1 rfl rfl)
theorem dX1_init_146 : decode cX1_init 146 = .ok (.newarray .int, 2) := dk_188_10 (dk_at dksX1_init_6 4 rfl rfl)
theorem dX1_init_148 : decode cX1_init 148 = .ok (.putfield 61, 3) := dk_181 0 61 (dk_at dksX1_init_6 6 rfl rfl)
theorem dX1_init_151 : decode cX1_init 151 = .ok (.aload_n 0, 1) := dk_42 (dk_at dksX1_init_6 9 rfl rfl)
theorem dX1_init_152 : decode cX1_init 152 = .ok (.bipush 14, 2) := dk_16 14 (dk_at dksX1_init_6 10 rfl rfl)
theorem dX1_init_154 : decode cX1_init 154 = .ok (.newarray .int, 2) := dk_188_10 (dk_at dksX1_init_6 12 rfl rfl)
theorem dX1_init_156 : decode cX1_init 156 = .ok (.putfield 64, 3) := dk_181 0 64 (dk_at dksX1_init_6 14 rfl rfl)
theorem dX1_init_159 : decode cX1_init 159 = .ok (.aload_n 0, 1) := dk_42 (dk_at dksX1_init_6 17 rfl rfl)
theorem dX1_init_160 : decode cX1_init 160 = .ok (.sipush 196, 3) := dk_17 0 196 (dk_at dksX1_init_6 18 rfl rfl)
theorem dX1_init_163 : decode cX1_init 163 = .ok (.newarray .int, 2) := dk_188_10 (dk_at dksX1_init_6 21 rfl rfl)
theorem dX1_init_165 : decode cX1_init 165 = .ok (.putfield 67, 3) := dk_181 0 67 (dk_at dksX1_init_7 0 rfl rfl)
theorem dX1_init_168 : decode cX1_init 168 = .ok (.aload_n 0, 1) := dk_42 (dk_at dksX1_init_7 3 rfl rfl)
theorem dX1_init_169 : decode cX1_init 169 = .ok (.bipush 10, 2) := dk_16 10 (dk_at dksX1_init_7 4 rfl rfl)
theorem dX1_init_171 : decode cX1_init 171 = .ok (.newarray .int, 2) := dk_188_10 (dk_at dksX1_init_7 6 rfl rfl)
theorem dX1_init_173 : decode cX1_init 173 = .ok (.putfield 70, 3) := dk_181 0 70 (dk_at dksX1_init_7 8 rfl rfl)
theorem dX1_init_176 : decode cX1_init 176 = .ok (.iconst 0, 1) := dk_3 (dk_at dksX1_init_7 11 rfl rfl)
theorem dX1_init_177 : decode cX1_init 177 = .ok (.istore_n 1, 1) := dk_60 (dk_at dksX1_init_7 12 rfl rfl)
theorem dX1_init_178 : decode cX1_init 178 = .ok (.iload_n 1, 1) := dk_27 (dk_at dksX1_init_7 13 rfl rfl)
theorem dX1_init_179 : decode cX1_init 179 = .ok (.bipush 26, 2) := dk_16 26 (dk_at dksX1_init_7 14 rfl rfl)
theorem dX1_init_181 : decode cX1_init 181 = .ok (.if_icmp .ge 53, 3) := dk_162 0 53 (dk_at dksX1_init_7 16 rfl rfl)
theorem dX1_init_184 : decode cX1_init 184 = .ok (.aload_n 0, 1) := dk_42 (dk_at dksX1_init_7 19 rfl rfl)
theorem dX1_init_185 : decode cX1_init 185 = .ok (.getfield 22, 3) := dk_180 0 22 (dk_at dksX1_init_7 20 rfl rfl)
theorem dX1_init_188 : decode cX1_init 188 = .ok (.iload_n 1, 1) := dk_27 (dk_at dksX1_init_7 23 rfl rfl)
theorem dX1_init_189 : decode cX1_init 189 = .ok (.iload_n 1, 1) := dk_27 (dk_at dksX1_init_8 0 rfl rfl)
theorem dX1_init_190 : decode cX1_init 190 = .ok (.bipush 15, 2) := dk_16 15 (dk_at dksX1_init_8 1 rfl rfl)
theorem dX1_init_192 : decode cX1_init 192 = .ok (.if_icmp .ge 11, 3) := dk_162 0 11 (dk_at dksX1_init_8 3 rfl rfl)
theorem dX1_init_195 : decode cX1_init 195 = .ok (.iconst 2, 1) := dk_5 (dk_at dksX1_init_8 6 rfl rfl)
theorem dX1_init_196 : decode cX1_init 196 = .ok (.iload_n 1, 1) := dk_27 (dk_at dksX1_init_8 7 rfl rfl)
theorem dX1_init_197 : decode cX1_init 197 = .ok (.iconst 3, 1) := dk_6 (dk_at dksX1_init_8 8 rfl rfl)
theorem dX1_init_198 : decode cX1_init 198 = .ok (.idiv, 1) := dk_108 (dk_at dksX1_init_8 9 rfl rfl)
theorem dX1_init_199 : decode cX1_init 199 = .ok (.iadd, 1) := dk_96 (dk_at dksX1_init_8 10 rfl rfl)
theorem dX1_init_200 : decode cX1_init 200 = .ok (.goto 27, 3) := dk_167 0 27 (dk_at dksX1_init_8 11 rfl rfl)
theorem dX1_init_203 : decode cX1_init 203 = .ok (.iload_n 1, 1) := dk_27 (dk_at dksX1_init_8 14 rfl rfl)
theorem dX1_init_204 : decode cX1_init 204 = .ok (.bipush 19, 2) := dk_16 19 (dk_at dksX1_init_8 15 rfl rfl)
theorem dX1_init_206 : decode cX1_init 206 = .ok (.if_icmp .ge 8, 3) := dk_162 0 8 (dk_at dksX1_init_8 17 rfl rfl)
theorem dX1_init_209 : decode cX1_init 209 = .ok (.bipush 7, 2) := dk_16 7 (dk_at dksX1_init_8 20 rfl rfl)
theorem dX1_init_211 : decode cX1_init 211 = .ok (.goto 16, 3) := dk_167 0 16 (dk_at dksX1_init_9 0 rfl rfl)
theorem dX1_init_214 : decode cX1_init 214 = .ok (.iload_n 1, 1) := dk_27 (dk_at dksX1_init_9 3 rfl rfl)
theorem dX1_init_215 : decode cX1_init 215 = .ok (.bipush 22, 2) := dk_16 22 (dk_at dksX1_init_9 4 rfl rfl)
theorem dX1_init_217 : decode cX1_init 217 = .ok (.if_icmp .ge 8, 3) := dk_162 0 8 (dk_at dksX1_init_9 6 rfl rfl)
theorem dX1_init_220 : decode cX1_init 220 = .ok (.bipush 8, 2) := dk_16 8 (dk_at dksX1_init_9 9 rfl rfl)
theorem dX1_init_222 : decode cX1_init 222 = .ok (.goto 5, 3) := dk_167 0 5 (dk_at dksX1_init_9 11 rfl rfl)
theorem dX1_init_225 : decode cX1_init 225 = .ok (.bipush 9, 2) := dk_16 9 (dk_at dksX1_init_9 14 rfl rfl)
theorem dX1_init_227 : decode cX1_init 227 = .ok (.iastore, 1) := dk_79 (dk_at dksX1_init_9 16 rfl rfl)
theorem dX1_init_228 : decode cX1_init 228 = .ok (.iinc 1 1, 3) := dk_132 1 1 (dk_at dksX1_init_9 17 rfl rfl)
theorem dX1_init_231 : decode cX1_init 231 = .ok (.goto (-53), 3) := dk_167 255 203 (dk_at dksX1_init_9 20 rfl rfl)
theorem dX1_init_234 : decode cX1_init 234 = .ok (.return_, 1) := dk_177 (dk_at dksX1_init_9 23 rfl rfl)
abbrev cX1_letter : ByteArray := prog_7_method_4_code
def yX1_letter : MethodName := ⟨RX1, "letter", "(I)I"⟩
def dkwX1_letter_2 : List UInt8 := [180, 0, 77, 172]
abbrev dktX1_letter_2 : List UInt8 := dkwX1_letter_2 ++ []
def dkwX1_letter_1 : List UInt8 := [16, 152, 172, 42, 180, 0, 7, 42, 180, 0, 77, 27, 79, 42, 89, 180, 0, 77, 4, 96, 181, 0, 77, 42]
abbrev dktX1_letter_1 : List UInt8 := dkwX1_letter_1 ++ dktX1_letter_2
def dkwX1_letter_0 : List UInt8 := [27, 16, 32, 16, 126, 184, 0, 73, 154, 0, 6, 16, 154, 172, 42, 180, 0, 77, 16, 50, 160, 0, 6]
abbrev dktX1_letter_0 : List UInt8 := dkwX1_letter_0 ++ dktX1_letter_1
theorem dksX1_letter_0 : cX1_letter.data.toList.drop 0 = dktX1_letter_0 := by decide +kernel
theorem dksX1_letter_1 : cX1_letter.data.toList.drop 23 = dktX1_letter_1 := dk_seg dksX1_letter_0 23 rfl rfl
theorem dksX1_letter_2 : cX1_letter.data.toList.drop 47 = dktX1_letter_2 := dk_seg dksX1_letter_1 24 rfl rfl
theorem dX1_letter_0 : decode cX1_letter 0 = .ok (.iload_n 1, 1) := dk_27 (dk_at dksX1_letter_0 0 rfl rfl)
theorem dX1_letter_1 : decode cX1_letter 1 = .ok (.bipush 32, 2) := dk_16 32 (dk_at dksX1_letter_0 1 rfl rfl)
theorem dX1_letter_3 : decode cX1_letter 3 = .ok (.bipush 126, 2) := dk_16 126 (dk_at dksX1_letter_0 3 rfl rfl)
theorem dX1_letter_5 : decode cX1_letter 5 = .ok (.invokestatic 73, 3) := dk_184 0 73 (dk_at dksX1_letter_0 5 rfl rfl)
theorem dX1_letter_8 : decode cX1_letter 8 = .ok (.ifCond .ne 6, 3) := dk_154 0 6 (dk_at dksX1_letter_0 8 rfl rfl)
theorem dX1_letter_11 : decode cX1_letter 11 = .ok (.bipush (-102), 2) := dk_16 154 (dk_at dksX1_letter_0 11 rfl rfl)
theorem dX1_letter_13 : decode cX1_letter 13 = .ok (.ireturn, 1) := dk_172 (dk_at dksX1_letter_0 13 rfl rfl)
theorem dX1_letter_14 : decode cX1_letter 14 = .ok (.aload_n 0, 1) := dk_42 (dk_at dksX1_letter_0 14 rfl rfl)
theorem dX1_letter_15 : decode cX1_letter 15 = .ok (.getfield 77, 3) := dk_180 0 77 (dk_at dksX1_letter_0 15 rfl rfl)
theorem dX1_letter_18 : decode cX1_letter 18 = .ok (.bipush 50, 2) := dk_16 50 (dk_at dksX1_letter_0 18 rfl rfl)
theorem dX1_letter_20 : decode cX1_letter 20 = .ok (.if_icmp .ne 6, 3) := dk_160 0 6 (dk_at dksX1_letter_0 20 rfl rfl)
theorem dX1_letter_23 : decode cX1_letter 23 = .ok (.bipush (-104), 2) := dk_16 152 (dk_at dksX1_letter_1 0 rfl rfl)
theorem dX1_letter_25 : decode cX1_letter 25 = .ok (.ireturn, 1) := dk_172 (dk_at dksX1_letter_1 2 rfl rfl)
theorem dX1_letter_26 : decode cX1_letter 26 = .ok (.aload_n 0, 1) := dk_42 (dk_at dksX1_letter_1 3 rfl rfl)
theorem dX1_letter_27 : decode cX1_letter 27 = .ok (.getfield 7, 3) := dk_180 0 7 (dk_at dksX1_letter_1 4 rfl rfl)
theorem dX1_letter_30 : decode cX1_letter 30 = .ok (.aload_n 0, 1) := dk_42 (dk_at dksX1_letter_1 7 rfl rfl)
theorem dX1_letter_31 : decode cX1_letter 31 = .ok (.getfield 77, 3) := dk_180 0 77 (dk_at dksX1_letter_1 8 rfl rfl)
theorem dX1_letter_34 : decode cX1_letter 34 = .ok (.iload_n 1, 1) := dk_27 (dk_at dksX1_letter_1 11 rfl rfl)
theorem dX1_letter_35 : decode cX1_letter 35 = .ok (.iastore, 1) := dk_79 (dk_at dksX1_letter_1 12 rfl rfl)
theorem dX1_letter_36 : decode cX1_letter 36 = .ok (.aload_n 0, 1) := dk_42 (dk_at dksX1_letter_1 13 rfl rfl)
theorem dX1_letter_37 : decode cX1_letter 37 = .ok (.dup, 1) := dk_89 (dk_at dksX1_letter_1 14 rfl rfl)
theorem dX1_letter_38 : decode cX1_letter 38 = .ok (.getfield 77, 3) := dk_180 0 77 (dk_at dksX1_letter_1 15 rfl rfl)
theorem dX1_letter_41 : decode cX1_letter 41 = .ok (.iconst 1, 1) := dk_4 (dk_at dksX1_letter_1 18 rfl rfl)
theorem dX1_letter_42 : decode cX1_letter 42 = .ok (.iadd, 1) := dk_96 (dk_at dksX1_letter_1 19 rfl rfl)
theorem dX1_letter_43 : decode cX1_letter 43 = .ok (.putfield 77, 3) := dk_181 0 77 (dk_at dksX1_letter_1 20 rfl rfl)
theorem dX1_letter_46 : decode cX1_letter 46 = .ok (.aload_n 0, 1) := dk_42 (dk_at dksX1_letter_1 23 rfl rfl)
theorem dX1_letter_47 : decode cX1_letter 47 = .ok (.getfield 77, 3) := dk_180 0 77 (dk_at dksX1_letter_2 0 rfl rfl)
theorem dX1_letter_50 : decode cX1_letter 50 = .ok (.ireturn, 1) := dk_172 (dk_at dksX1_letter_2 3 rfl rfl)
abbrev cX1_within : ByteArray := prog_7_method_3_code
def yX1_within : MethodName := ⟨RX1, "within", "(III)Z"⟩
def dkwX1_within_0 : List UInt8 := [26, 27, 161, 0, 12, 26, 28, 163, 0, 7, 4, 167, 0, 4, 3, 172]
abbrev dktX1_within_0 : List UInt8 := dkwX1_within_0 ++ []
theorem dksX1_within_0 : cX1_within.data.toList.drop 0 = dktX1_within_0 := by decide +kernel
theorem dX1_within_0 : decode cX1_within 0 = .ok (.iload_n 0, 1) := dk_26 (dk_at dksX1_within_0 0 rfl rfl)
theorem dX1_within_1 : decode cX1_within 1 = .ok (.iload_n 1, 1) := dk_27 (dk_at dksX1_within_0 1 rfl rfl)
theorem dX1_within_2 : decode cX1_within 2 = .ok (.if_icmp .lt 12, 3) := dk_161 0 12 (dk_at dksX1_within_0 2 rfl rfl)
theorem dX1_within_5 : decode cX1_within 5 = .ok (.iload_n 0, 1) := dk_26 (dk_at dksX1_within_0 5 rfl rfl)
theorem dX1_within_6 : decode cX1_within 6 = .ok (.iload_n 2, 1) := dk_28 (dk_at dksX1_within_0 6 rfl rfl)
theorem dX1_within_7 : decode cX1_within 7 = .ok (.if_icmp .gt 7, 3) := dk_163 0 7 (dk_at dksX1_within_0 7 rfl rfl)
theorem dX1_within_10 : decode cX1_within 10 = .ok (.iconst 1, 1) := dk_4 (dk_at dksX1_within_0 10 rfl rfl)
theorem dX1_within_11 : decode cX1_within 11 = .ok (.goto 4, 3) := dk_167 0 4 (dk_at dksX1_within_0 11 rfl rfl)
theorem dX1_within_14 : decode cX1_within 14 = .ok (.iconst 0, 1) := dk_3 (dk_at dksX1_within_0 14 rfl rfl)
theorem dX1_within_15 : decode cX1_within 15 = .ok (.ireturn, 1) := dk_172 (dk_at dksX1_within_0 15 rfl rfl)
abbrev cX1_blank : ByteArray := prog_7_method_5_code
def yX1_blank : MethodName := ⟨RX1, "blank", "()I"⟩
def dkwX1_blank_0 : List UInt8 := [42, 180, 0, 77, 60, 42, 3, 181, 0, 77, 27, 172]
abbrev dktX1_blank_0 : List UInt8 := dkwX1_blank_0 ++ []
theorem dksX1_blank_0 : cX1_blank.data.toList.drop 0 = dktX1_blank_0 := by decide +kernel
theorem dX1_blank_0 : decode cX1_blank 0 = .ok (.aload_n 0, 1) := dk_42 (dk_at dksX1_blank_0 0 rfl rfl)
theorem dX1_blank_1 : decode cX1_blank 1 = .ok (.getfield 77, 3) := dk_180 0 77 (dk_at dksX1_blank_0 1 rfl rfl)
theorem dX1_blank_4 : decode cX1_blank 4 = .ok (.istore_n 1, 1) := dk_60 (dk_at dksX1_blank_0 4 rfl rfl)
theorem dX1_blank_5 : decode cX1_blank 5 = .ok (.aload_n 0, 1) := dk_42 (dk_at dksX1_blank_0 5 rfl rfl)
theorem dX1_blank_6 : decode cX1_blank 6 = .ok (.iconst 0, 1) := dk_3 (dk_at dksX1_blank_0 6 rfl rfl)
theorem dX1_blank_7 : decode cX1_blank 7 = .ok (.putfield 77, 3) := dk_181 0 77 (dk_at dksX1_blank_0 7 rfl rfl)
theorem dX1_blank_10 : decode cX1_blank 10 = .ok (.iload_n 1, 1) := dk_27 (dk_at dksX1_blank_0 10 rfl rfl)
theorem dX1_blank_11 : decode cX1_blank 11 = .ok (.ireturn, 1) := dk_172 (dk_at dksX1_blank_0 11 rfl rfl)
abbrev cX1_fault : ByteArray := prog_7_method_12_code
def yX1_fault : MethodName := ⟨RX1, "fault", "()I"⟩
theorem dX1_fault_0 : decode cX1_fault 0 = .ok (.aload_n 0, 1) := by decide +kernel
theorem dX1_fault_1 : decode cX1_fault 1 = .ok (.invokevirtual 105, 3) := by decide +kernel
theorem dX1_fault_4 : decode cX1_fault 4 = .ok (.ireturn, 1) := by decide +kernel
abbrev cX1_read : ByteArray := prog_7_method_11_code
def yX1_read : MethodName := ⟨RX1, "read", "()I"⟩
def dkwX1_read_1 : List UInt8 := [180, 0, 7, 27, 46, 182, 0, 102, 153, 0, 9, 132, 1, 1, 167, 255, 232, 27, 172]
abbrev dktX1_read_1 : List UInt8 := dkwX1_read_1 ++ []
def dkwX1_read_0 : List UInt8 := [42, 3, 181, 0, 81, 42, 3, 181, 0, 84, 3, 60, 27, 42, 180, 0, 77, 162, 0, 22, 42, 42]
abbrev dktX1_read_0 : List UInt8 := dkwX1_read_0 ++ dktX1_read_1
theorem dksX1_read_0 : cX1_read.data.toList.drop 0 = dktX1_read_0 := by decide +kernel
theorem dksX1_read_1 : cX1_read.data.toList.drop 22 = dktX1_read_1 := dk_seg dksX1_read_0 22 rfl rfl
theorem dX1_read_0 : decode cX1_read 0 = .ok (.aload_n 0, 1) := dk_42 (dk_at dksX1_read_0 0 rfl rfl)
theorem dX1_read_1 : decode cX1_read 1 = .ok (.iconst 0, 1) := dk_3 (dk_at dksX1_read_0 1 rfl rfl)
theorem dX1_read_2 : decode cX1_read 2 = .ok (.putfield 81, 3) := dk_181 0 81 (dk_at dksX1_read_0 2 rfl rfl)
theorem dX1_read_5 : decode cX1_read 5 = .ok (.aload_n 0, 1) := dk_42 (dk_at dksX1_read_0 5 rfl rfl)
theorem dX1_read_6 : decode cX1_read 6 = .ok (.iconst 0, 1) := dk_3 (dk_at dksX1_read_0 6 rfl rfl)
theorem dX1_read_7 : decode cX1_read 7 = .ok (.putfield 84, 3) := dk_181 0 84 (dk_at dksX1_read_0 7 rfl rfl)
theorem dX1_read_10 : decode cX1_read 10 = .ok (.iconst 0, 1) := dk_3 (dk_at dksX1_read_0 10 rfl rfl)
theorem dX1_read_11 : decode cX1_read 11 = .ok (.istore_n 1, 1) := dk_60 (dk_at dksX1_read_0 11 rfl rfl)
theorem dX1_read_12 : decode cX1_read 12 = .ok (.iload_n 1, 1) := dk_27 (dk_at dksX1_read_0 12 rfl rfl)
theorem dX1_read_13 : decode cX1_read 13 = .ok (.aload_n 0, 1) := dk_42 (dk_at dksX1_read_0 13 rfl rfl)
theorem dX1_read_14 : decode cX1_read 14 = .ok (.getfield 77, 3) := dk_180 0 77 (dk_at dksX1_read_0 14 rfl rfl)
theorem dX1_read_17 : decode cX1_read 17 = .ok (.if_icmp .ge 22, 3) := dk_162 0 22 (dk_at dksX1_read_0 17 rfl rfl)
theorem dX1_read_20 : decode cX1_read 20 = .ok (.aload_n 0, 1) := dk_42 (dk_at dksX1_read_0 20 rfl rfl)
theorem dX1_read_21 : decode cX1_read 21 = .ok (.aload_n 0, 1) := dk_42 (dk_at dksX1_read_0 21 rfl rfl)
theorem dX1_read_22 : decode cX1_read 22 = .ok (.getfield 7, 3) := dk_180 0 7 (dk_at dksX1_read_1 0 rfl rfl)
theorem dX1_read_25 : decode cX1_read 25 = .ok (.iload_n 1, 1) := dk_27 (dk_at dksX1_read_1 3 rfl rfl)
theorem dX1_read_26 : decode cX1_read 26 = .ok (.iaload, 1) := dk_46 (dk_at dksX1_read_1 4 rfl rfl)
theorem dX1_read_27 : decode cX1_read 27 = .ok (.invokevirtual 102, 3) := dk_182 0 102 (dk_at dksX1_read_1 5 rfl rfl)
theorem dX1_read_30 : decode cX1_read 30 = .ok (.ifCond .eq 9, 3) := dk_153 0 9 (dk_at dksX1_read_1 8 rfl rfl)
theorem dX1_read_33 : decode cX1_read 33 = .ok (.iinc 1 1, 3) := dk_132 1 1 (dk_at dksX1_read_1 11 rfl rfl)
theorem dX1_read_36 : decode cX1_read 36 = .ok (.goto (-24), 3) := dk_167 255 232 (dk_at dksX1_read_1 14 rfl rfl)
theorem dX1_read_39 : decode cX1_read 39 = .ok (.iload_n 1, 1) := dk_27 (dk_at dksX1_read_1 17 rfl rfl)
theorem dX1_read_40 : decode cX1_read 40 = .ok (.ireturn, 1) := dk_172 (dk_at dksX1_read_1 18 rfl rfl)
abbrev cX1_takes : ByteArray := prog_7_method_10_code
def yX1_takes : MethodName := ⟨RX1, "takes", "(I)Z"⟩
def dkwX1_takes_0 : List UInt8 := [42, 180, 0, 81, 5, 162, 0, 11, 42, 27, 182, 0, 95, 167, 0, 8, 42, 27, 182, 0, 99, 172]
abbrev dktX1_takes_0 : List UInt8 := dkwX1_takes_0 ++ []
theorem dksX1_takes_0 : cX1_takes.data.toList.drop 0 = dktX1_takes_0 := by decide +kernel
theorem dX1_takes_0 : decode cX1_takes 0 = .ok (.aload_n 0, 1) := dk_42 (dk_at dksX1_takes_0 0 rfl rfl)
theorem dX1_takes_1 : decode cX1_takes 1 = .ok (.getfield 81, 3) := dk_180 0 81 (dk_at dksX1_takes_0 1 rfl rfl)
theorem dX1_takes_4 : decode cX1_takes 4 = .ok (.iconst 2, 1) := dk_5 (dk_at dksX1_takes_0 4 rfl rfl)
theorem dX1_takes_5 : decode cX1_takes 5 = .ok (.if_icmp .ge 11, 3) := dk_162 0 11 (dk_at dksX1_takes_0 5 rfl rfl)
theorem dX1_takes_8 : decode cX1_takes 8 = .ok (.aload_n 0, 1) := dk_42 (dk_at dksX1_takes_0 8 rfl rfl)
theorem dX1_takes_9 : decode cX1_takes 9 = .ok (.iload_n 1, 1) := dk_27 (dk_at dksX1_takes_0 9 rfl rfl)
theorem dX1_takes_10 : decode cX1_takes 10 = .ok (.invokevirtual 95, 3) := dk_182 0 95 (dk_at dksX1_takes_0 10 rfl rfl)
theorem dX1_takes_13 : decode cX1_takes 13 = .ok (.goto 8, 3) := dk_167 0 8 (dk_at dksX1_takes_0 13 rfl rfl)
theorem dX1_takes_16 : decode cX1_takes 16 = .ok (.aload_n 0, 1) := dk_42 (dk_at dksX1_takes_0 16 rfl rfl)
theorem dX1_takes_17 : decode cX1_takes 17 = .ok (.iload_n 1, 1) := dk_27 (dk_at dksX1_takes_0 17 rfl rfl)
theorem dX1_takes_18 : decode cX1_takes 18 = .ok (.invokevirtual 99, 3) := dk_182 0 99 (dk_at dksX1_takes_0 18 rfl rfl)
theorem dX1_takes_21 : decode cX1_takes 21 = .ok (.ireturn, 1) := dk_172 (dk_at dksX1_takes_0 21 rfl rfl)
abbrev cX1_takesName : ByteArray := prog_7_method_8_code
def yX1_takesName : MethodName := ⟨RX1, "takesName", "(I)Z"⟩
def dkwX1_takesName_5 : List UInt8 := [79, 42, 28, 4, 182, 0, 91, 172]
abbrev dktX1_takesName_5 : List UInt8 := dkwX1_takesName_5 ++ []
def dkwX1_takesName_4 : List UInt8 := [42, 180, 0, 34, 42, 180, 0, 84, 46, 96, 27, 79, 42, 180, 0, 34, 42, 180, 0, 84, 92, 46, 4, 96]
abbrev dktX1_takesName_4 : List UInt8 := dkwX1_takesName_4 ++ dktX1_takesName_5
def dkwX1_takesName_3 : List UInt8 := [162, 0, 7, 4, 167, 0, 4, 3, 61, 28, 153, 0, 39, 42, 180, 0, 37, 16, 8, 42, 180, 0, 84, 104]
abbrev dktX1_takesName_3 : List UInt8 := dkwX1_takesName_3 ++ dktX1_takesName_4
def dkwX1_takesName_2 : List UInt8 := [172, 27, 16, 97, 16, 122, 184, 0, 73, 153, 0, 21, 42, 180, 0, 34, 42, 180, 0, 84, 46, 16, 8]
abbrev dktX1_takesName_2 : List UInt8 := dkwX1_takesName_2 ++ dktX1_takesName_3
def dkwX1_takesName_1 : List UInt8 := [180, 0, 81, 4, 160, 0, 21, 42, 42, 182, 0, 87, 154, 0, 7, 4, 167, 0, 4, 3, 5, 182, 0, 91]
abbrev dktX1_takesName_1 : List UInt8 := dkwX1_takesName_1 ++ dktX1_takesName_2
def dkwX1_takesName_0 : List UInt8 := [42, 180, 0, 81, 154, 0, 13, 42, 180, 0, 34, 42, 180, 0, 84, 3, 79, 27, 16, 58, 160, 0, 29, 42]
abbrev dktX1_takesName_0 : List UInt8 := dkwX1_takesName_0 ++ dktX1_takesName_1
theorem dksX1_takesName_0 : cX1_takesName.data.toList.drop 0 = dktX1_takesName_0 := by decide +kernel
theorem dksX1_takesName_1 : cX1_takesName.data.toList.drop 24 = dktX1_takesName_1 := dk_seg dksX1_takesName_0 24 rfl rfl
theorem dksX1_takesName_2 : cX1_takesName.data.toList.drop 48 = dktX1_takesName_2 := dk_seg dksX1_takesName_1 24 rfl rfl
theorem dksX1_takesName_3 : cX1_takesName.data.toList.drop 71 = dktX1_takesName_3 := dk_seg dksX1_takesName_2 23 rfl rfl
theorem dksX1_takesName_4 : cX1_takesName.data.toList.drop 95 = dktX1_takesName_4 := dk_seg dksX1_takesName_3 24 rfl rfl
theorem dksX1_takesName_5 : cX1_takesName.data.toList.drop 119 = dktX1_takesName_5 := dk_seg dksX1_takesName_4 24 rfl rfl
theorem dX1_takesName_0 : decode cX1_takesName 0 = .ok (.aload_n 0, 1) := dk_42 (dk_at dksX1_takesName_0 0 rfl rfl)
theorem dX1_takesName_1 : decode cX1_takesName 1 = .ok (.getfield 81, 3) := dk_180 0 81 (dk_at dksX1_takesName_0 1 rfl rfl)
theorem dX1_takesName_4 : decode cX1_takesName 4 = .ok (.ifCond .ne 13, 3) := dk_154 0 13 (dk_at dksX1_takesName_0 4 rfl rfl)
theorem dX1_takesName_7 : decode cX1_takesName 7 = .ok (.aload_n 0, 1) := dk_42 (dk_at dksX1_takesName_0 7 rfl rfl)
theorem dX1_takesName_8 : decode cX1_takesName 8 = .ok (.getfield 34, 3) := dk_180 0 34 (dk_at dksX1_takesName_0 8 rfl rfl)
theorem dX1_takesName_11 : decode cX1_takesName 11 = .ok (.aload_n 0, 1) := dk_42 (dk_at dksX1_takesName_0 11 rfl rfl)
theorem dX1_takesName_12 : decode cX1_takesName 12 = .ok (.getfield 84, 3) := dk_180 0 84 (dk_at dksX1_takesName_0 12 rfl rfl)
theorem dX1_takesName_15 : decode cX1_takesName 15 = .ok (.iconst 0, 1) := dk_3 (dk_at dksX1_takesName_0 15 rfl rfl)
theorem dX1_takesName_16 : decode cX1_takesName 16 = .ok (.iastore, 1) := dk_79 (dk_at dksX1_takesName_0 16 rfl rfl)
theorem dX1_takesName_17 : decode cX1_takesName 17 = .ok (.iload_n 1, 1) := dk_27 (dk_at dksX1_takesName_0 17 rfl rfl)
theorem dX1_takesName_18 : decode cX1_takesName 18 = .ok (.bipush 58, 2) := dk_16 58 (dk_at dksX1_takesName_0 18 rfl rfl)
theorem dX1_takesName_20 : decode cX1_takesName 20 = .ok (.if_icmp .ne 29, 3) := dk_160 0 29 (dk_at dksX1_takesName_0 20 rfl rfl)
theorem dX1_takesName_23 : decode cX1_takesName 23 = .ok (.aload_n 0, 1) := dk_42 (dk_at dksX1_takesName_0 23 rfl rfl)
theorem dX1_takesName_24 : decode cX1_takesName 24 = .ok (.getfield 81, 3) := dk_180 0 81 (dk_at dksX1_takesName_1 0 rfl rfl)
theorem dX1_takesName_27 : decode cX1_takesName 27 = .ok (.iconst 1, 1) := dk_4 (dk_at dksX1_takesName_1 3 rfl rfl)
theorem dX1_takesName_28 : decode cX1_takesName 28 = .ok (.if_icmp .ne 21, 3) := dk_160 0 21 (dk_at dksX1_takesName_1 4 rfl rfl)
theorem dX1_takesName_31 : decode cX1_takesName 31 = .ok (.aload_n 0, 1) := dk_42 (dk_at dksX1_takesName_1 7 rfl rfl)
theorem dX1_takesName_32 : decode cX1_takesName 32 = .ok (.aload_n 0, 1) := dk_42 (dk_at dksX1_takesName_1 8 rfl rfl)
theorem dX1_takesName_33 : decode cX1_takesName 33 = .ok (.invokevirtual 87, 3) := dk_182 0 87 (dk_at dksX1_takesName_1 9 rfl rfl)
theorem dX1_takesName_36 : decode cX1_takesName 36 = .ok (.ifCond .ne 7, 3) := dk_154 0 7 (dk_at dksX1_takesName_1 12 rfl rfl)
theorem dX1_takesName_39 : decode cX1_takesName 39 = .ok (.iconst 1, 1) := dk_4 (dk_at dksX1_takesName_1 15 rfl rfl)
theorem dX1_takesName_40 : decode cX1_takesName 40 = .ok (.goto 4, 3) := dk_167 0 4 (dk_at dksX1_takesName_1 16 rfl rfl)
theorem dX1_takesName_43 : decode cX1_takesName 43 = .ok (.iconst 0, 1) := dk_3 (dk_at dksX1_takesName_1 19 rfl rfl)
theorem dX1_takesName_44 : decode cX1_takesName 44 = .ok (.iconst 2, 1) := dk_5 (dk_at dksX1_takesName_1 20 rfl rfl)
theorem dX1_takesName_45 : decode cX1_takesName 45 = .ok (.invokevirtual 91, 3) := dk_182 0 91 (dk_at dksX1_takesName_1 21 rfl rfl)
theorem dX1_takesName_48 : decode cX1_takesName 48 = .ok (.ireturn, 1) := dk_172 (dk_at dksX1_takesName_2 0 rfl rfl)
theorem dX1_takesName_49 : decode cX1_takesName 49 = .ok (.iload_n 1, 1) := dk_27 (dk_at dksX1_takesName_2 1 rfl rfl)
theorem dX1_takesName_50 : decode cX1_takesName 50 = .ok (.bipush 97, 2) := dk_16 97 (dk_at dksX1_takesName_2 2 rfl rfl)
theorem dX1_takesName_52 : decode cX1_takesName 52 = .ok (.bipush 122, 2) := dk_16 122 (dk_at dksX1_takesName_2 4 rfl rfl)
theorem dX1_takesName_54 : decode cX1_takesName 54 = .ok (.invokestatic 73, 3) := dk_184 0 73 (dk_at dksX1_takesName_2 6 rfl rfl)
theorem dX1_takesName_57 : decode cX1_takesName 57 = .ok (.ifCond .eq 21, 3) := dk_153 0 21 (dk_at dksX1_takesName_2 9 rfl rfl)
theorem dX1_takesName_60 : decode cX1_takesName 60 = .ok (.aload_n 0, 1) := dk_42 (dk_at dksX1_takesName_2 12 rfl rfl)
theorem dX1_takesName_61 : decode cX1_takesName 61 = .ok (.getfield 34, 3) := dk_180 0 34 (dk_at dksX1_takesName_2 13 rfl rfl)
theorem dX1_takesName_64 : decode cX1_takesName 64 = .ok (.aload_n 0, 1) := dk_42 (dk_at dksX1_takesName_2 16 rfl rfl)
theorem dX1_takesName_65 : decode cX1_takesName 65 = .ok (.getfield 84, 3) := dk_180 0 84 (dk_at dksX1_takesName_2 17 rfl rfl)
theorem dX1_takesName_68 : decode cX1_takesName 68 = .ok (.iaload, 1) := dk_46 (dk_at dksX1_takesName_2 20 rfl rfl)
theorem dX1_takesName_69 : decode cX1_takesName 69 = .ok (.bipush 8, 2) := dk_16 8 (dk_at dksX1_takesName_2 21 rfl rfl)
theorem dX1_takesName_71 : decode cX1_takesName 71 = .ok (.if_icmp .ge 7, 3) := dk_162 0 7 (dk_at dksX1_takesName_3 0 rfl rfl)
theorem dX1_takesName_74 : decode cX1_takesName 74 = .ok (.iconst 1, 1) := dk_4 (dk_at dksX1_takesName_3 3 rfl rfl)
theorem dX1_takesName_75 : decode cX1_takesName 75 = .ok (.goto 4, 3) := dk_167 0 4 (dk_at dksX1_takesName_3 4 rfl rfl)
theorem dX1_takesName_78 : decode cX1_takesName 78 = .ok (.iconst 0, 1) := dk_3 (dk_at dksX1_takesName_3 7 rfl rfl)
theorem dX1_takesName_79 : decode cX1_takesName 79 = .ok (.istore_n 2, 1) := dk_61 (dk_at dksX1_takesName_3 8 rfl rfl)
theorem dX1_takesName_80 : decode cX1_takesName 80 = .ok (.iload_n 2, 1) := dk_28 (dk_at dksX1_takesName_3 9 rfl rfl)
theorem dX1_takesName_81 : decode cX1_takesName 81 = .ok (.ifCond .eq 39, 3) := dk_153 0 39 (dk_at dksX1_takesName_3 10 rfl rfl)
theorem dX1_takesName_84 : decode cX1_takesName 84 = .ok (.aload_n 0, 1) := dk_42 (dk_at dksX1_takesName_3 13 rfl rfl)
theorem dX1_takesName_85 : decode cX1_takesName 85 = .ok (.getfield 37, 3) := dk_180 0 37 (dk_at dksX1_takesName_3 14 rfl rfl)
theorem dX1_takesName_88 : decode cX1_takesName 88 = .ok (.bipush 8, 2) := dk_16 8 (dk_at dksX1_takesName_3 17 rfl rfl)
theorem dX1_takesName_90 : decode cX1_takesName 90 = .ok (.aload_n 0, 1) := dk_42 (dk_at dksX1_takesName_3 19 rfl rfl)
theorem dX1_takesName_91 : decode cX1_takesName 91 = .ok (.getfield 84, 3) := dk_180 0 84 (dk_at dksX1_takesName_3 20 rfl rfl)
theorem dX1_takesName_94 : decode cX1_takesName 94 = .ok (.imul, 1) := dk_104 (dk_at dksX1_takesName_3 23 rfl rfl)
theorem dX1_takesName_95 : decode cX1_takesName 95 = .ok (.aload_n 0, 1) := dk_42 (dk_at dksX1_takesName_4 0 rfl rfl)
theorem dX1_takesName_96 : decode cX1_takesName 96 = .ok (.getfield 34, 3) := dk_180 0 34 (dk_at dksX1_takesName_4 1 rfl rfl)
theorem dX1_takesName_99 : decode cX1_takesName 99 = .ok (.aload_n 0, 1) := dk_42 (dk_at dksX1_takesName_4 4 rfl rfl)
theorem dX1_takesName_100 : decode cX1_takesName 100 = .ok (.getfield 84, 3) := dk_180 0 84 (dk_at dksX1_takesName_4 5 rfl rfl)
theorem dX1_takesName_103 : decode cX1_takesName 103 = .ok (.iaload, 1) := dk_46 (dk_at dksX1_takesName_4 8 rfl rfl)
theorem dX1_takesName_104 : decode cX1_takesName 104 = .ok (.iadd, 1) := dk_96 (dk_at dksX1_takesName_4 9 rfl rfl)
theorem dX1_takesName_105 : decode cX1_takesName 105 = .ok (.iload_n 1, 1) := dk_27 (dk_at dksX1_takesName_4 10 rfl rfl)
theorem dX1_takesName_106 : decode cX1_takesName 106 = .ok (.iastore, 1) := dk_79 (dk_at dksX1_takesName_4 11 rfl rfl)
theorem dX1_takesName_107 : decode cX1_takesName 107 = .ok (.aload_n 0, 1) := dk_42 (dk_at dksX1_takesName_4 12 rfl rfl)
theorem dX1_takesName_108 : decode cX1_takesName 108 = .ok (.getfield 34, 3) := dk_180 0 34 (dk_at dksX1_takesName_4 13 rfl rfl)
theorem dX1_takesName_111 : decode cX1_takesName 111 = .ok (.aload_n 0, 1) := dk_42 (dk_at dksX1_takesName_4 16 rfl rfl)
theorem dX1_takesName_112 : decode cX1_takesName 112 = .ok (.getfield 84, 3) := dk_180 0 84 (dk_at dksX1_takesName_4 17 rfl rfl)
theorem dX1_takesName_115 : decode cX1_takesName 115 = .ok (.dup2, 1) := dk_92 (dk_at dksX1_takesName_4 20 rfl rfl)
theorem dX1_takesName_116 : decode cX1_takesName 116 = .ok (.iaload, 1) := dk_46 (dk_at dksX1_takesName_4 21 rfl rfl)
theorem dX1_takesName_117 : decode cX1_takesName 117 = .ok (.iconst 1, 1) := dk_4 (dk_at dksX1_takesName_4 22 rfl rfl)
theorem dX1_takesName_118 : decode cX1_takesName 118 = .ok (.iadd, 1) := dk_96 (dk_at dksX1_takesName_4 23 rfl rfl)
theorem dX1_takesName_119 : decode cX1_takesName 119 = .ok (.iastore, 1) := dk_79 (dk_at dksX1_takesName_5 0 rfl rfl)
theorem dX1_takesName_120 : decode cX1_takesName 120 = .ok (.aload_n 0, 1) := dk_42 (dk_at dksX1_takesName_5 1 rfl rfl)
theorem dX1_takesName_121 : decode cX1_takesName 121 = .ok (.iload_n 2, 1) := dk_28 (dk_at dksX1_takesName_5 2 rfl rfl)
theorem dX1_takesName_122 : decode cX1_takesName 122 = .ok (.iconst 1, 1) := dk_4 (dk_at dksX1_takesName_5 3 rfl rfl)
theorem dX1_takesName_123 : decode cX1_takesName 123 = .ok (.invokevirtual 91, 3) := dk_182 0 91 (dk_at dksX1_takesName_5 4 rfl rfl)
theorem dX1_takesName_126 : decode cX1_takesName 126 = .ok (.ireturn, 1) := dk_172 (dk_at dksX1_takesName_5 7 rfl rfl)
abbrev cX1_isNewTwice : ByteArray := prog_7_method_7_code
def yX1_isNewTwice : MethodName := ⟨RX1, "isNewTwice", "()Z"⟩
def dkwX1_isNewTwice_5 : List UInt8 := [167, 255, 144, 27, 172]
abbrev dktX1_isNewTwice_5 : List UInt8 := dkwX1_isNewTwice_5 ++ []
def dkwX1_isNewTwice_4 : List UInt8 := [132, 4, 1, 167, 255, 199, 27, 154, 0, 7, 29, 153, 0, 7, 4, 167, 0, 4, 3, 60, 132, 2, 1]
abbrev dktX1_isNewTwice_4 : List UInt8 := dkwX1_isNewTwice_4 ++ dktX1_isNewTwice_5
def dkwX1_isNewTwice_3 : List UInt8 := [180, 0, 37, 16, 8, 42, 180, 0, 84, 104, 21, 4, 96, 46, 160, 0, 7, 4, 167, 0, 4, 3, 62]
abbrev dktX1_isNewTwice_3 : List UInt8 := dkwX1_isNewTwice_3 ++ dktX1_isNewTwice_4
def dkwX1_isNewTwice_2 : List UInt8 := [180, 0, 84, 46, 162, 0, 49, 29, 153, 0, 37, 42, 180, 0, 37, 16, 8, 28, 104, 21, 4, 96, 46, 42]
abbrev dktX1_isNewTwice_2 : List UInt8 := dkwX1_isNewTwice_2 ++ dktX1_isNewTwice_3
def dkwX1_isNewTwice_1 : List UInt8 := [180, 0, 84, 46, 160, 0, 7, 4, 167, 0, 4, 3, 62, 3, 54, 4, 21, 4, 42, 180, 0, 34, 42]
abbrev dktX1_isNewTwice_1 : List UInt8 := dkwX1_isNewTwice_1 ++ dktX1_isNewTwice_2
def dkwX1_isNewTwice_0 : List UInt8 := [3, 60, 3, 61, 28, 42, 180, 0, 84, 162, 0, 110, 42, 180, 0, 34, 28, 46, 42, 180, 0, 34, 42]
abbrev dktX1_isNewTwice_0 : List UInt8 := dkwX1_isNewTwice_0 ++ dktX1_isNewTwice_1
theorem dksX1_isNewTwice_0 : cX1_isNewTwice.data.toList.drop 0 = dktX1_isNewTwice_0 := by decide +kernel
theorem dksX1_isNewTwice_1 : cX1_isNewTwice.data.toList.drop 23 = dktX1_isNewTwice_1 := dk_seg dksX1_isNewTwice_0 23 rfl rfl
theorem dksX1_isNewTwice_2 : cX1_isNewTwice.data.toList.drop 46 = dktX1_isNewTwice_2 := dk_seg dksX1_isNewTwice_1 23 rfl rfl
theorem dksX1_isNewTwice_3 : cX1_isNewTwice.data.toList.drop 70 = dktX1_isNewTwice_3 := dk_seg dksX1_isNewTwice_2 24 rfl rfl
theorem dksX1_isNewTwice_4 : cX1_isNewTwice.data.toList.drop 93 = dktX1_isNewTwice_4 := dk_seg dksX1_isNewTwice_3 23 rfl rfl
theorem dksX1_isNewTwice_5 : cX1_isNewTwice.data.toList.drop 116 = dktX1_isNewTwice_5 := dk_seg dksX1_isNewTwice_4 23 rfl rfl
theorem dX1_isNewTwice_0 : decode cX1_isNewTwice 0 = .ok (.iconst 0, 1) := dk_3 (dk_at dksX1_isNewTwice_0 0 rfl rfl)
theorem dX1_isNewTwice_1 : decode cX1_isNewTwice 1 = .ok (.istore_n 1, 1) := dk_60 (dk_at dksX1_isNewTwice_0 1 rfl rfl)
theorem dX1_isNewTwice_2 : decode cX1_isNewTwice 2 = .ok (.iconst 0, 1) := dk_3 (dk_at dksX1_isNewTwice_0 2 rfl rfl)
theorem dX1_isNewTwice_3 : decode cX1_isNewTwice 3 = .ok (.istore_n 2, 1) := dk_61 (dk_at dksX1_isNewTwice_0 3 rfl rfl)
theorem dX1_isNewTwice_4 : decode cX1_isNewTwice 4 = .ok (.iload_n 2, 1) := dk_28 (dk_at dksX1_isNewTwice_0 4 rfl rfl)
theorem dX1_isNewTwice_5 : decode cX1_isNewTwice 5 = .ok (.aload_n 0, 1) := dk_42 (dk_at dksX1_isNewTwice_0 5 rfl rfl)
theorem dX1_isNewTwice_6 : decode cX1_isNewTwice 6 = .ok (.getfield 84, 3) := dk_180 0 84 (dk_at dksX1_isNewTwice_0 6 rfl rfl)
theorem dX1_isNewTwice_9 : decode cX1_isNewTwice 9 = .ok (.if_icmp .ge 110, 3) := dk_162 0 110 (dk_at dksX1_isNewTwice_0 9 rfl rfl)
theorem dX1_isNewTwice_12 : decode cX1_isNewTwice 12 = .ok (.aload_n 0, 1) := dk_42 (dk_at dksX1_isNewTwice_0 12 rfl rfl)
theorem dX1_isNewTwice_13 : decode cX1_isNewTwice 13 = .ok (.getfield 34, 3) := dk_180 0 34 (dk_at dksX1_isNewTwice_0 13 rfl rfl)
theorem dX1_isNewTwice_16 : decode cX1_isNewTwice 16 = .ok (.iload_n 2, 1) := dk_28 (dk_at dksX1_isNewTwice_0 16 rfl rfl)
theorem dX1_isNewTwice_17 : decode cX1_isNewTwice 17 = .ok (.iaload, 1) := dk_46 (dk_at dksX1_isNewTwice_0 17 rfl rfl)
theorem dX1_isNewTwice_18 : decode cX1_isNewTwice 18 = .ok (.aload_n 0, 1) := dk_42 (dk_at dksX1_isNewTwice_0 18 rfl rfl)
theorem dX1_isNewTwice_19 : decode cX1_isNewTwice 19 = .ok (.getfield 34, 3) := dk_180 0 34 (dk_at dksX1_isNewTwice_0 19 rfl rfl)
theorem dX1_isNewTwice_22 : decode cX1_isNewTwice 22 = .ok (.aload_n 0, 1) := dk_42 (dk_at dksX1_isNewTwice_0 22 rfl rfl)
theorem dX1_isNewTwice_23 : decode cX1_isNewTwice 23 = .ok (.getfield 84, 3) := dk_180 0 84 (dk_at dksX1_isNewTwice_1 0 rfl rfl)
theorem dX1_isNewTwice_26 : decode cX1_isNewTwice 26 = .ok (.iaload, 1) := dk_46 (dk_at dksX1_isNewTwice_1 3 rfl rfl)
theorem dX1_isNewTwice_27 : decode cX1_isNewTwice 27 = .ok (.if_icmp .ne 7, 3) := dk_160 0 7 (dk_at dksX1_isNewTwice_1 4 rfl rfl)
theorem dX1_isNewTwice_30 : decode cX1_isNewTwice 30 = .ok (.iconst 1, 1) := dk_4 (dk_at dksX1_isNewTwice_1 7 rfl rfl)
theorem dX1_isNewTwice_31 : decode cX1_isNewTwice 31 = .ok (.goto 4, 3) := dk_167 0 4 (dk_at dksX1_isNewTwice_1 8 rfl rfl)
theorem dX1_isNewTwice_34 : decode cX1_isNewTwice 34 = .ok (.iconst 0, 1) := dk_3 (dk_at dksX1_isNewTwice_1 11 rfl rfl)
theorem dX1_isNewTwice_35 : decode cX1_isNewTwice 35 = .ok (.istore_n 3, 1) := dk_62 (dk_at dksX1_isNewTwice_1 12 rfl rfl)
theorem dX1_isNewTwice_36 : decode cX1_isNewTwice 36 = .ok (.iconst 0, 1) := dk_3 (dk_at dksX1_isNewTwice_1 13 rfl rfl)
theorem dX1_isNewTwice_37 : decode cX1_isNewTwice 37 = .ok (.istore 4, 2) := dk_54 4 (dk_at dksX1_isNewTwice_1 14 rfl rfl)
theorem dX1_isNewTwice_39 : decode cX1_isNewTwice 39 = .ok (.iload 4, 2) := dk_21 4 (dk_at dksX1_isNewTwice_1 16 rfl rfl)
theorem dX1_isNewTwice_41 : decode cX1_isNewTwice 41 = .ok (.aload_n 0, 1) := dk_42 (dk_at dksX1_isNewTwice_1 18 rfl rfl)
theorem dX1_isNewTwice_42 : decode cX1_isNewTwice 42 = .ok (.getfield 34, 3) := dk_180 0 34 (dk_at dksX1_isNewTwice_1 19 rfl rfl)
theorem dX1_isNewTwice_45 : decode cX1_isNewTwice 45 = .ok (.aload_n 0, 1) := dk_42 (dk_at dksX1_isNewTwice_1 22 rfl rfl)
theorem dX1_isNewTwice_46 : decode cX1_isNewTwice 46 = .ok (.getfield 84, 3) := dk_180 0 84 (dk_at dksX1_isNewTwice_2 0 rfl rfl)
theorem dX1_isNewTwice_49 : decode cX1_isNewTwice 49 = .ok (.iaload, 1) := dk_46 (dk_at dksX1_isNewTwice_2 3 rfl rfl)
theorem dX1_isNewTwice_50 : decode cX1_isNewTwice 50 = .ok (.if_icmp .ge 49, 3) := dk_162 0 49 (dk_at dksX1_isNewTwice_2 4 rfl rfl)
theorem dX1_isNewTwice_53 : decode cX1_isNewTwice 53 = .ok (.iload_n 3, 1) := dk_29 (dk_at dksX1_isNewTwice_2 7 rfl rfl)
theorem dX1_isNewTwice_54 : decode cX1_isNewTwice 54 = .ok (.ifCond .eq 37, 3) := dk_153 0 37 (dk_at dksX1_isNewTwice_2 8 rfl rfl)
theorem dX1_isNewTwice_57 : decode cX1_isNewTwice 57 = .ok (.aload_n 0, 1) := dk_42 (dk_at dksX1_isNewTwice_2 11 rfl rfl)
theorem dX1_isNewTwice_58 : decode cX1_isNewTwice 58 = .ok (.getfield 37, 3) := dk_180 0 37 (dk_at dksX1_isNewTwice_2 12 rfl rfl)
theorem dX1_isNewTwice_61 : decode cX1_isNewTwice 61 = .ok (.bipush 8, 2) := dk_16 8 (dk_at dksX1_isNewTwice_2 15 rfl rfl)
theorem dX1_isNewTwice_63 : decode cX1_isNewTwice 63 = .ok (.iload_n 2, 1) := dk_28 (dk_at dksX1_isNewTwice_2 17 rfl rfl)
theorem dX1_isNewTwice_64 : decode cX1_isNewTwice 64 = .ok (.imul, 1) := dk_104 (dk_at dksX1_isNewTwice_2 18 rfl rfl)
theorem dX1_isNewTwice_65 : decode cX1_isNewTwice 65 = .ok (.iload 4, 2) := dk_21 4 (dk_at dksX1_isNewTwice_2 19 rfl rfl)
theorem dX1_isNewTwice_67 : decode cX1_isNewTwice 67 = .ok (.iadd, 1) := dk_96 (dk_at dksX1_isNewTwice_2 21 rfl rfl)
theorem dX1_isNewTwice_68 : decode cX1_isNewTwice 68 = .ok (.iaload, 1) := dk_46 (dk_at dksX1_isNewTwice_2 22 rfl rfl)
theorem dX1_isNewTwice_69 : decode cX1_isNewTwice 69 = .ok (.aload_n 0, 1) := dk_42 (dk_at dksX1_isNewTwice_2 23 rfl rfl)
theorem dX1_isNewTwice_70 : decode cX1_isNewTwice 70 = .ok (.getfield 37, 3) := dk_180 0 37 (dk_at dksX1_isNewTwice_3 0 rfl rfl)
theorem dX1_isNewTwice_73 : decode cX1_isNewTwice 73 = .ok (.bipush 8, 2) := dk_16 8 (dk_at dksX1_isNewTwice_3 3 rfl rfl)
theorem dX1_isNewTwice_75 : decode cX1_isNewTwice 75 = .ok (.aload_n 0, 1) := dk_42 (dk_at dksX1_isNewTwice_3 5 rfl rfl)
theorem dX1_isNewTwice_76 : decode cX1_isNewTwice 76 = .ok (.getfield 84, 3) := dk_180 0 84 (dk_at dksX1_isNewTwice_3 6 rfl rfl)
theorem dX1_isNewTwice_79 : decode cX1_isNewTwice 79 = .ok (.imul, 1) := dk_104 (dk_at dksX1_isNewTwice_3 9 rfl rfl)
theorem dX1_isNewTwice_80 : decode cX1_isNewTwice 80 = .ok (.iload 4, 2) := dk_21 4 (dk_at dksX1_isNewTwice_3 10 rfl rfl)
theorem dX1_isNewTwice_82 : decode cX1_isNewTwice 82 = .ok (.iadd, 1) := dk_96 (dk_at dksX1_isNewTwice_3 12 rfl rfl)
theorem dX1_isNewTwice_83 : decode cX1_isNewTwice 83 = .ok (.iaload, 1) := dk_46 (dk_at dksX1_isNewTwice_3 13 rfl rfl)
theorem dX1_isNewTwice_84 : decode cX1_isNewTwice 84 = .ok (.if_icmp .ne 7, 3) := dk_160 0 7 (dk_at dksX1_isNewTwice_3 14 rfl rfl)
theorem dX1_isNewTwice_87 : decode cX1_isNewTwice 87 = .ok (.iconst 1, 1) := dk_4 (dk_at dksX1_isNewTwice_3 17 rfl rfl)
theorem dX1_isNewTwice_88 : decode cX1_isNewTwice 88 = .ok (.goto 4, 3) := dk_167 0 4 (dk_at dksX1_isNewTwice_3 18 rfl rfl)
theorem dX1_isNewTwice_91 : decode cX1_isNewTwice 91 = .ok (.iconst 0, 1) := dk_3 (dk_at dksX1_isNewTwice_3 21 rfl rfl)
theorem dX1_isNewTwice_92 : decode cX1_isNewTwice 92 = .ok (.istore_n 3, 1) := dk_62 (dk_at dksX1_isNewTwice_3 22 rfl rfl)
theorem dX1_isNewTwice_93 : decode cX1_isNewTwice 93 = .ok (.iinc 4 1, 3) := dk_132 4 1 (dk_at dksX1_isNewTwice_4 0 rfl rfl)
theorem dX1_isNewTwice_96 : decode cX1_isNewTwice 96 = .ok (.goto (-57), 3) := dk_167 255 199 (dk_at dksX1_isNewTwice_4 3 rfl rfl)
theorem dX1_isNewTwice_99 : decode cX1_isNewTwice 99 = .ok (.iload_n 1, 1) := dk_27 (dk_at dksX1_isNewTwice_4 6 rfl rfl)
theorem dX1_isNewTwice_100 : decode cX1_isNewTwice 100 = .ok (.ifCond .ne 7, 3) := dk_154 0 7 (dk_at dksX1_isNewTwice_4 7 rfl rfl)
theorem dX1_isNewTwice_103 : decode cX1_isNewTwice 103 = .ok (.iload_n 3, 1) := dk_29 (dk_at dksX1_isNewTwice_4 10 rfl rfl)
theorem dX1_isNewTwice_104 : decode cX1_isNewTwice 104 = .ok (.ifCond .eq 7, 3) := dk_153 0 7 (dk_at dksX1_isNewTwice_4 11 rfl rfl)
theorem dX1_isNewTwice_107 : decode cX1_isNewTwice 107 = .ok (.iconst 1, 1) := dk_4 (dk_at dksX1_isNewTwice_4 14 rfl rfl)
theorem dX1_isNewTwice_108 : decode cX1_isNewTwice 108 = .ok (.goto 4, 3) := dk_167 0 4 (dk_at dksX1_isNewTwice_4 15 rfl rfl)
theorem dX1_isNewTwice_111 : decode cX1_isNewTwice 111 = .ok (.iconst 0, 1) := dk_3 (dk_at dksX1_isNewTwice_4 18 rfl rfl)
theorem dX1_isNewTwice_112 : decode cX1_isNewTwice 112 = .ok (.istore_n 1, 1) := dk_60 (dk_at dksX1_isNewTwice_4 19 rfl rfl)
theorem dX1_isNewTwice_113 : decode cX1_isNewTwice 113 = .ok (.iinc 2 1, 3) := dk_132 2 1 (dk_at dksX1_isNewTwice_4 20 rfl rfl)
theorem dX1_isNewTwice_116 : decode cX1_isNewTwice 116 = .ok (.goto (-112), 3) := dk_167 255 144 (dk_at dksX1_isNewTwice_5 0 rfl rfl)
theorem dX1_isNewTwice_119 : decode cX1_isNewTwice 119 = .ok (.iload_n 1, 1) := dk_27 (dk_at dksX1_isNewTwice_5 3 rfl rfl)
theorem dX1_isNewTwice_120 : decode cX1_isNewTwice 120 = .ok (.ireturn, 1) := dk_172 (dk_at dksX1_isNewTwice_5 4 rfl rfl)
abbrev cX1_goes : ByteArray := prog_7_method_6_code
def yX1_goes : MethodName := ⟨RX1, "goes", "(ZI)Z"⟩
def dkwX1_goes_0 : List UInt8 := [42, 27, 153, 0, 7, 28, 167, 0, 7, 42, 180, 0, 81, 181, 0, 81, 27, 172]
abbrev dktX1_goes_0 : List UInt8 := dkwX1_goes_0 ++ []
theorem dksX1_goes_0 : cX1_goes.data.toList.drop 0 = dktX1_goes_0 := by decide +kernel
theorem dX1_goes_0 : decode cX1_goes 0 = .ok (.aload_n 0, 1) := dk_42 (dk_at dksX1_goes_0 0 rfl rfl)
theorem dX1_goes_1 : decode cX1_goes 1 = .ok (.iload_n 1, 1) := dk_27 (dk_at dksX1_goes_0 1 rfl rfl)
theorem dX1_goes_2 : decode cX1_goes 2 = .ok (.ifCond .eq 7, 3) := dk_153 0 7 (dk_at dksX1_goes_0 2 rfl rfl)
theorem dX1_goes_5 : decode cX1_goes 5 = .ok (.iload_n 2, 1) := dk_28 (dk_at dksX1_goes_0 5 rfl rfl)
theorem dX1_goes_6 : decode cX1_goes 6 = .ok (.goto 7, 3) := dk_167 0 7 (dk_at dksX1_goes_0 6 rfl rfl)
theorem dX1_goes_9 : decode cX1_goes 9 = .ok (.aload_n 0, 1) := dk_42 (dk_at dksX1_goes_0 9 rfl rfl)
theorem dX1_goes_10 : decode cX1_goes 10 = .ok (.getfield 81, 3) := dk_180 0 81 (dk_at dksX1_goes_0 10 rfl rfl)
theorem dX1_goes_13 : decode cX1_goes 13 = .ok (.putfield 81, 3) := dk_181 0 81 (dk_at dksX1_goes_0 13 rfl rfl)
theorem dX1_goes_16 : decode cX1_goes 16 = .ok (.iload_n 1, 1) := dk_27 (dk_at dksX1_goes_0 16 rfl rfl)
theorem dX1_goes_17 : decode cX1_goes 17 = .ok (.ireturn, 1) := dk_172 (dk_at dksX1_goes_0 17 rfl rfl)
abbrev cX1_takesUse : ByteArray := prog_7_method_9_code
def yX1_takesUse : MethodName := ⟨RX1, "takesUse", "(I)Z"⟩
def dkwX1_takesUse_6 : List UInt8 := [7, 182, 0, 91, 172]
abbrev dktX1_takesUse_6 : List UInt8 := dkwX1_takesUse_6 ++ []
def dkwX1_takesUse_5 : List UInt8 := [180, 0, 84, 4, 100, 16, 10, 42, 180, 0, 40, 42, 180, 0, 84, 4, 100, 46, 104, 28, 96, 79, 42, 29]
abbrev dktX1_takesUse_5 : List UInt8 := dkwX1_takesUse_5 ++ dktX1_takesUse_6
def dkwX1_takesUse_4 : List UInt8 := [3, 16, 9, 184, 0, 73, 153, 0, 7, 4, 167, 0, 4, 3, 62, 29, 153, 0, 30, 42, 180, 0, 40, 42]
abbrev dktX1_takesUse_4 : List UInt8 := dkwX1_takesUse_4 ++ dktX1_takesUse_5
def dkwX1_takesUse_3 : List UInt8 := [16, 14, 162, 0, 7, 4, 167, 0, 4, 3, 3, 182, 0, 91, 172, 42, 180, 0, 81, 6, 160, 0, 17, 28]
abbrev dktX1_takesUse_3 : List UInt8 := dkwX1_takesUse_3 ++ dktX1_takesUse_4
def dkwX1_takesUse_2 : List UInt8 := [28, 4, 16, 9, 184, 0, 73, 6, 182, 0, 91, 172, 27, 16, 59, 160, 0, 23, 42, 42, 180, 0, 84]
abbrev dktX1_takesUse_2 : List UInt8 := dkwX1_takesUse_2 ++ dktX1_takesUse_3
def dkwX1_takesUse_1 : List UInt8 := [89, 180, 0, 84, 28, 4, 16, 9, 184, 0, 73, 153, 0, 7, 4, 167, 0, 4, 3, 96, 181, 0, 84, 42]
abbrev dktX1_takesUse_1 : List UInt8 := dkwX1_takesUse_1 ++ dktX1_takesUse_2
def dkwX1_takesUse_0 : List UInt8 := [27, 16, 48, 100, 61, 42, 180, 0, 81, 5, 160, 0, 50, 42, 180, 0, 40, 42, 180, 0, 84, 28, 79, 42]
abbrev dktX1_takesUse_0 : List UInt8 := dkwX1_takesUse_0 ++ dktX1_takesUse_1
theorem dksX1_takesUse_0 : cX1_takesUse.data.toList.drop 0 = dktX1_takesUse_0 := by decide +kernel
theorem dksX1_takesUse_1 : cX1_takesUse.data.toList.drop 24 = dktX1_takesUse_1 := dk_seg dksX1_takesUse_0 24 rfl rfl
theorem dksX1_takesUse_2 : cX1_takesUse.data.toList.drop 48 = dktX1_takesUse_2 := dk_seg dksX1_takesUse_1 24 rfl rfl
theorem dksX1_takesUse_3 : cX1_takesUse.data.toList.drop 71 = dktX1_takesUse_3 := dk_seg dksX1_takesUse_2 23 rfl rfl
theorem dksX1_takesUse_4 : cX1_takesUse.data.toList.drop 95 = dktX1_takesUse_4 := dk_seg dksX1_takesUse_3 24 rfl rfl
theorem dksX1_takesUse_5 : cX1_takesUse.data.toList.drop 119 = dktX1_takesUse_5 := dk_seg dksX1_takesUse_4 24 rfl rfl
theorem dksX1_takesUse_6 : cX1_takesUse.data.toList.drop 143 = dktX1_takesUse_6 := dk_seg dksX1_takesUse_5 24 rfl rfl
theorem dX1_takesUse_0 : decode cX1_takesUse 0 = .ok (.iload_n 1, 1) := dk_27 (dk_at dksX1_takesUse_0 0 rfl rfl)
theorem dX1_takesUse_1 : decode cX1_takesUse 1 = .ok (.bipush 48, 2) := dk_16 48 (dk_at dksX1_takesUse_0 1 rfl rfl)
theorem dX1_takesUse_3 : decode cX1_takesUse 3 = .ok (.isub, 1) := dk_100 (dk_at dksX1_takesUse_0 3 rfl rfl)
theorem dX1_takesUse_4 : decode cX1_takesUse 4 = .ok (.istore_n 2, 1) := dk_61 (dk_at dksX1_takesUse_0 4 rfl rfl)
theorem dX1_takesUse_5 : decode cX1_takesUse 5 = .ok (.aload_n 0, 1) := dk_42 (dk_at dksX1_takesUse_0 5 rfl rfl)
theorem dX1_takesUse_6 : decode cX1_takesUse 6 = .ok (.getfield 81, 3) := dk_180 0 81 (dk_at dksX1_takesUse_0 6 rfl rfl)
theorem dX1_takesUse_9 : decode cX1_takesUse 9 = .ok (.iconst 2, 1) := dk_5 (dk_at dksX1_takesUse_0 9 rfl rfl)
theorem dX1_takesUse_10 : decode cX1_takesUse 10 = .ok (.if_icmp .ne 50, 3) := dk_160 0 50 (dk_at dksX1_takesUse_0 10 rfl rfl)
theorem dX1_takesUse_13 : decode cX1_takesUse 13 = .ok (.aload_n 0, 1) := dk_42 (dk_at dksX1_takesUse_0 13 rfl rfl)
theorem dX1_takesUse_14 : decode cX1_takesUse 14 = .ok (.getfield 40, 3) := dk_180 0 40 (dk_at dksX1_takesUse_0 14 rfl rfl)
theorem dX1_takesUse_17 : decode cX1_takesUse 17 = .ok (.aload_n 0, 1) := dk_42 (dk_at dksX1_takesUse_0 17 rfl rfl)
theorem dX1_takesUse_18 : decode cX1_takesUse 18 = .ok (.getfield 84, 3) := dk_180 0 84 (dk_at dksX1_takesUse_0 18 rfl rfl)
theorem dX1_takesUse_21 : decode cX1_takesUse 21 = .ok (.iload_n 2, 1) := dk_28 (dk_at dksX1_takesUse_0 21 rfl rfl)
theorem dX1_takesUse_22 : decode cX1_takesUse 22 = .ok (.iastore, 1) := dk_79 (dk_at dksX1_takesUse_0 22 rfl rfl)
theorem dX1_takesUse_23 : decode cX1_takesUse 23 = .ok (.aload_n 0, 1) := dk_42 (dk_at dksX1_takesUse_0 23 rfl rfl)
theorem dX1_takesUse_24 : decode cX1_takesUse 24 = .ok (.dup, 1) := dk_89 (dk_at dksX1_takesUse_1 0 rfl rfl)
theorem dX1_takesUse_25 : decode cX1_takesUse 25 = .ok (.getfield 84, 3) := dk_180 0 84 (dk_at dksX1_takesUse_1 1 rfl rfl)
theorem dX1_takesUse_28 : decode cX1_takesUse 28 = .ok (.iload_n 2, 1) := dk_28 (dk_at dksX1_takesUse_1 4 rfl rfl)
theorem dX1_takesUse_29 : decode cX1_takesUse 29 = .ok (.iconst 1, 1) := dk_4 (dk_at dksX1_takesUse_1 5 rfl rfl)
theorem dX1_takesUse_30 : decode cX1_takesUse 30 = .ok (.bipush 9, 2) := dk_16 9 (dk_at dksX1_takesUse_1 6 rfl rfl)
theorem dX1_takesUse_32 : decode cX1_takesUse 32 = .ok (.invokestatic 73, 3) := dk_184 0 73 (dk_at dksX1_takesUse_1 8 rfl rfl)
theorem dX1_takesUse_35 : decode cX1_takesUse 35 = .ok (.ifCond .eq 7, 3) := dk_153 0 7 (dk_at dksX1_takesUse_1 11 rfl rfl)
theorem dX1_takesUse_38 : decode cX1_takesUse 38 = .ok (.iconst 1, 1) := dk_4 (dk_at dksX1_takesUse_1 14 rfl rfl)
theorem dX1_takesUse_39 : decode cX1_takesUse 39 = .ok (.goto 4, 3) := dk_167 0 4 (dk_at dksX1_takesUse_1 15 rfl rfl)
theorem dX1_takesUse_42 : decode cX1_takesUse 42 = .ok (.iconst 0, 1) := dk_3 (dk_at dksX1_takesUse_1 18 rfl rfl)
theorem dX1_takesUse_43 : decode cX1_takesUse 43 = .ok (.iadd, 1) := dk_96 (dk_at dksX1_takesUse_1 19 rfl rfl)
theorem dX1_takesUse_44 : decode cX1_takesUse 44 = .ok (.putfield 84, 3) := dk_181 0 84 (dk_at dksX1_takesUse_1 20 rfl rfl)
theorem dX1_takesUse_47 : decode cX1_takesUse 47 = .ok (.aload_n 0, 1) := dk_42 (dk_at dksX1_takesUse_1 23 rfl rfl)
theorem dX1_takesUse_48 : decode cX1_takesUse 48 = .ok (.iload_n 2, 1) := dk_28 (dk_at dksX1_takesUse_2 0 rfl rfl)
theorem dX1_takesUse_49 : decode cX1_takesUse 49 = .ok (.iconst 1, 1) := dk_4 (dk_at dksX1_takesUse_2 1 rfl rfl)
theorem dX1_takesUse_50 : decode cX1_takesUse 50 = .ok (.bipush 9, 2) := dk_16 9 (dk_at dksX1_takesUse_2 2 rfl rfl)
theorem dX1_takesUse_52 : decode cX1_takesUse 52 = .ok (.invokestatic 73, 3) := dk_184 0 73 (dk_at dksX1_takesUse_2 4 rfl rfl)
theorem dX1_takesUse_55 : decode cX1_takesUse 55 = .ok (.iconst 3, 1) := dk_6 (dk_at dksX1_takesUse_2 7 rfl rfl)
theorem dX1_takesUse_56 : decode cX1_takesUse 56 = .ok (.invokevirtual 91, 3) := dk_182 0 91 (dk_at dksX1_takesUse_2 8 rfl rfl)
theorem dX1_takesUse_59 : decode cX1_takesUse 59 = .ok (.ireturn, 1) := dk_172 (dk_at dksX1_takesUse_2 11 rfl rfl)
theorem dX1_takesUse_60 : decode cX1_takesUse 60 = .ok (.iload_n 1, 1) := dk_27 (dk_at dksX1_takesUse_2 12 rfl rfl)
theorem dX1_takesUse_61 : decode cX1_takesUse 61 = .ok (.bipush 59, 2) := dk_16 59 (dk_at dksX1_takesUse_2 13 rfl rfl)
theorem dX1_takesUse_63 : decode cX1_takesUse 63 = .ok (.if_icmp .ne 23, 3) := dk_160 0 23 (dk_at dksX1_takesUse_2 15 rfl rfl)
theorem dX1_takesUse_66 : decode cX1_takesUse 66 = .ok (.aload_n 0, 1) := dk_42 (dk_at dksX1_takesUse_2 18 rfl rfl)
theorem dX1_takesUse_67 : decode cX1_takesUse 67 = .ok (.aload_n 0, 1) := dk_42 (dk_at dksX1_takesUse_2 19 rfl rfl)
theorem dX1_takesUse_68 : decode cX1_takesUse 68 = .ok (.getfield 84, 3) := dk_180 0 84 (dk_at dksX1_takesUse_2 20 rfl rfl)
theorem dX1_takesUse_71 : decode cX1_takesUse 71 = .ok (.bipush 14, 2) := dk_16 14 (dk_at dksX1_takesUse_3 0 rfl rfl)
theorem dX1_takesUse_73 : decode cX1_takesUse 73 = .ok (.if_icmp .ge 7, 3) := dk_162 0 7 (dk_at dksX1_takesUse_3 2 rfl rfl)
theorem dX1_takesUse_76 : decode cX1_takesUse 76 = .ok (.iconst 1, 1) := dk_4 (dk_at dksX1_takesUse_3 5 rfl rfl)
theorem dX1_takesUse_77 : decode cX1_takesUse 77 = .ok (.goto 4, 3) := dk_167 0 4 (dk_at dksX1_takesUse_3 6 rfl rfl)
theorem dX1_takesUse_80 : decode cX1_takesUse 80 = .ok (.iconst 0, 1) := dk_3 (dk_at dksX1_takesUse_3 9 rfl rfl)
theorem dX1_takesUse_81 : decode cX1_takesUse 81 = .ok (.iconst 0, 1) := dk_3 (dk_at dksX1_takesUse_3 10 rfl rfl)
theorem dX1_takesUse_82 : decode cX1_takesUse 82 = .ok (.invokevirtual 91, 3) := dk_182 0 91 (dk_at dksX1_takesUse_3 11 rfl rfl)
theorem dX1_takesUse_85 : decode cX1_takesUse 85 = .ok (.ireturn, 1) := dk_172 (dk_at dksX1_takesUse_3 14 rfl rfl)
theorem dX1_takesUse_86 : decode cX1_takesUse 86 = .ok (.aload_n 0, 1) := dk_42 (dk_at dksX1_takesUse_3 15 rfl rfl)
theorem dX1_takesUse_87 : decode cX1_takesUse 87 = .ok (.getfield 81, 3) := dk_180 0 81 (dk_at dksX1_takesUse_3 16 rfl rfl)
theorem dX1_takesUse_90 : decode cX1_takesUse 90 = .ok (.iconst 3, 1) := dk_6 (dk_at dksX1_takesUse_3 19 rfl rfl)
theorem dX1_takesUse_91 : decode cX1_takesUse 91 = .ok (.if_icmp .ne 17, 3) := dk_160 0 17 (dk_at dksX1_takesUse_3 20 rfl rfl)
theorem dX1_takesUse_94 : decode cX1_takesUse 94 = .ok (.iload_n 2, 1) := dk_28 (dk_at dksX1_takesUse_3 23 rfl rfl)
theorem dX1_takesUse_95 : decode cX1_takesUse 95 = .ok (.iconst 0, 1) := dk_3 (dk_at dksX1_takesUse_4 0 rfl rfl)
theorem dX1_takesUse_96 : decode cX1_takesUse 96 = .ok (.bipush 9, 2) := dk_16 9 (dk_at dksX1_takesUse_4 1 rfl rfl)
theorem dX1_takesUse_98 : decode cX1_takesUse 98 = .ok (.invokestatic 73, 3) := dk_184 0 73 (dk_at dksX1_takesUse_4 3 rfl rfl)
theorem dX1_takesUse_101 : decode cX1_takesUse 101 = .ok (.ifCond .eq 7, 3) := dk_153 0 7 (dk_at dksX1_takesUse_4 6 rfl rfl)
theorem dX1_takesUse_104 : decode cX1_takesUse 104 = .ok (.iconst 1, 1) := dk_4 (dk_at dksX1_takesUse_4 9 rfl rfl)
theorem dX1_takesUse_105 : decode cX1_takesUse 105 = .ok (.goto 4, 3) := dk_167 0 4 (dk_at dksX1_takesUse_4 10 rfl rfl)
theorem dX1_takesUse_108 : decode cX1_takesUse 108 = .ok (.iconst 0, 1) := dk_3 (dk_at dksX1_takesUse_4 13 rfl rfl)
theorem dX1_takesUse_109 : decode cX1_takesUse 109 = .ok (.istore_n 3, 1) := dk_62 (dk_at dksX1_takesUse_4 14 rfl rfl)
theorem dX1_takesUse_110 : decode cX1_takesUse 110 = .ok (.iload_n 3, 1) := dk_29 (dk_at dksX1_takesUse_4 15 rfl rfl)
theorem dX1_takesUse_111 : decode cX1_takesUse 111 = .ok (.ifCond .eq 30, 3) := dk_153 0 30 (dk_at dksX1_takesUse_4 16 rfl rfl)
theorem dX1_takesUse_114 : decode cX1_takesUse 114 = .ok (.aload_n 0, 1) := dk_42 (dk_at dksX1_takesUse_4 19 rfl rfl)
theorem dX1_takesUse_115 : decode cX1_takesUse 115 = .ok (.getfield 40, 3) := dk_180 0 40 (dk_at dksX1_takesUse_4 20 rfl rfl)
theorem dX1_takesUse_118 : decode cX1_takesUse 118 = .ok (.aload_n 0, 1) := dk_42 (dk_at dksX1_takesUse_4 23 rfl rfl)
theorem dX1_takesUse_119 : decode cX1_takesUse 119 = .ok (.getfield 84, 3) := dk_180 0 84 (dk_at dksX1_takesUse_5 0 rfl rfl)
theorem dX1_takesUse_122 : decode cX1_takesUse 122 = .ok (.iconst 1, 1) := dk_4 (dk_at dksX1_takesUse_5 3 rfl rfl)
theorem dX1_takesUse_123 : decode cX1_takesUse 123 = .ok (.isub, 1) := dk_100 (dk_at dksX1_takesUse_5 4 rfl rfl)
theorem dX1_takesUse_124 : decode cX1_takesUse 124 = .ok (.bipush 10, 2) := dk_16 10 (dk_at dksX1_takesUse_5 5 rfl rfl)
theorem dX1_takesUse_126 : decode cX1_takesUse 126 = .ok (.aload_n 0, 1) := dk_42 (dk_at dksX1_takesUse_5 7 rfl rfl)
theorem dX1_takesUse_127 : decode cX1_takesUse 127 = .ok (.getfield 40, 3) := dk_180 0 40 (dk_at dksX1_takesUse_5 8 rfl rfl)
theorem dX1_takesUse_130 : decode cX1_takesUse 130 = .ok (.aload_n 0, 1) := dk_42 (dk_at dksX1_takesUse_5 11 rfl rfl)
theorem dX1_takesUse_131 : decode cX1_takesUse 131 = .ok (.getfield 84, 3) := dk_180 0 84 (dk_at dksX1_takesUse_5 12 rfl rfl)
theorem dX1_takesUse_134 : decode cX1_takesUse 134 = .ok (.iconst 1, 1) := dk_4 (dk_at dksX1_takesUse_5 15 rfl rfl)
theorem dX1_takesUse_135 : decode cX1_takesUse 135 = .ok (.isub, 1) := dk_100 (dk_at dksX1_takesUse_5 16 rfl rfl)
theorem dX1_takesUse_136 : decode cX1_takesUse 136 = .ok (.iaload, 1) := dk_46 (dk_at dksX1_takesUse_5 17 rfl rfl)
theorem dX1_takesUse_137 : decode cX1_takesUse 137 = .ok (.imul, 1) := dk_104 (dk_at dksX1_takesUse_5 18 rfl rfl)
theorem dX1_takesUse_138 : decode cX1_takesUse 138 = .ok (.iload_n 2, 1) := dk_28 (dk_at dksX1_takesUse_5 19 rfl rfl)
theorem dX1_takesUse_139 : decode cX1_takesUse 139 = .ok (.iadd, 1) := dk_96 (dk_at dksX1_takesUse_5 20 rfl rfl)
theorem dX1_takesUse_140 : decode cX1_takesUse 140 = .ok (.iastore, 1) := dk_79 (dk_at dksX1_takesUse_5 21 rfl rfl)
theorem dX1_takesUse_141 : decode cX1_takesUse 141 = .ok (.aload_n 0, 1) := dk_42 (dk_at dksX1_takesUse_5 22 rfl rfl)
theorem dX1_takesUse_142 : decode cX1_takesUse 142 = .ok (.iload_n 3, 1) := dk_29 (dk_at dksX1_takesUse_5 23 rfl rfl)
theorem dX1_takesUse_143 : decode cX1_takesUse 143 = .ok (.iconst 4, 1) := dk_7 (dk_at dksX1_takesUse_6 0 rfl rfl)
theorem dX1_takesUse_144 : decode cX1_takesUse 144 = .ok (.invokevirtual 91, 3) := dk_182 0 91 (dk_at dksX1_takesUse_6 1 rfl rfl)
theorem dX1_takesUse_147 : decode cX1_takesUse 147 = .ok (.ireturn, 1) := dk_172 (dk_at dksX1_takesUse_6 4 rfl rfl)
abbrev cX1_names : ByteArray := prog_7_method_17_code
def yX1_names : MethodName := ⟨RX1, "names", "()I"⟩
def dkwX1_names_5 : List UInt8 := [42, 3, 181, 0, 77, 42, 180, 0, 84, 172]
abbrev dktX1_names_5 : List UInt8 := dkwX1_names_5 ++ []
def dkwX1_names_4 : List UInt8 := [182, 0, 123, 132, 2, 1, 167, 255, 240, 42, 89, 180, 0, 127, 4, 96, 181, 0, 127, 42, 3, 181, 0, 130]
abbrev dktX1_names_4 : List UInt8 := dkwX1_names_4 ++ dktX1_names_5
def dkwX1_names_3 : List UInt8 := [180, 0, 84, 96, 16, 14, 164, 0, 6, 16, 152, 172, 3, 61, 28, 42, 180, 0, 84, 162, 0, 14, 42, 28]
abbrev dktX1_names_3 : List UInt8 := dkwX1_names_3 ++ dktX1_names_4
def dkwX1_names_2 : List UInt8 := [167, 0, 4, 3, 60, 132, 2, 1, 167, 255, 227, 27, 154, 0, 6, 16, 153, 172, 42, 180, 0, 109, 42]
abbrev dktX1_names_2 : List UInt8 := dkwX1_names_2 ++ dktX1_names_3
def dkwX1_names_1 : List UInt8 := [60, 3, 61, 28, 42, 180, 0, 84, 162, 0, 27, 27, 153, 0, 23, 42, 28, 182, 0, 120, 154, 0, 7, 4]
abbrev dktX1_names_1 : List UInt8 := dkwX1_names_1 ++ dktX1_names_2
def dkwX1_names_0 : List UInt8 := [42, 182, 0, 105, 42, 180, 0, 77, 160, 0, 15, 42, 180, 0, 81, 5, 164, 0, 7, 4, 167, 0, 4, 3]
abbrev dktX1_names_0 : List UInt8 := dkwX1_names_0 ++ dktX1_names_1
theorem dksX1_names_0 : cX1_names.data.toList.drop 0 = dktX1_names_0 := by decide +kernel
theorem dksX1_names_1 : cX1_names.data.toList.drop 24 = dktX1_names_1 := dk_seg dksX1_names_0 24 rfl rfl
theorem dksX1_names_2 : cX1_names.data.toList.drop 48 = dktX1_names_2 := dk_seg dksX1_names_1 24 rfl rfl
theorem dksX1_names_3 : cX1_names.data.toList.drop 71 = dktX1_names_3 := dk_seg dksX1_names_2 23 rfl rfl
theorem dksX1_names_4 : cX1_names.data.toList.drop 95 = dktX1_names_4 := dk_seg dksX1_names_3 24 rfl rfl
theorem dksX1_names_5 : cX1_names.data.toList.drop 119 = dktX1_names_5 := dk_seg dksX1_names_4 24 rfl rfl
theorem dX1_names_0 : decode cX1_names 0 = .ok (.aload_n 0, 1) := dk_42 (dk_at dksX1_names_0 0 rfl rfl)
theorem dX1_names_1 : decode cX1_names 1 = .ok (.invokevirtual 105, 3) := dk_182 0 105 (dk_at dksX1_names_0 1 rfl rfl)
theorem dX1_names_4 : decode cX1_names 4 = .ok (.aload_n 0, 1) := dk_42 (dk_at dksX1_names_0 4 rfl rfl)
theorem dX1_names_5 : decode cX1_names 5 = .ok (.getfield 77, 3) := dk_180 0 77 (dk_at dksX1_names_0 5 rfl rfl)
theorem dX1_names_8 : decode cX1_names 8 = .ok (.if_icmp .ne 15, 3) := dk_160 0 15 (dk_at dksX1_names_0 8 rfl rfl)
theorem dX1_names_11 : decode cX1_names 11 = .ok (.aload_n 0, 1) := dk_42 (dk_at dksX1_names_0 11 rfl rfl)
theorem dX1_names_12 : decode cX1_names 12 = .ok (.getfield 81, 3) := dk_180 0 81 (dk_at dksX1_names_0 12 rfl rfl)
theorem dX1_names_15 : decode cX1_names 15 = .ok (.iconst 2, 1) := dk_5 (dk_at dksX1_names_0 15 rfl rfl)
theorem dX1_names_16 : decode cX1_names 16 = .ok (.if_icmp .le 7, 3) := dk_164 0 7 (dk_at dksX1_names_0 16 rfl rfl)
theorem dX1_names_19 : decode cX1_names 19 = .ok (.iconst 1, 1) := dk_4 (dk_at dksX1_names_0 19 rfl rfl)
theorem dX1_names_20 : decode cX1_names 20 = .ok (.goto 4, 3) := dk_167 0 4 (dk_at dksX1_names_0 20 rfl rfl)
theorem dX1_names_23 : decode cX1_names 23 = .ok (.iconst 0, 1) := dk_3 (dk_at dksX1_names_0 23 rfl rfl)
theorem dX1_names_24 : decode cX1_names 24 = .ok (.istore_n 1, 1) := dk_60 (dk_at dksX1_names_1 0 rfl rfl)
theorem dX1_names_25 : decode cX1_names 25 = .ok (.iconst 0, 1) := dk_3 (dk_at dksX1_names_1 1 rfl rfl)
theorem dX1_names_26 : decode cX1_names 26 = .ok (.istore_n 2, 1) := dk_61 (dk_at dksX1_names_1 2 rfl rfl)
theorem dX1_names_27 : decode cX1_names 27 = .ok (.iload_n 2, 1) := dk_28 (dk_at dksX1_names_1 3 rfl rfl)
theorem dX1_names_28 : decode cX1_names 28 = .ok (.aload_n 0, 1) := dk_42 (dk_at dksX1_names_1 4 rfl rfl)
theorem dX1_names_29 : decode cX1_names 29 = .ok (.getfield 84, 3) := dk_180 0 84 (dk_at dksX1_names_1 5 rfl rfl)
theorem dX1_names_32 : decode cX1_names 32 = .ok (.if_icmp .ge 27, 3) := dk_162 0 27 (dk_at dksX1_names_1 8 rfl rfl)
theorem dX1_names_35 : decode cX1_names 35 = .ok (.iload_n 1, 1) := dk_27 (dk_at dksX1_names_1 11 rfl rfl)
theorem dX1_names_36 : decode cX1_names 36 = .ok (.ifCond .eq 23, 3) := dk_153 0 23 (dk_at dksX1_names_1 12 rfl rfl)
theorem dX1_names_39 : decode cX1_names 39 = .ok (.aload_n 0, 1) := dk_42 (dk_at dksX1_names_1 15 rfl rfl)
theorem dX1_names_40 : decode cX1_names 40 = .ok (.iload_n 2, 1) := dk_28 (dk_at dksX1_names_1 16 rfl rfl)
theorem dX1_names_41 : decode cX1_names 41 = .ok (.invokevirtual 120, 3) := dk_182 0 120 (dk_at dksX1_names_1 17 rfl rfl)
theorem dX1_names_44 : decode cX1_names 44 = .ok (.ifCond .ne 7, 3) := dk_154 0 7 (dk_at dksX1_names_1 20 rfl rfl)
theorem dX1_names_47 : decode cX1_names 47 = .ok (.iconst 1, 1) := dk_4 (dk_at dksX1_names_1 23 rfl rfl)
theorem dX1_names_48 : decode cX1_names 48 = .ok (.goto 4, 3) := dk_167 0 4 (dk_at dksX1_names_2 0 rfl rfl)
theorem dX1_names_51 : decode cX1_names 51 = .ok (.iconst 0, 1) := dk_3 (dk_at dksX1_names_2 3 rfl rfl)
theorem dX1_names_52 : decode cX1_names 52 = .ok (.istore_n 1, 1) := dk_60 (dk_at dksX1_names_2 4 rfl rfl)
theorem dX1_names_53 : decode cX1_names 53 = .ok (.iinc 2 1, 3) := dk_132 2 1 (dk_at dksX1_names_2 5 rfl rfl)
theorem dX1_names_56 : decode cX1_names 56 = .ok (.goto (-29), 3) := dk_167 255 227 (dk_at dksX1_names_2 8 rfl rfl)
theorem dX1_names_59 : decode cX1_names 59 = .ok (.iload_n 1, 1) := dk_27 (dk_at dksX1_names_2 11 rfl rfl)
theorem dX1_names_60 : decode cX1_names 60 = .ok (.ifCond .ne 6, 3) := dk_154 0 6 (dk_at dksX1_names_2 12 rfl rfl)
theorem dX1_names_63 : decode cX1_names 63 = .ok (.bipush (-103), 2) := dk_16 153 (dk_at dksX1_names_2 15 rfl rfl)
theorem dX1_names_65 : decode cX1_names 65 = .ok (.ireturn, 1) := dk_172 (dk_at dksX1_names_2 17 rfl rfl)
theorem dX1_names_66 : decode cX1_names 66 = .ok (.aload_n 0, 1) := dk_42 (dk_at dksX1_names_2 18 rfl rfl)
theorem dX1_names_67 : decode cX1_names 67 = .ok (.getfield 109, 3) := dk_180 0 109 (dk_at dksX1_names_2 19 rfl rfl)
theorem dX1_names_70 : decode cX1_names 70 = .ok (.aload_n 0, 1) := dk_42 (dk_at dksX1_names_2 22 rfl rfl)
theorem dX1_names_71 : decode cX1_names 71 = .ok (.getfield 84, 3) := dk_180 0 84 (dk_at dksX1_names_3 0 rfl rfl)
theorem dX1_names_74 : decode cX1_names 74 = .ok (.iadd, 1) := dk_96 (dk_at dksX1_names_3 3 rfl rfl)
theorem dX1_names_75 : decode cX1_names 75 = .ok (.bipush 14, 2) := dk_16 14 (dk_at dksX1_names_3 4 rfl rfl)
theorem dX1_names_77 : decode cX1_names 77 = .ok (.if_icmp .le 6, 3) := dk_164 0 6 (dk_at dksX1_names_3 6 rfl rfl)
theorem dX1_names_80 : decode cX1_names 80 = .ok (.bipush (-104), 2) := dk_16 152 (dk_at dksX1_names_3 9 rfl rfl)
theorem dX1_names_82 : decode cX1_names 82 = .ok (.ireturn, 1) := dk_172 (dk_at dksX1_names_3 11 rfl rfl)
theorem dX1_names_83 : decode cX1_names 83 = .ok (.iconst 0, 1) := dk_3 (dk_at dksX1_names_3 12 rfl rfl)
theorem dX1_names_84 : decode cX1_names 84 = .ok (.istore_n 2, 1) := dk_61 (dk_at dksX1_names_3 13 rfl rfl)
theorem dX1_names_85 : decode cX1_names 85 = .ok (.iload_n 2, 1) := dk_28 (dk_at dksX1_names_3 14 rfl rfl)
theorem dX1_names_86 : decode cX1_names 86 = .ok (.aload_n 0, 1) := dk_42 (dk_at dksX1_names_3 15 rfl rfl)
theorem dX1_names_87 : decode cX1_names 87 = .ok (.getfield 84, 3) := dk_180 0 84 (dk_at dksX1_names_3 16 rfl rfl)
theorem dX1_names_90 : decode cX1_names 90 = .ok (.if_icmp .ge 14, 3) := dk_162 0 14 (dk_at dksX1_names_3 19 rfl rfl)
theorem dX1_names_93 : decode cX1_names 93 = .ok (.aload_n 0, 1) := dk_42 (dk_at dksX1_names_3 22 rfl rfl)
theorem dX1_names_94 : decode cX1_names 94 = .ok (.iload_n 2, 1) := dk_28 (dk_at dksX1_names_3 23 rfl rfl)
theorem dX1_names_95 : decode cX1_names 95 = .ok (.invokevirtual 123, 3) := dk_182 0 123 (dk_at dksX1_names_4 0 rfl rfl)
theorem dX1_names_98 : decode cX1_names 98 = .ok (.iinc 2 1, 3) := dk_132 2 1 (dk_at dksX1_names_4 3 rfl rfl)
theorem dX1_names_101 : decode cX1_names 101 = .ok (.goto (-16), 3) := dk_167 255 240 (dk_at dksX1_names_4 6 rfl rfl)
theorem dX1_names_104 : decode cX1_names 104 = .ok (.aload_n 0, 1) := dk_42 (dk_at dksX1_names_4 9 rfl rfl)
theorem dX1_names_105 : decode cX1_names 105 = .ok (.dup, 1) := dk_89 (dk_at dksX1_names_4 10 rfl rfl)
theorem dX1_names_106 : decode cX1_names 106 = .ok (.getfield 127, 3) := dk_180 0 127 (dk_at dksX1_names_4 11 rfl rfl)
theorem dX1_names_109 : decode cX1_names 109 = .ok (.iconst 1, 1) := dk_4 (dk_at dksX1_names_4 14 rfl rfl)
theorem dX1_names_110 : decode cX1_names 110 = .ok (.iadd, 1) := dk_96 (dk_at dksX1_names_4 15 rfl rfl)
theorem dX1_names_111 : decode cX1_names 111 = .ok (.putfield 127, 3) := dk_181 0 127 (dk_at dksX1_names_4 16 rfl rfl)
theorem dX1_names_114 : decode cX1_names 114 = .ok (.aload_n 0, 1) := dk_42 (dk_at dksX1_names_4 19 rfl rfl)
theorem dX1_names_115 : decode cX1_names 115 = .ok (.iconst 0, 1) := dk_3 (dk_at dksX1_names_4 20 rfl rfl)
theorem dX1_names_116 : decode cX1_names 116 = .ok (.putfield 130, 3) := dk_181 0 130 (dk_at dksX1_names_4 21 rfl rfl)
theorem dX1_names_119 : decode cX1_names 119 = .ok (.aload_n 0, 1) := dk_42 (dk_at dksX1_names_5 0 rfl rfl)
theorem dX1_names_120 : decode cX1_names 120 = .ok (.iconst 0, 1) := dk_3 (dk_at dksX1_names_5 1 rfl rfl)
theorem dX1_names_121 : decode cX1_names 121 = .ok (.putfield 77, 3) := dk_181 0 77 (dk_at dksX1_names_5 2 rfl rfl)
theorem dX1_names_124 : decode cX1_names 124 = .ok (.aload_n 0, 1) := dk_42 (dk_at dksX1_names_5 5 rfl rfl)
theorem dX1_names_125 : decode cX1_names 125 = .ok (.getfield 84, 3) := dk_180 0 84 (dk_at dksX1_names_5 6 rfl rfl)
theorem dX1_names_128 : decode cX1_names 128 = .ok (.ireturn, 1) := dk_172 (dk_at dksX1_names_5 9 rfl rfl)
abbrev cX1_isThere : ByteArray := prog_7_method_14_code
def yX1_isThere : MethodName := ⟨RX1, "isThere", "(I)Z"⟩
def dkwX1_isThere_1 : List UInt8 := [154, 0, 7, 4, 167, 0, 4, 3, 61, 132, 3, 1, 167, 255, 226, 28, 172]
abbrev dktX1_isThere_1 : List UInt8 := dkwX1_isThere_1 ++ []
def dkwX1_isThere_0 : List UInt8 := [3, 61, 3, 62, 29, 42, 180, 0, 109, 162, 0, 28, 28, 154, 0, 12, 42, 29, 27, 182, 0, 112]
abbrev dktX1_isThere_0 : List UInt8 := dkwX1_isThere_0 ++ dktX1_isThere_1
theorem dksX1_isThere_0 : cX1_isThere.data.toList.drop 0 = dktX1_isThere_0 := by decide +kernel
theorem dksX1_isThere_1 : cX1_isThere.data.toList.drop 22 = dktX1_isThere_1 := dk_seg dksX1_isThere_0 22 rfl rfl
theorem dX1_isThere_0 : decode cX1_isThere 0 = .ok (.iconst 0, 1) := dk_3 (dk_at dksX1_isThere_0 0 rfl rfl)
theorem dX1_isThere_1 : decode cX1_isThere 1 = .ok (.istore_n 2, 1) := dk_61 (dk_at dksX1_isThere_0 1 rfl rfl)
theorem dX1_isThere_2 : decode cX1_isThere 2 = .ok (.iconst 0, 1) := dk_3 (dk_at dksX1_isThere_0 2 rfl rfl)
theorem dX1_isThere_3 : decode cX1_isThere 3 = .ok (.istore_n 3, 1) := dk_62 (dk_at dksX1_isThere_0 3 rfl rfl)
theorem dX1_isThere_4 : decode cX1_isThere 4 = .ok (.iload_n 3, 1) := dk_29 (dk_at dksX1_isThere_0 4 rfl rfl)
theorem dX1_isThere_5 : decode cX1_isThere 5 = .ok (.aload_n 0, 1) := dk_42 (dk_at dksX1_isThere_0 5 rfl rfl)
theorem dX1_isThere_6 : decode cX1_isThere 6 = .ok (.getfield 109, 3) := dk_180 0 109 (dk_at dksX1_isThere_0 6 rfl rfl)
theorem dX1_isThere_9 : decode cX1_isThere 9 = .ok (.if_icmp .ge 28, 3) := dk_162 0 28 (dk_at dksX1_isThere_0 9 rfl rfl)
theorem dX1_isThere_12 : decode cX1_isThere 12 = .ok (.iload_n 2, 1) := dk_28 (dk_at dksX1_isThere_0 12 rfl rfl)
theorem dX1_isThere_13 : decode cX1_isThere 13 = .ok (.ifCond .ne 12, 3) := dk_154 0 12 (dk_at dksX1_isThere_0 13 rfl rfl)
theorem dX1_isThere_16 : decode cX1_isThere 16 = .ok (.aload_n 0, 1) := dk_42 (dk_at dksX1_isThere_0 16 rfl rfl)
theorem dX1_isThere_17 : decode cX1_isThere 17 = .ok (.iload_n 3, 1) := dk_29 (dk_at dksX1_isThere_0 17 rfl rfl)
theorem dX1_isThere_18 : decode cX1_isThere 18 = .ok (.iload_n 1, 1) := dk_27 (dk_at dksX1_isThere_0 18 rfl rfl)
theorem dX1_isThere_19 : decode cX1_isThere 19 = .ok (.invokevirtual 112, 3) := dk_182 0 112 (dk_at dksX1_isThere_0 19 rfl rfl)
theorem dX1_isThere_22 : decode cX1_isThere 22 = .ok (.ifCond .ne 7, 3) := dk_154 0 7 (dk_at dksX1_isThere_1 0 rfl rfl)
theorem dX1_isThere_25 : decode cX1_isThere 25 = .ok (.iconst 1, 1) := dk_4 (dk_at dksX1_isThere_1 3 rfl rfl)
theorem dX1_isThere_26 : decode cX1_isThere 26 = .ok (.goto 4, 3) := dk_167 0 4 (dk_at dksX1_isThere_1 4 rfl rfl)
theorem dX1_isThere_29 : decode cX1_isThere 29 = .ok (.iconst 0, 1) := dk_3 (dk_at dksX1_isThere_1 7 rfl rfl)
theorem dX1_isThere_30 : decode cX1_isThere 30 = .ok (.istore_n 2, 1) := dk_61 (dk_at dksX1_isThere_1 8 rfl rfl)
theorem dX1_isThere_31 : decode cX1_isThere 31 = .ok (.iinc 3 1, 3) := dk_132 3 1 (dk_at dksX1_isThere_1 9 rfl rfl)
theorem dX1_isThere_34 : decode cX1_isThere 34 = .ok (.goto (-30), 3) := dk_167 255 226 (dk_at dksX1_isThere_1 12 rfl rfl)
theorem dX1_isThere_37 : decode cX1_isThere 37 = .ok (.iload_n 2, 1) := dk_28 (dk_at dksX1_isThere_1 15 rfl rfl)
theorem dX1_isThere_38 : decode cX1_isThere 38 = .ok (.ireturn, 1) := dk_172 (dk_at dksX1_isThere_1 16 rfl rfl)
abbrev cX1_compareNew : ByteArray := prog_7_method_13_code
def yX1_compareNew : MethodName := ⟨RX1, "compareNew", "(II)I"⟩
def dkwX1_compareNew_3 : List UInt8 := [21, 4, 21, 5, 162, 0, 7, 2, 167, 0, 4, 4, 172, 132, 3, 1, 167, 255, 173, 3, 172]
abbrev dktX1_compareNew_3 : List UInt8 := dkwX1_compareNew_3 ++ []
def dkwX1_compareNew_2 : List UInt8 := [180, 0, 37, 16, 8, 28, 104, 29, 96, 46, 167, 0, 4, 3, 54, 5, 21, 4, 21, 5, 159, 0, 16]
abbrev dktX1_compareNew_2 : List UInt8 := dkwX1_compareNew_2 ++ dktX1_compareNew_3
def dkwX1_compareNew_1 : List UInt8 := [27, 104, 29, 96, 46, 167, 0, 4, 3, 54, 4, 29, 42, 180, 0, 34, 28, 46, 162, 0, 17, 42]
abbrev dktX1_compareNew_1 : List UInt8 := dkwX1_compareNew_1 ++ dktX1_compareNew_2
def dkwX1_compareNew_0 : List UInt8 := [3, 62, 29, 16, 8, 162, 0, 83, 29, 42, 180, 0, 13, 27, 46, 162, 0, 17, 42, 180, 0, 16, 16, 8]
abbrev dktX1_compareNew_0 : List UInt8 := dkwX1_compareNew_0 ++ dktX1_compareNew_1
theorem dksX1_compareNew_0 : cX1_compareNew.data.toList.drop 0 = dktX1_compareNew_0 := by decide +kernel
theorem dksX1_compareNew_1 : cX1_compareNew.data.toList.drop 24 = dktX1_compareNew_1 := dk_seg dksX1_compareNew_0 24 rfl rfl
theorem dksX1_compareNew_2 : cX1_compareNew.data.toList.drop 46 = dktX1_compareNew_2 := dk_seg dksX1_compareNew_1 22 rfl rfl
theorem dksX1_compareNew_3 : cX1_compareNew.data.toList.drop 69 = dktX1_compareNew_3 := dk_seg dksX1_compareNew_2 23 rfl rfl
theorem dX1_compareNew_0 : decode cX1_compareNew 0 = .ok (.iconst 0, 1) := dk_3 (dk_at dksX1_compareNew_0 0 rfl rfl)
theorem dX1_compareNew_1 : decode cX1_compareNew 1 = .ok (.istore_n 3, 1) := dk_62 (dk_at dksX1_compareNew_0 1 rfl rfl)
theorem dX1_compareNew_2 : decode cX1_compareNew 2 = .ok (.iload_n 3, 1) := dk_29 (dk_at dksX1_compareNew_0 2 rfl rfl)
theorem dX1_compareNew_3 : decode cX1_compareNew 3 = .ok (.bipush 8, 2) := dk_16 8 (dk_at dksX1_compareNew_0 3 rfl rfl)
theorem dX1_compareNew_5 : decode cX1_compareNew 5 = .ok (.if_icmp .ge 83, 3) := dk_162 0 83 (dk_at dksX1_compareNew_0 5 rfl rfl)
theorem dX1_compareNew_8 : decode cX1_compareNew 8 = .ok (.iload_n 3, 1) := dk_29 (dk_at dksX1_compareNew_0 8 rfl rfl)
theorem dX1_compareNew_9 : decode cX1_compareNew 9 = .ok (.aload_n 0, 1) := dk_42 (dk_at dksX1_compareNew_0 9 rfl rfl)
theorem dX1_compareNew_10 : decode cX1_compareNew 10 = .ok (.getfield 13, 3) := dk_180 0 13 (dk_at dksX1_compareNew_0 10 rfl rfl)
theorem dX1_compareNew_13 : decode cX1_compareNew 13 = .ok (.iload_n 1, 1) := dk_27 (dk_at dksX1_compareNew_0 13 rfl rfl)
theorem dX1_compareNew_14 : decode cX1_compareNew 14 = .ok (.iaload, 1) := dk_46 (dk_at dksX1_compareNew_0 14 rfl rfl)
theorem dX1_compareNew_15 : decode cX1_compareNew 15 = .ok (.if_icmp .ge 17, 3) := dk_162 0 17 (dk_at dksX1_compareNew_0 15 rfl rfl)
theorem dX1_compareNew_18 : decode cX1_compareNew 18 = .ok (.aload_n 0, 1) := dk_42 (dk_at dksX1_compareNew_0 18 rfl rfl)
theorem dX1_compareNew_19 : decode cX1_compareNew 19 = .ok (.getfield 16, 3) := dk_180 0 16 (dk_at dksX1_compareNew_0 19 rfl rfl)
theorem dX1_compareNew_22 : decode cX1_compareNew 22 = .ok (.bipush 8, 2) := dk_16 8 (dk_at dksX1_compareNew_0 22 rfl rfl)
theorem dX1_compareNew_24 : decode cX1_compareNew 24 = .ok (.iload_n 1, 1) := dk_27 (dk_at dksX1_compareNew_1 0 rfl rfl)
theorem dX1_compareNew_25 : decode cX1_compareNew 25 = .ok (.imul, 1) := dk_104 (dk_at dksX1_compareNew_1 1 rfl rfl)
theorem dX1_compareNew_26 : decode cX1_compareNew 26 = .ok (.iload_n 3, 1) := dk_29 (dk_at dksX1_compareNew_1 2 rfl rfl)
theorem dX1_compareNew_27 : decode cX1_compareNew 27 = .ok (.iadd, 1) := dk_96 (dk_at dksX1_compareNew_1 3 rfl rfl)
theorem dX1_compareNew_28 : decode cX1_compareNew 28 = .ok (.iaload, 1) := dk_46 (dk_at dksX1_compareNew_1 4 rfl rfl)
theorem dX1_compareNew_29 : decode cX1_compareNew 29 = .ok (.goto 4, 3) := dk_167 0 4 (dk_at dksX1_compareNew_1 5 rfl rfl)
theorem dX1_compareNew_32 : decode cX1_compareNew 32 = .ok (.iconst 0, 1) := dk_3 (dk_at dksX1_compareNew_1 8 rfl rfl)
theorem dX1_compareNew_33 : decode cX1_compareNew 33 = .ok (.istore 4, 2) := dk_54 4 (dk_at dksX1_compareNew_1 9 rfl rfl)
theorem dX1_compareNew_35 : decode cX1_compareNew 35 = .ok (.iload_n 3, 1) := dk_29 (dk_at dksX1_compareNew_1 11 rfl rfl)
theorem dX1_compareNew_36 : decode cX1_compareNew 36 = .ok (.aload_n 0, 1) := dk_42 (dk_at dksX1_compareNew_1 12 rfl rfl)
theorem dX1_compareNew_37 : decode cX1_compareNew 37 = .ok (.getfield 34, 3) := dk_180 0 34 (dk_at dksX1_compareNew_1 13 rfl rfl)
theorem dX1_compareNew_40 : decode cX1_compareNew 40 = .ok (.iload_n 2, 1) := dk_28 (dk_at dksX1_compareNew_1 16 rfl rfl)
theorem dX1_compareNew_41 : decode cX1_compareNew 41 = .ok (.iaload, 1) := dk_46 (dk_at dksX1_compareNew_1 17 rfl rfl)
theorem dX1_compareNew_42 : decode cX1_compareNew 42 = .ok (.if_icmp .ge 17, 3) := dk_162 0 17 (dk_at dksX1_compareNew_1 18 rfl rfl)
theorem dX1_compareNew_45 : decode cX1_compareNew 45 = .ok (.aload_n 0, 1) := dk_42 (dk_at dksX1_compareNew_1 21 rfl rfl)
theorem dX1_compareNew_46 : decode cX1_compareNew 46 = .ok (.getfield 37, 3) := dk_180 0 37 (dk_at dksX1_compareNew_2 0 rfl rfl)
theorem dX1_compareNew_49 : decode cX1_compareNew 49 = .ok (.bipush 8, 2) := dk_16 8 (dk_at dksX1_compareNew_2 3 rfl rfl)
theorem dX1_compareNew_51 : decode cX1_compareNew 51 = .ok (.iload_n 2, 1) := dk_28 (dk_at dksX1_compareNew_2 5 rfl rfl)
theorem dX1_compareNew_52 : decode cX1_compareNew 52 = .ok (.imul, 1) := dk_104 (dk_at dksX1_compareNew_2 6 rfl rfl)
theorem dX1_compareNew_53 : decode cX1_compareNew 53 = .ok (.iload_n 3, 1) := dk_29 (dk_at dksX1_compareNew_2 7 rfl rfl)
theorem dX1_compareNew_54 : decode cX1_compareNew 54 = .ok (.iadd, 1) := dk_96 (dk_at dksX1_compareNew_2 8 rfl rfl)
theorem dX1_compareNew_55 : decode cX1_compareNew 55 = .ok (.iaload, 1) := dk_46 (dk_at dksX1_compareNew_2 9 rfl rfl)
theorem dX1_compareNew_56 : decode cX1_compareNew 56 = .ok (.goto 4, 3) := dk_167 0 4 (dk_at dksX1_compareNew_2 10 rfl rfl)
theorem dX1_compareNew_59 : decode cX1_compareNew 59 = .ok (.iconst 0, 1) := dk_3 (dk_at dksX1_compareNew_2 13 rfl rfl)
theorem dX1_compareNew_60 : decode cX1_compareNew 60 = .ok (.istore 5, 2) := dk_54 5 (dk_at dksX1_compareNew_2 14 rfl rfl)
theorem dX1_compareNew_62 : decode cX1_compareNew 62 = .ok (.iload 4, 2) := dk_21 4 (dk_at dksX1_compareNew_2 16 rfl rfl)
theorem dX1_compareNew_64 : decode cX1_compareNew 64 = .ok (.iload 5, 2) := dk_21 5 (dk_at dksX1_compareNew_2 18 rfl rfl)
theorem dX1_compareNew_66 : decode cX1_compareNew 66 = .ok (.if_icmp .eq 16, 3) := dk_159 0 16 (dk_at dksX1_compareNew_2 20 rfl rfl)
theorem dX1_compareNew_69 : decode cX1_compareNew 69 = .ok (.iload 4, 2) := dk_21 4 (dk_at dksX1_compareNew_3 0 rfl rfl)
theorem dX1_compareNew_71 : decode cX1_compareNew 71 = .ok (.iload 5, 2) := dk_21 5 (dk_at dksX1_compareNew_3 2 rfl rfl)
theorem dX1_compareNew_73 : decode cX1_compareNew 73 = .ok (.if_icmp .ge 7, 3) := dk_162 0 7 (dk_at dksX1_compareNew_3 4 rfl rfl)
theorem dX1_compareNew_76 : decode cX1_compareNew 76 = .ok (.iconst (-1), 1) := dk_2 (dk_at dksX1_compareNew_3 7 rfl rfl)
theorem dX1_compareNew_77 : decode cX1_compareNew 77 = .ok (.goto 4, 3) := dk_167 0 4 (dk_at dksX1_compareNew_3 8 rfl rfl)
theorem dX1_compareNew_80 : decode cX1_compareNew 80 = .ok (.iconst 1, 1) := dk_4 (dk_at dksX1_compareNew_3 11 rfl rfl)
theorem dX1_compareNew_81 : decode cX1_compareNew 81 = .ok (.ireturn, 1) := dk_172 (dk_at dksX1_compareNew_3 12 rfl rfl)
theorem dX1_compareNew_82 : decode cX1_compareNew 82 = .ok (.iinc 3 1, 3) := dk_132 3 1 (dk_at dksX1_compareNew_3 13 rfl rfl)
theorem dX1_compareNew_85 : decode cX1_compareNew 85 = .ok (.goto (-83), 3) := dk_167 255 173 (dk_at dksX1_compareNew_3 16 rfl rfl)
theorem dX1_compareNew_88 : decode cX1_compareNew 88 = .ok (.iconst 0, 1) := dk_3 (dk_at dksX1_compareNew_3 19 rfl rfl)
theorem dX1_compareNew_89 : decode cX1_compareNew 89 = .ok (.ireturn, 1) := dk_172 (dk_at dksX1_compareNew_3 20 rfl rfl)
abbrev cX1_comes : ByteArray := prog_7_method_16_code
def yX1_comes : MethodName := ⟨RX1, "comes", "(I)V"⟩
def dkwX1_comes_4 : List UInt8 := [42, 89, 180, 0, 109, 4, 96, 181, 0, 109, 177]
abbrev dktX1_comes_4 : List UInt8 := dkwX1_comes_4 ++ []
def dkwX1_comes_3 : List UInt8 := [16, 8, 28, 104, 29, 96, 42, 180, 0, 37, 16, 8, 27, 104, 29, 96, 46, 79, 132, 3, 1, 167, 255, 225]
abbrev dktX1_comes_3 : List UInt8 := dkwX1_comes_3 ++ dktX1_comes_4
def dkwX1_comes_2 : List UInt8 := [180, 0, 19, 28, 42, 180, 0, 40, 27, 46, 79, 3, 62, 29, 16, 8, 162, 0, 31, 42, 180, 0, 16]
abbrev dktX1_comes_2 : List UInt8 := dkwX1_comes_2 ++ dktX1_comes_3
def dkwX1_comes_1 : List UInt8 := [28, 182, 0, 116, 132, 2, 255, 167, 255, 230, 42, 180, 0, 13, 28, 42, 180, 0, 34, 27, 46, 79, 42]
abbrev dktX1_comes_1 : List UInt8 := dkwX1_comes_1 ++ dktX1_comes_2
def dkwX1_comes_0 : List UInt8 := [42, 180, 0, 109, 61, 28, 158, 0, 28, 42, 28, 4, 100, 27, 182, 0, 112, 158, 0, 17, 42, 28, 4, 100]
abbrev dktX1_comes_0 : List UInt8 := dkwX1_comes_0 ++ dktX1_comes_1
theorem dksX1_comes_0 : cX1_comes.data.toList.drop 0 = dktX1_comes_0 := by decide +kernel
theorem dksX1_comes_1 : cX1_comes.data.toList.drop 24 = dktX1_comes_1 := dk_seg dksX1_comes_0 24 rfl rfl
theorem dksX1_comes_2 : cX1_comes.data.toList.drop 47 = dktX1_comes_2 := dk_seg dksX1_comes_1 23 rfl rfl
theorem dksX1_comes_3 : cX1_comes.data.toList.drop 70 = dktX1_comes_3 := dk_seg dksX1_comes_2 23 rfl rfl
theorem dksX1_comes_4 : cX1_comes.data.toList.drop 94 = dktX1_comes_4 := dk_seg dksX1_comes_3 24 rfl rfl
theorem dX1_comes_0 : decode cX1_comes 0 = .ok (.aload_n 0, 1) := dk_42 (dk_at dksX1_comes_0 0 rfl rfl)
theorem dX1_comes_1 : decode cX1_comes 1 = .ok (.getfield 109, 3) := dk_180 0 109 (dk_at dksX1_comes_0 1 rfl rfl)
theorem dX1_comes_4 : decode cX1_comes 4 = .ok (.istore_n 2, 1) := dk_61 (dk_at dksX1_comes_0 4 rfl rfl)
theorem dX1_comes_5 : decode cX1_comes 5 = .ok (.iload_n 2, 1) := dk_28 (dk_at dksX1_comes_0 5 rfl rfl)
theorem dX1_comes_6 : decode cX1_comes 6 = .ok (.ifCond .le 28, 3) := dk_158 0 28 (dk_at dksX1_comes_0 6 rfl rfl)
theorem dX1_comes_9 : decode cX1_comes 9 = .ok (.aload_n 0, 1) := dk_42 (dk_at dksX1_comes_0 9 rfl rfl)
theorem dX1_comes_10 : decode cX1_comes 10 = .ok (.iload_n 2, 1) := dk_28 (dk_at dksX1_comes_0 10 rfl rfl)
theorem dX1_comes_11 : decode cX1_comes 11 = .ok (.iconst 1, 1) := dk_4 (dk_at dksX1_comes_0 11 rfl rfl)
theorem dX1_comes_12 : decode cX1_comes 12 = .ok (.isub, 1) := dk_100 (dk_at dksX1_comes_0 12 rfl rfl)
theorem dX1_comes_13 : decode cX1_comes 13 = .ok (.iload_n 1, 1) := dk_27 (dk_at dksX1_comes_0 13 rfl rfl)
theorem dX1_comes_14 : decode cX1_comes 14 = .ok (.invokevirtual 112, 3) := dk_182 0 112 (dk_at dksX1_comes_0 14 rfl rfl)
theorem dX1_comes_17 : decode cX1_comes 17 = .ok (.ifCond .le 17, 3) := dk_158 0 17 (dk_at dksX1_comes_0 17 rfl rfl)
theorem dX1_comes_20 : decode cX1_comes 20 = .ok (.aload_n 0, 1) := dk_42 (dk_at dksX1_comes_0 20 rfl rfl)
theorem dX1_comes_21 : decode cX1_comes 21 = .ok (.iload_n 2, 1) := dk_28 (dk_at dksX1_comes_0 21 rfl rfl)
theorem dX1_comes_22 : decode cX1_comes 22 = .ok (.iconst 1, 1) := dk_4 (dk_at dksX1_comes_0 22 rfl rfl)
theorem dX1_comes_23 : decode cX1_comes 23 = .ok (.isub, 1) := dk_100 (dk_at dksX1_comes_0 23 rfl rfl)
theorem dX1_comes_24 : decode cX1_comes 24 = .ok (.iload_n 2, 1) := dk_28 (dk_at dksX1_comes_1 0 rfl rfl)
theorem dX1_comes_25 : decode cX1_comes 25 = .ok (.invokevirtual 116, 3) := dk_182 0 116 (dk_at dksX1_comes_1 1 rfl rfl)
theorem dX1_comes_28 : decode cX1_comes 28 = .ok (.iinc 2 (-1), 3) := dk_132 2 255 (dk_at dksX1_comes_1 4 rfl rfl)
theorem dX1_comes_31 : decode cX1_comes 31 = .ok (.goto (-26), 3) := dk_167 255 230 (dk_at dksX1_comes_1 7 rfl rfl)
theorem dX1_comes_34 : decode cX1_comes 34 = .ok (.aload_n 0, 1) := dk_42 (dk_at dksX1_comes_1 10 rfl rfl)
theorem dX1_comes_35 : decode cX1_comes 35 = .ok (.getfield 13, 3) := dk_180 0 13 (dk_at dksX1_comes_1 11 rfl rfl)
theorem dX1_comes_38 : decode cX1_comes 38 = .ok (.iload_n 2, 1) := dk_28 (dk_at dksX1_comes_1 14 rfl rfl)
theorem dX1_comes_39 : decode cX1_comes 39 = .ok (.aload_n 0, 1) := dk_42 (dk_at dksX1_comes_1 15 rfl rfl)
theorem dX1_comes_40 : decode cX1_comes 40 = .ok (.getfield 34, 3) := dk_180 0 34 (dk_at dksX1_comes_1 16 rfl rfl)
theorem dX1_comes_43 : decode cX1_comes 43 = .ok (.iload_n 1, 1) := dk_27 (dk_at dksX1_comes_1 19 rfl rfl)
theorem dX1_comes_44 : decode cX1_comes 44 = .ok (.iaload, 1) := dk_46 (dk_at dksX1_comes_1 20 rfl rfl)
theorem dX1_comes_45 : decode cX1_comes 45 = .ok (.iastore, 1) := dk_79 (dk_at dksX1_comes_1 21 rfl rfl)
theorem dX1_comes_46 : decode cX1_comes 46 = .ok (.aload_n 0, 1) := dk_42 (dk_at dksX1_comes_1 22 rfl rfl)
theorem dX1_comes_47 : decode cX1_comes 47 = .ok (.getfield 19, 3) := dk_180 0 19 (dk_at dksX1_comes_2 0 rfl rfl)
theorem dX1_comes_50 : decode cX1_comes 50 = .ok (.iload_n 2, 1) := dk_28 (dk_at dksX1_comes_2 3 rfl rfl)
theorem dX1_comes_51 : decode cX1_comes 51 = .ok (.aload_n 0, 1) := dk_42 (dk_at dksX1_comes_2 4 rfl rfl)
theorem dX1_comes_52 : decode cX1_comes 52 = .ok (.getfield 40, 3) := dk_180 0 40 (dk_at dksX1_comes_2 5 rfl rfl)
theorem dX1_comes_55 : decode cX1_comes 55 = .ok (.iload_n 1, 1) := dk_27 (dk_at dksX1_comes_2 8 rfl rfl)
theorem dX1_comes_56 : decode cX1_comes 56 = .ok (.iaload, 1) := dk_46 (dk_at dksX1_comes_2 9 rfl rfl)
theorem dX1_comes_57 : decode cX1_comes 57 = .ok (.iastore, 1) := dk_79 (dk_at dksX1_comes_2 10 rfl rfl)
theorem dX1_comes_58 : decode cX1_comes 58 = .ok (.iconst 0, 1) := dk_3 (dk_at dksX1_comes_2 11 rfl rfl)
theorem dX1_comes_59 : decode cX1_comes 59 = .ok (.istore_n 3, 1) := dk_62 (dk_at dksX1_comes_2 12 rfl rfl)
theorem dX1_comes_60 : decode cX1_comes 60 = .ok (.iload_n 3, 1) := dk_29 (dk_at dksX1_comes_2 13 rfl rfl)
theorem dX1_comes_61 : decode cX1_comes 61 = .ok (.bipush 8, 2) := dk_16 8 (dk_at dksX1_comes_2 14 rfl rfl)
theorem dX1_comes_63 : decode cX1_comes 63 = .ok (.if_icmp .ge 31, 3) := dk_162 0 31 (dk_at dksX1_comes_2 16 rfl rfl)
theorem dX1_comes_66 : decode cX1_comes 66 = .ok (.aload_n 0, 1) := dk_42 (dk_at dksX1_comes_2 19 rfl rfl)
theorem dX1_comes_67 : decode cX1_comes 67 = .ok (.getfield 16, 3) := dk_180 0 16 (dk_at dksX1_comes_2 20 rfl rfl)
theorem dX1_comes_70 : decode cX1_comes 70 = .ok (.bipush 8, 2) := dk_16 8 (dk_at dksX1_comes_3 0 rfl rfl)
theorem dX1_comes_72 : decode cX1_comes 72 = .ok (.iload_n 2, 1) := dk_28 (dk_at dksX1_comes_3 2 rfl rfl)
theorem dX1_comes_73 : decode cX1_comes 73 = .ok (.imul, 1) := dk_104 (dk_at dksX1_comes_3 3 rfl rfl)
theorem dX1_comes_74 : decode cX1_comes 74 = .ok (.iload_n 3, 1) := dk_29 (dk_at dksX1_comes_3 4 rfl rfl)
theorem dX1_comes_75 : decode cX1_comes 75 = .ok (.iadd, 1) := dk_96 (dk_at dksX1_comes_3 5 rfl rfl)
theorem dX1_comes_76 : decode cX1_comes 76 = .ok (.aload_n 0, 1) := dk_42 (dk_at dksX1_comes_3 6 rfl rfl)
theorem dX1_comes_77 : decode cX1_comes 77 = .ok (.getfield 37, 3) := dk_180 0 37 (dk_at dksX1_comes_3 7 rfl rfl)
theorem dX1_comes_80 : decode cX1_comes 80 = .ok (.bipush 8, 2) := dk_16 8 (dk_at dksX1_comes_3 10 rfl rfl)
theorem dX1_comes_82 : decode cX1_comes 82 = .ok (.iload_n 1, 1) := dk_27 (dk_at dksX1_comes_3 12 rfl rfl)
theorem dX1_comes_83 : decode cX1_comes 83 = .ok (.imul, 1) := dk_104 (dk_at dksX1_comes_3 13 rfl rfl)
theorem dX1_comes_84 : decode cX1_comes 84 = .ok (.iload_n 3, 1) := dk_29 (dk_at dksX1_comes_3 14 rfl rfl)
theorem dX1_comes_85 : decode cX1_comes 85 = .ok (.iadd, 1) := dk_96 (dk_at dksX1_comes_3 15 rfl rfl)
theorem dX1_comes_86 : decode cX1_comes 86 = .ok (.iaload, 1) := dk_46 (dk_at dksX1_comes_3 16 rfl rfl)
theorem dX1_comes_87 : decode cX1_comes 87 = .ok (.iastore, 1) := dk_79 (dk_at dksX1_comes_3 17 rfl rfl)
theorem dX1_comes_88 : decode cX1_comes 88 = .ok (.iinc 3 1, 3) := dk_132 3 1 (dk_at dksX1_comes_3 18 rfl rfl)
theorem dX1_comes_91 : decode cX1_comes 91 = .ok (.goto (-31), 3) := dk_167 255 225 (dk_at dksX1_comes_3 21 rfl rfl)
theorem dX1_comes_94 : decode cX1_comes 94 = .ok (.aload_n 0, 1) := dk_42 (dk_at dksX1_comes_4 0 rfl rfl)
theorem dX1_comes_95 : decode cX1_comes 95 = .ok (.dup, 1) := dk_89 (dk_at dksX1_comes_4 1 rfl rfl)
theorem dX1_comes_96 : decode cX1_comes 96 = .ok (.getfield 109, 3) := dk_180 0 109 (dk_at dksX1_comes_4 2 rfl rfl)
theorem dX1_comes_99 : decode cX1_comes 99 = .ok (.iconst 1, 1) := dk_4 (dk_at dksX1_comes_4 5 rfl rfl)
theorem dX1_comes_100 : decode cX1_comes 100 = .ok (.iadd, 1) := dk_96 (dk_at dksX1_comes_4 6 rfl rfl)
theorem dX1_comes_101 : decode cX1_comes 101 = .ok (.putfield 109, 3) := dk_181 0 109 (dk_at dksX1_comes_4 7 rfl rfl)
theorem dX1_comes_104 : decode cX1_comes 104 = .ok (.return_, 1) := dk_177 (dk_at dksX1_comes_4 10 rfl rfl)
abbrev cX1_moveName : ByteArray := prog_7_method_15_code
def yX1_moveName : MethodName := ⟨RX1, "moveName", "(II)V"⟩
def dkwX1_moveName_2 : List UInt8 := [27, 104, 29, 96, 46, 79, 132, 3, 1, 167, 255, 225, 177]
abbrev dktX1_moveName_2 : List UInt8 := dkwX1_moveName_2 ++ []
def dkwX1_moveName_1 : List UInt8 := [3, 62, 29, 16, 8, 162, 0, 31, 42, 180, 0, 16, 16, 8, 28, 104, 29, 96, 42, 180, 0, 16, 16, 8]
abbrev dktX1_moveName_1 : List UInt8 := dkwX1_moveName_1 ++ dktX1_moveName_2
def dkwX1_moveName_0 : List UInt8 := [42, 180, 0, 13, 28, 42, 180, 0, 13, 27, 46, 79, 42, 180, 0, 19, 28, 42, 180, 0, 19, 27, 46, 79]
abbrev dktX1_moveName_0 : List UInt8 := dkwX1_moveName_0 ++ dktX1_moveName_1
theorem dksX1_moveName_0 : cX1_moveName.data.toList.drop 0 = dktX1_moveName_0 := by decide +kernel
theorem dksX1_moveName_1 : cX1_moveName.data.toList.drop 24 = dktX1_moveName_1 := dk_seg dksX1_moveName_0 24 rfl rfl
theorem dksX1_moveName_2 : cX1_moveName.data.toList.drop 48 = dktX1_moveName_2 := dk_seg dksX1_moveName_1 24 rfl rfl
theorem dX1_moveName_0 : decode cX1_moveName 0 = .ok (.aload_n 0, 1) := dk_42 (dk_at dksX1_moveName_0 0 rfl rfl)
theorem dX1_moveName_1 : decode cX1_moveName 1 = .ok (.getfield 13, 3) := dk_180 0 13 (dk_at dksX1_moveName_0 1 rfl rfl)
theorem dX1_moveName_4 : decode cX1_moveName 4 = .ok (.iload_n 2, 1) := dk_28 (dk_at dksX1_moveName_0 4 rfl rfl)
theorem dX1_moveName_5 : decode cX1_moveName 5 = .ok (.aload_n 0, 1) := dk_42 (dk_at dksX1_moveName_0 5 rfl rfl)
theorem dX1_moveName_6 : decode cX1_moveName 6 = .ok (.getfield 13, 3) := dk_180 0 13 (dk_at dksX1_moveName_0 6 rfl rfl)
theorem dX1_moveName_9 : decode cX1_moveName 9 = .ok (.iload_n 1, 1) := dk_27 (dk_at dksX1_moveName_0 9 rfl rfl)
theorem dX1_moveName_10 : decode cX1_moveName 10 = .ok (.iaload, 1) := dk_46 (dk_at dksX1_moveName_0 10 rfl rfl)
theorem dX1_moveName_11 : decode cX1_moveName 11 = .ok (.iastore, 1) := dk_79 (dk_at dksX1_moveName_0 11 rfl rfl)
theorem dX1_moveName_12 : decode cX1_moveName 12 = .ok (.aload_n 0, 1) := dk_42 (dk_at dksX1_moveName_0 12 rfl rfl)
theorem dX1_moveName_13 : decode cX1_moveName 13 = .ok (.getfield 19, 3) := dk_180 0 19 (dk_at dksX1_moveName_0 13 rfl rfl)
theorem dX1_moveName_16 : decode cX1_moveName 16 = .ok (.iload_n 2, 1) := dk_28 (dk_at dksX1_moveName_0 16 rfl rfl)
theorem dX1_moveName_17 : decode cX1_moveName 17 = .ok (.aload_n 0, 1) := dk_42 (dk_at dksX1_moveName_0 17 rfl rfl)
theorem dX1_moveName_18 : decode cX1_moveName 18 = .ok (.getfield 19, 3) := dk_180 0 19 (dk_at dksX1_moveName_0 18 rfl rfl)
theorem dX1_moveName_21 : decode cX1_moveName 21 = .ok (.iload_n 1, 1) := dk_27 (dk_at dksX1_moveName_0 21 rfl rfl)
theorem dX1_moveName_22 : decode cX1_moveName 22 = .ok (.iaload, 1) := dk_46 (dk_at dksX1_moveName_0 22 rfl rfl)
theorem dX1_moveName_23 : decode cX1_moveName 23 = .ok (.iastore, 1) := dk_79 (dk_at dksX1_moveName_0 23 rfl rfl)
theorem dX1_moveName_24 : decode cX1_moveName 24 = .ok (.iconst 0, 1) := dk_3 (dk_at dksX1_moveName_1 0 rfl rfl)
theorem dX1_moveName_25 : decode cX1_moveName 25 = .ok (.istore_n 3, 1) := dk_62 (dk_at dksX1_moveName_1 1 rfl rfl)
theorem dX1_moveName_26 : decode cX1_moveName 26 = .ok (.iload_n 3, 1) := dk_29 (dk_at dksX1_moveName_1 2 rfl rfl)
theorem dX1_moveName_27 : decode cX1_moveName 27 = .ok (.bipush 8, 2) := dk_16 8 (dk_at dksX1_moveName_1 3 rfl rfl)
theorem dX1_moveName_29 : decode cX1_moveName 29 = .ok (.if_icmp .ge 31, 3) := dk_162 0 31 (dk_at dksX1_moveName_1 5 rfl rfl)
theorem dX1_moveName_32 : decode cX1_moveName 32 = .ok (.aload_n 0, 1) := dk_42 (dk_at dksX1_moveName_1 8 rfl rfl)
theorem dX1_moveName_33 : decode cX1_moveName 33 = .ok (.getfield 16, 3) := dk_180 0 16 (dk_at dksX1_moveName_1 9 rfl rfl)
theorem dX1_moveName_36 : decode cX1_moveName 36 = .ok (.bipush 8, 2) := dk_16 8 (dk_at dksX1_moveName_1 12 rfl rfl)
theorem dX1_moveName_38 : decode cX1_moveName 38 = .ok (.iload_n 2, 1) := dk_28 (dk_at dksX1_moveName_1 14 rfl rfl)
theorem dX1_moveName_39 : decode cX1_moveName 39 = .ok (.imul, 1) := dk_104 (dk_at dksX1_moveName_1 15 rfl rfl)
theorem dX1_moveName_40 : decode cX1_moveName 40 = .ok (.iload_n 3, 1) := dk_29 (dk_at dksX1_moveName_1 16 rfl rfl)
theorem dX1_moveName_41 : decode cX1_moveName 41 = .ok (.iadd, 1) := dk_96 (dk_at dksX1_moveName_1 17 rfl rfl)
theorem dX1_moveName_42 : decode cX1_moveName 42 = .ok (.aload_n 0, 1) := dk_42 (dk_at dksX1_moveName_1 18 rfl rfl)
theorem dX1_moveName_43 : decode cX1_moveName 43 = .ok (.getfield 16, 3) := dk_180 0 16 (dk_at dksX1_moveName_1 19 rfl rfl)
theorem dX1_moveName_46 : decode cX1_moveName 46 = .ok (.bipush 8, 2) := dk_16 8 (dk_at dksX1_moveName_1 22 rfl rfl)
theorem dX1_moveName_48 : decode cX1_moveName 48 = .ok (.iload_n 1, 1) := dk_27 (dk_at dksX1_moveName_2 0 rfl rfl)
theorem dX1_moveName_49 : decode cX1_moveName 49 = .ok (.imul, 1) := dk_104 (dk_at dksX1_moveName_2 1 rfl rfl)
theorem dX1_moveName_50 : decode cX1_moveName 50 = .ok (.iload_n 3, 1) := dk_29 (dk_at dksX1_moveName_2 2 rfl rfl)
theorem dX1_moveName_51 : decode cX1_moveName 51 = .ok (.iadd, 1) := dk_96 (dk_at dksX1_moveName_2 3 rfl rfl)
theorem dX1_moveName_52 : decode cX1_moveName 52 = .ok (.iaload, 1) := dk_46 (dk_at dksX1_moveName_2 4 rfl rfl)
theorem dX1_moveName_53 : decode cX1_moveName 53 = .ok (.iastore, 1) := dk_79 (dk_at dksX1_moveName_2 5 rfl rfl)
theorem dX1_moveName_54 : decode cX1_moveName 54 = .ok (.iinc 3 1, 3) := dk_132 3 1 (dk_at dksX1_moveName_2 6 rfl rfl)
theorem dX1_moveName_57 : decode cX1_moveName 57 = .ok (.goto (-31), 3) := dk_167 255 225 (dk_at dksX1_moveName_2 9 rfl rfl)
theorem dX1_moveName_60 : decode cX1_moveName 60 = .ok (.return_, 1) := dk_177 (dk_at dksX1_moveName_2 12 rfl rfl)
abbrev cX1_dial : ByteArray := prog_7_method_19_code
def yX1_dial : MethodName := ⟨RX1, "dial", "()I"⟩
def dkwX1_dial_5 : List UInt8 := [172]
abbrev dktX1_dial_5 : List UInt8 := dkwX1_dial_5 ++ []
def dkwX1_dial_4 : List UInt8 := [46, 79, 132, 2, 1, 167, 255, 235, 42, 89, 180, 0, 136, 4, 96, 181, 0, 136, 42, 3, 181, 0, 77, 27]
abbrev dktX1_dial_4 : List UInt8 := dkwX1_dial_4 ++ dktX1_dial_5
def dkwX1_dial_3 : List UInt8 := [132, 2, 1, 167, 255, 199, 3, 61, 28, 16, 26, 162, 0, 21, 42, 180, 0, 22, 28, 42, 180, 0, 43, 28]
abbrev dktX1_dial_3 : List UInt8 := dkwX1_dial_3 ++ dktX1_dial_4
def dkwX1_dial_2 : List UInt8 := [167, 0, 4, 3, 96, 62, 132, 4, 1, 167, 255, 227, 29, 27, 164, 0, 7, 29, 167, 0, 4, 27, 60]
abbrev dktX1_dial_2 : List UInt8 := dkwX1_dial_2 ++ dktX1_dial_3
def dkwX1_dial_1 : List UInt8 := [54, 4, 21, 4, 16, 26, 162, 0, 28, 29, 42, 180, 0, 43, 21, 4, 46, 28, 160, 0, 7, 4]
abbrev dktX1_dial_1 : List UInt8 := dkwX1_dial_1 ++ dktX1_dial_2
def dkwX1_dial_0 : List UInt8 := [42, 182, 0, 133, 154, 0, 6, 16, 153, 172, 3, 60, 5, 61, 28, 16, 10, 162, 0, 57, 3, 62, 3]
abbrev dktX1_dial_0 : List UInt8 := dkwX1_dial_0 ++ dktX1_dial_1
theorem dksX1_dial_0 : cX1_dial.data.toList.drop 0 = dktX1_dial_0 := by decide +kernel
theorem dksX1_dial_1 : cX1_dial.data.toList.drop 23 = dktX1_dial_1 := dk_seg dksX1_dial_0 23 rfl rfl
theorem dksX1_dial_2 : cX1_dial.data.toList.drop 45 = dktX1_dial_2 := dk_seg dksX1_dial_1 22 rfl rfl
theorem dksX1_dial_3 : cX1_dial.data.toList.drop 68 = dktX1_dial_3 := dk_seg dksX1_dial_2 23 rfl rfl
theorem dksX1_dial_4 : cX1_dial.data.toList.drop 92 = dktX1_dial_4 := dk_seg dksX1_dial_3 24 rfl rfl
theorem dksX1_dial_5 : cX1_dial.data.toList.drop 116 = dktX1_dial_5 := dk_seg dksX1_dial_4 24 rfl rfl
theorem dX1_dial_0 : decode cX1_dial 0 = .ok (.aload_n 0, 1) := dk_42 (dk_at dksX1_dial_0 0 rfl rfl)
theorem dX1_dial_1 : decode cX1_dial 1 = .ok (.invokevirtual 133, 3) := dk_182 0 133 (dk_at dksX1_dial_0 1 rfl rfl)
theorem dX1_dial_4 : decode cX1_dial 4 = .ok (.ifCond .ne 6, 3) := dk_154 0 6 (dk_at dksX1_dial_0 4 rfl rfl)
theorem dX1_dial_7 : decode cX1_dial 7 = .ok (.bipush (-103), 2) := dk_16 153 (dk_at dksX1_dial_0 7 rfl rfl)
theorem dX1_dial_9 : decode cX1_dial 9 = .ok (.ireturn, 1) := dk_172 (dk_at dksX1_dial_0 9 rfl rfl)
theorem dX1_dial_10 : decode cX1_dial 10 = .ok (.iconst 0, 1) := dk_3 (dk_at dksX1_dial_0 10 rfl rfl)
theorem dX1_dial_11 : decode cX1_dial 11 = .ok (.istore_n 1, 1) := dk_60 (dk_at dksX1_dial_0 11 rfl rfl)
theorem dX1_dial_12 : decode cX1_dial 12 = .ok (.iconst 2, 1) := dk_5 (dk_at dksX1_dial_0 12 rfl rfl)
theorem dX1_dial_13 : decode cX1_dial 13 = .ok (.istore_n 2, 1) := dk_61 (dk_at dksX1_dial_0 13 rfl rfl)
theorem dX1_dial_14 : decode cX1_dial 14 = .ok (.iload_n 2, 1) := dk_28 (dk_at dksX1_dial_0 14 rfl rfl)
theorem dX1_dial_15 : decode cX1_dial 15 = .ok (.bipush 10, 2) := dk_16 10 (dk_at dksX1_dial_0 15 rfl rfl)
theorem dX1_dial_17 : decode cX1_dial 17 = .ok (.if_icmp .ge 57, 3) := dk_162 0 57 (dk_at dksX1_dial_0 17 rfl rfl)
theorem dX1_dial_20 : decode cX1_dial 20 = .ok (.iconst 0, 1) := dk_3 (dk_at dksX1_dial_0 20 rfl rfl)
theorem dX1_dial_21 : decode cX1_dial 21 = .ok (.istore_n 3, 1) := dk_62 (dk_at dksX1_dial_0 21 rfl rfl)
theorem dX1_dial_22 : decode cX1_dial 22 = .ok (.iconst 0, 1) := dk_3 (dk_at dksX1_dial_0 22 rfl rfl)
theorem dX1_dial_23 : decode cX1_dial 23 = .ok (.istore 4, 2) := dk_54 4 (dk_at dksX1_dial_1 0 rfl rfl)
theorem dX1_dial_25 : decode cX1_dial 25 = .ok (.iload 4, 2) := dk_21 4 (dk_at dksX1_dial_1 2 rfl rfl)
theorem dX1_dial_27 : decode cX1_dial 27 = .ok (.bipush 26, 2) := dk_16 26 (dk_at dksX1_dial_1 4 rfl rfl)
theorem dX1_dial_29 : decode cX1_dial 29 = .ok (.if_icmp .ge 28, 3) := dk_162 0 28 (dk_at dksX1_dial_1 6 rfl rfl)
theorem dX1_dial_32 : decode cX1_dial 32 = .ok (.iload_n 3, 1) := dk_29 (dk_at dksX1_dial_1 9 rfl rfl)
theorem dX1_dial_33 : decode cX1_dial 33 = .ok (.aload_n 0, 1) := dk_42 (dk_at dksX1_dial_1 10 rfl rfl)
theorem dX1_dial_34 : decode cX1_dial 34 = .ok (.getfield 43, 3) := dk_180 0 43 (dk_at dksX1_dial_1 11 rfl rfl)
theorem dX1_dial_37 : decode cX1_dial 37 = .ok (.iload 4, 2) := dk_21 4 (dk_at dksX1_dial_1 14 rfl rfl)
theorem dX1_dial_39 : decode cX1_dial 39 = .ok (.iaload, 1) := dk_46 (dk_at dksX1_dial_1 16 rfl rfl)
theorem dX1_dial_40 : decode cX1_dial 40 = .ok (.iload_n 2, 1) := dk_28 (dk_at dksX1_dial_1 17 rfl rfl)
theorem dX1_dial_41 : decode cX1_dial 41 = .ok (.if_icmp .ne 7, 3) := dk_160 0 7 (dk_at dksX1_dial_1 18 rfl rfl)
theorem dX1_dial_44 : decode cX1_dial 44 = .ok (.iconst 1, 1) := dk_4 (dk_at dksX1_dial_1 21 rfl rfl)
theorem dX1_dial_45 : decode cX1_dial 45 = .ok (.goto 4, 3) := dk_167 0 4 (dk_at dksX1_dial_2 0 rfl rfl)
theorem dX1_dial_48 : decode cX1_dial 48 = .ok (.iconst 0, 1) := dk_3 (dk_at dksX1_dial_2 3 rfl rfl)
theorem dX1_dial_49 : decode cX1_dial 49 = .ok (.iadd, 1) := dk_96 (dk_at dksX1_dial_2 4 rfl rfl)
theorem dX1_dial_50 : decode cX1_dial 50 = .ok (.istore_n 3, 1) := dk_62 (dk_at dksX1_dial_2 5 rfl rfl)
theorem dX1_dial_51 : decode cX1_dial 51 = .ok (.iinc 4 1, 3) := dk_132 4 1 (dk_at dksX1_dial_2 6 rfl rfl)
theorem dX1_dial_54 : decode cX1_dial 54 = .ok (.goto (-29), 3) := dk_167 255 227 (dk_at dksX1_dial_2 9 rfl rfl)
theorem dX1_dial_57 : decode cX1_dial 57 = .ok (.iload_n 3, 1) := dk_29 (dk_at dksX1_dial_2 12 rfl rfl)
theorem dX1_dial_58 : decode cX1_dial 58 = .ok (.iload_n 1, 1) := dk_27 (dk_at dksX1_dial_2 13 rfl rfl)
theorem dX1_dial_59 : decode cX1_dial 59 = .ok (.if_icmp .le 7, 3) := dk_164 0 7 (dk_at dksX1_dial_2 14 rfl rfl)
theorem dX1_dial_62 : decode cX1_dial 62 = .ok (.iload_n 3, 1) := dk_29 (dk_at dksX1_dial_2 17 rfl rfl)
theorem dX1_dial_63 : decode cX1_dial 63 = .ok (.goto 4, 3) := dk_167 0 4 (dk_at dksX1_dial_2 18 rfl rfl)
theorem dX1_dial_66 : decode cX1_dial 66 = .ok (.iload_n 1, 1) := dk_27 (dk_at dksX1_dial_2 21 rfl rfl)
theorem dX1_dial_67 : decode cX1_dial 67 = .ok (.istore_n 1, 1) := dk_60 (dk_at dksX1_dial_2 22 rfl rfl)
theorem dX1_dial_68 : decode cX1_dial 68 = .ok (.iinc 2 1, 3) := dk_132 2 1 (dk_at dksX1_dial_3 0 rfl rfl)
theorem dX1_dial_71 : decode cX1_dial 71 = .ok (.goto (-57), 3) := dk_167 255 199 (dk_at dksX1_dial_3 3 rfl rfl)
theorem dX1_dial_74 : decode cX1_dial 74 = .ok (.iconst 0, 1) := dk_3 (dk_at dksX1_dial_3 6 rfl rfl)
theorem dX1_dial_75 : decode cX1_dial 75 = .ok (.istore_n 2, 1) := dk_61 (dk_at dksX1_dial_3 7 rfl rfl)
theorem dX1_dial_76 : decode cX1_dial 76 = .ok (.iload_n 2, 1) := dk_28 (dk_at dksX1_dial_3 8 rfl rfl)
theorem dX1_dial_77 : decode cX1_dial 77 = .ok (.bipush 26, 2) := dk_16 26 (dk_at dksX1_dial_3 9 rfl rfl)
theorem dX1_dial_79 : decode cX1_dial 79 = .ok (.if_icmp .ge 21, 3) := dk_162 0 21 (dk_at dksX1_dial_3 11 rfl rfl)
theorem dX1_dial_82 : decode cX1_dial 82 = .ok (.aload_n 0, 1) := dk_42 (dk_at dksX1_dial_3 14 rfl rfl)
theorem dX1_dial_83 : decode cX1_dial 83 = .ok (.getfield 22, 3) := dk_180 0 22 (dk_at dksX1_dial_3 15 rfl rfl)
theorem dX1_dial_86 : decode cX1_dial 86 = .ok (.iload_n 2, 1) := dk_28 (dk_at dksX1_dial_3 18 rfl rfl)
theorem dX1_dial_87 : decode cX1_dial 87 = .ok (.aload_n 0, 1) := dk_42 (dk_at dksX1_dial_3 19 rfl rfl)
theorem dX1_dial_88 : decode cX1_dial 88 = .ok (.getfield 43, 3) := dk_180 0 43 (dk_at dksX1_dial_3 20 rfl rfl)
theorem dX1_dial_91 : decode cX1_dial 91 = .ok (.iload_n 2, 1) := dk_28 (dk_at dksX1_dial_3 23 rfl rfl)
theorem dX1_dial_92 : decode cX1_dial 92 = .ok (.iaload, 1) := dk_46 (dk_at dksX1_dial_4 0 rfl rfl)
theorem dX1_dial_93 : decode cX1_dial 93 = .ok (.iastore, 1) := dk_79 (dk_at dksX1_dial_4 1 rfl rfl)
theorem dX1_dial_94 : decode cX1_dial 94 = .ok (.iinc 2 1, 3) := dk_132 2 1 (dk_at dksX1_dial_4 2 rfl rfl)
theorem dX1_dial_97 : decode cX1_dial 97 = .ok (.goto (-21), 3) := dk_167 255 235 (dk_at dksX1_dial_4 5 rfl rfl)
theorem dX1_dial_100 : decode cX1_dial 100 = .ok (.aload_n 0, 1) := dk_42 (dk_at dksX1_dial_4 8 rfl rfl)
theorem dX1_dial_101 : decode cX1_dial 101 = .ok (.dup, 1) := dk_89 (dk_at dksX1_dial_4 9 rfl rfl)
theorem dX1_dial_102 : decode cX1_dial 102 = .ok (.getfield 136, 3) := dk_180 0 136 (dk_at dksX1_dial_4 10 rfl rfl)
theorem dX1_dial_105 : decode cX1_dial 105 = .ok (.iconst 1, 1) := dk_4 (dk_at dksX1_dial_4 13 rfl rfl)
theorem dX1_dial_106 : decode cX1_dial 106 = .ok (.iadd, 1) := dk_96 (dk_at dksX1_dial_4 14 rfl rfl)
theorem dX1_dial_107 : decode cX1_dial 107 = .ok (.putfield 136, 3) := dk_181 0 136 (dk_at dksX1_dial_4 15 rfl rfl)
theorem dX1_dial_110 : decode cX1_dial 110 = .ok (.aload_n 0, 1) := dk_42 (dk_at dksX1_dial_4 18 rfl rfl)
theorem dX1_dial_111 : decode cX1_dial 111 = .ok (.iconst 0, 1) := dk_3 (dk_at dksX1_dial_4 19 rfl rfl)
theorem dX1_dial_112 : decode cX1_dial 112 = .ok (.putfield 77, 3) := dk_181 0 77 (dk_at dksX1_dial_4 20 rfl rfl)
theorem dX1_dial_115 : decode cX1_dial 115 = .ok (.iload_n 1, 1) := dk_27 (dk_at dksX1_dial_4 23 rfl rfl)
theorem dX1_dial_116 : decode cX1_dial 116 = .ok (.ireturn, 1) := dk_172 (dk_at dksX1_dial_5 0 rfl rfl)
abbrev cX1_isDial : ByteArray := prog_7_method_18_code
def yX1_isDial : MethodName := ⟨RX1, "isDial", "()Z"⟩
def dkwX1_isDial_6 : List UInt8 := [172]
abbrev dktX1_isDial_6 : List UInt8 := dkwX1_isDial_6 ++ []
def dkwX1_isDial_5 : List UInt8 := [153, 0, 23, 27, 16, 26, 160, 0, 17, 28, 16, 9, 160, 0, 11, 29, 153, 0, 7, 4, 167, 0, 4, 3]
abbrev dktX1_isDial_5 : List UInt8 := dkwX1_isDial_5 ++ dktX1_isDial_6
def dkwX1_isDial_4 : List UInt8 := [153, 0, 15, 42, 180, 0, 43, 27, 28, 79, 132, 1, 1, 4, 62, 132, 5, 1, 167, 255, 158, 21, 4]
abbrev dktX1_isDial_4 : List UInt8 := dkwX1_isDial_4 ++ dktX1_isDial_5
def dkwX1_isDial_3 : List UInt8 := [42, 180, 0, 7, 21, 5, 46, 16, 97, 27, 96, 160, 0, 7, 4, 167, 0, 4, 3, 54, 4, 21, 4]
abbrev dktX1_isDial_3 : List UInt8 := dkwX1_isDial_3 ++ dktX1_isDial_4
def dkwX1_isDial_2 : List UInt8 := [162, 0, 7, 4, 167, 0, 4, 3, 54, 4, 132, 2, 1, 3, 62, 167, 0, 47, 27, 16, 26, 162, 0, 21]
abbrev dktX1_isDial_2 : List UInt8 := dkwX1_isDial_2 ++ dktX1_isDial_3
def dkwX1_isDial_1 : List UInt8 := [153, 0, 90, 42, 180, 0, 7, 21, 5, 46, 16, 44, 160, 0, 28, 29, 153, 0, 13, 28, 16, 9]
abbrev dktX1_isDial_1 : List UInt8 := dkwX1_isDial_1 ++ dktX1_isDial_2
def dkwX1_isDial_0 : List UInt8 := [3, 60, 5, 61, 3, 62, 4, 54, 4, 3, 54, 5, 21, 5, 42, 180, 0, 77, 162, 0, 95, 21, 4]
abbrev dktX1_isDial_0 : List UInt8 := dkwX1_isDial_0 ++ dktX1_isDial_1
theorem dksX1_isDial_0 : cX1_isDial.data.toList.drop 0 = dktX1_isDial_0 := by decide +kernel
theorem dksX1_isDial_1 : cX1_isDial.data.toList.drop 23 = dktX1_isDial_1 := dk_seg dksX1_isDial_0 23 rfl rfl
theorem dksX1_isDial_2 : cX1_isDial.data.toList.drop 45 = dktX1_isDial_2 := dk_seg dksX1_isDial_1 22 rfl rfl
theorem dksX1_isDial_3 : cX1_isDial.data.toList.drop 69 = dktX1_isDial_3 := dk_seg dksX1_isDial_2 24 rfl rfl
theorem dksX1_isDial_4 : cX1_isDial.data.toList.drop 92 = dktX1_isDial_4 := dk_seg dksX1_isDial_3 23 rfl rfl
theorem dksX1_isDial_5 : cX1_isDial.data.toList.drop 115 = dktX1_isDial_5 := dk_seg dksX1_isDial_4 23 rfl rfl
theorem dksX1_isDial_6 : cX1_isDial.data.toList.drop 139 = dktX1_isDial_6 := dk_seg dksX1_isDial_5 24 rfl rfl
theorem dX1_isDial_0 : decode cX1_isDial 0 = .ok (.iconst 0, 1) := dk_3 (dk_at dksX1_isDial_0 0 rfl rfl)
theorem dX1_isDial_1 : decode cX1_isDial 1 = .ok (.istore_n 1, 1) := dk_60 (dk_at dksX1_isDial_0 1 rfl rfl)
theorem dX1_isDial_2 : decode cX1_isDial 2 = .ok (.iconst 2, 1) := dk_5 (dk_at dksX1_isDial_0 2 rfl rfl)
theorem dX1_isDial_3 : decode cX1_isDial 3 = .ok (.istore_n 2, 1) := dk_61 (dk_at dksX1_isDial_0 3 rfl rfl)
theorem dX1_isDial_4 : decode cX1_isDial 4 = .ok (.iconst 0, 1) := dk_3 (dk_at dksX1_isDial_0 4 rfl rfl)
theorem dX1_isDial_5 : decode cX1_isDial 5 = .ok (.istore_n 3, 1) := dk_62 (dk_at dksX1_isDial_0 5 rfl rfl)
theorem dX1_isDial_6 : decode cX1_isDial 6 = .ok (.iconst 1, 1) := dk_4 (dk_at dksX1_isDial_0 6 rfl rfl)
theorem dX1_isDial_7 : decode cX1_isDial 7 = .ok (.istore 4, 2) := dk_54 4 (dk_at dksX1_isDial_0 7 rfl rfl)
theorem dX1_isDial_9 : decode cX1_isDial 9 = .ok (.iconst 0, 1) := dk_3 (dk_at dksX1_isDial_0 9 rfl rfl)
theorem dX1_isDial_10 : decode cX1_isDial 10 = .ok (.istore 5, 2) := dk_54 5 (dk_at dksX1_isDial_0 10 rfl rfl)
theorem dX1_isDial_12 : decode cX1_isDial 12 = .ok (.iload 5, 2) := dk_21 5 (dk_at dksX1_isDial_0 12 rfl rfl)
theorem dX1_isDial_14 : decode cX1_isDial 14 = .ok (.aload_n 0, 1) := dk_42 (dk_at dksX1_isDial_0 14 rfl rfl)
theorem dX1_isDial_15 : decode cX1_isDial 15 = .ok (.getfield 77, 3) := dk_180 0 77 (dk_at dksX1_isDial_0 15 rfl rfl)
theorem dX1_isDial_18 : decode cX1_isDial 18 = .ok (.if_icmp .ge 95, 3) := dk_162 0 95 (dk_at dksX1_isDial_0 18 rfl rfl)
theorem dX1_isDial_21 : decode cX1_isDial 21 = .ok (.iload 4, 2) := dk_21 4 (dk_at dksX1_isDial_0 21 rfl rfl)
theorem dX1_isDial_23 : decode cX1_isDial 23 = .ok (.ifCond .eq 90, 3) := dk_153 0 90 (dk_at dksX1_isDial_1 0 rfl rfl)
theorem dX1_isDial_26 : decode cX1_isDial 26 = .ok (.aload_n 0, 1) := dk_42 (dk_at dksX1_isDial_1 3 rfl rfl)
theorem dX1_isDial_27 : decode cX1_isDial 27 = .ok (.getfield 7, 3) := dk_180 0 7 (dk_at dksX1_isDial_1 4 rfl rfl)
theorem dX1_isDial_30 : decode cX1_isDial 30 = .ok (.iload 5, 2) := dk_21 5 (dk_at dksX1_isDial_1 7 rfl rfl)
theorem dX1_isDial_32 : decode cX1_isDial 32 = .ok (.iaload, 1) := dk_46 (dk_at dksX1_isDial_1 9 rfl rfl)
theorem dX1_isDial_33 : decode cX1_isDial 33 = .ok (.bipush 44, 2) := dk_16 44 (dk_at dksX1_isDial_1 10 rfl rfl)
theorem dX1_isDial_35 : decode cX1_isDial 35 = .ok (.if_icmp .ne 28, 3) := dk_160 0 28 (dk_at dksX1_isDial_1 12 rfl rfl)
theorem dX1_isDial_38 : decode cX1_isDial 38 = .ok (.iload_n 3, 1) := dk_29 (dk_at dksX1_isDial_1 15 rfl rfl)
theorem dX1_isDial_39 : decode cX1_isDial 39 = .ok (.ifCond .eq 13, 3) := dk_153 0 13 (dk_at dksX1_isDial_1 16 rfl rfl)
theorem dX1_isDial_42 : decode cX1_isDial 42 = .ok (.iload_n 2, 1) := dk_28 (dk_at dksX1_isDial_1 19 rfl rfl)
theorem dX1_isDial_43 : decode cX1_isDial 43 = .ok (.bipush 9, 2) := dk_16 9 (dk_at dksX1_isDial_1 20 rfl rfl)
theorem dX1_isDial_45 : decode cX1_isDial 45 = .ok (.if_icmp .ge 7, 3) := dk_162 0 7 (dk_at dksX1_isDial_2 0 rfl rfl)
theorem dX1_isDial_48 : decode cX1_isDial 48 = .ok (.iconst 1, 1) := dk_4 (dk_at dksX1_isDial_2 3 rfl rfl)
theorem dX1_isDial_49 : decode cX1_isDial 49 = .ok (.goto 4, 3) := dk_167 0 4 (dk_at dksX1_isDial_2 4 rfl rfl)
theorem dX1_isDial_52 : decode cX1_isDial 52 = .ok (.iconst 0, 1) := dk_3 (dk_at dksX1_isDial_2 7 rfl rfl)
theorem dX1_isDial_53 : decode cX1_isDial 53 = .ok (.istore 4, 2) := dk_54 4 (dk_at dksX1_isDial_2 8 rfl rfl)
theorem dX1_isDial_55 : decode cX1_isDial 55 = .ok (.iinc 2 1, 3) := dk_132 2 1 (dk_at dksX1_isDial_2 10 rfl rfl)
theorem dX1_isDial_58 : decode cX1_isDial 58 = .ok (.iconst 0, 1) := dk_3 (dk_at dksX1_isDial_2 13 rfl rfl)
theorem dX1_isDial_59 : decode cX1_isDial 59 = .ok (.istore_n 3, 1) := dk_62 (dk_at dksX1_isDial_2 14 rfl rfl)
theorem dX1_isDial_60 : decode cX1_isDial 60 = .ok (.goto 47, 3) := dk_167 0 47 (dk_at dksX1_isDial_2 15 rfl rfl)
theorem dX1_isDial_63 : decode cX1_isDial 63 = .ok (.iload_n 1, 1) := dk_27 (dk_at dksX1_isDial_2 18 rfl rfl)
theorem dX1_isDial_64 : decode cX1_isDial 64 = .ok (.bipush 26, 2) := dk_16 26 (dk_at dksX1_isDial_2 19 rfl rfl)
theorem dX1_isDial_66 : decode cX1_isDial 66 = .ok (.if_icmp .ge 21, 3) := dk_162 0 21 (dk_at dksX1_isDial_2 21 rfl rfl)
theorem dX1_isDial_69 : decode cX1_isDial 69 = .ok (.aload_n 0, 1) := dk_42 (dk_at dksX1_isDial_3 0 rfl rfl)
theorem dX1_isDial_70 : decode cX1_isDial 70 = .ok (.getfield 7, 3) := dk_180 0 7 (dk_at dksX1_isDial_3 1 rfl rfl)
theorem dX1_isDial_73 : decode cX1_isDial 73 = .ok (.iload 5, 2) := dk_21 5 (dk_at dksX1_isDial_3 4 rfl rfl)
theorem dX1_isDial_75 : decode cX1_isDial 75 = .ok (.iaload, 1) := dk_46 (dk_at dksX1_isDial_3 6 rfl rfl)
theorem dX1_isDial_76 : decode cX1_isDial 76 = .ok (.bipush 97, 2) := dk_16 97 (dk_at dksX1_isDial_3 7 rfl rfl)
theorem dX1_isDial_78 : decode cX1_isDial 78 = .ok (.iload_n 1, 1) := dk_27 (dk_at dksX1_isDial_3 9 rfl rfl)
theorem dX1_isDial_79 : decode cX1_isDial 79 = .ok (.iadd, 1) := dk_96 (dk_at dksX1_isDial_3 10 rfl rfl)
theorem dX1_isDial_80 : decode cX1_isDial 80 = .ok (.if_icmp .ne 7, 3) := dk_160 0 7 (dk_at dksX1_isDial_3 11 rfl rfl)
theorem dX1_isDial_83 : decode cX1_isDial 83 = .ok (.iconst 1, 1) := dk_4 (dk_at dksX1_isDial_3 14 rfl rfl)
theorem dX1_isDial_84 : decode cX1_isDial 84 = .ok (.goto 4, 3) := dk_167 0 4 (dk_at dksX1_isDial_3 15 rfl rfl)
theorem dX1_isDial_87 : decode cX1_isDial 87 = .ok (.iconst 0, 1) := dk_3 (dk_at dksX1_isDial_3 18 rfl rfl)
theorem dX1_isDial_88 : decode cX1_isDial 88 = .ok (.istore 4, 2) := dk_54 4 (dk_at dksX1_isDial_3 19 rfl rfl)
theorem dX1_isDial_90 : decode cX1_isDial 90 = .ok (.iload 4, 2) := dk_21 4 (dk_at dksX1_isDial_3 21 rfl rfl)
theorem dX1_isDial_92 : decode cX1_isDial 92 = .ok (.ifCond .eq 15, 3) := dk_153 0 15 (dk_at dksX1_isDial_4 0 rfl rfl)
theorem dX1_isDial_95 : decode cX1_isDial 95 = .ok (.aload_n 0, 1) := dk_42 (dk_at dksX1_isDial_4 3 rfl rfl)
theorem dX1_isDial_96 : decode cX1_isDial 96 = .ok (.getfield 43, 3) := dk_180 0 43 (dk_at dksX1_isDial_4 4 rfl rfl)
theorem dX1_isDial_99 : decode cX1_isDial 99 = .ok (.iload_n 1, 1) := dk_27 (dk_at dksX1_isDial_4 7 rfl rfl)
theorem dX1_isDial_100 : decode cX1_isDial 100 = .ok (.iload_n 2, 1) := dk_28 (dk_at dksX1_isDial_4 8 rfl rfl)
theorem dX1_isDial_101 : decode cX1_isDial 101 = .ok (.iastore, 1) := dk_79 (dk_at dksX1_isDial_4 9 rfl rfl)
theorem dX1_isDial_102 : decode cX1_isDial 102 = .ok (.iinc 1 1, 3) := dk_132 1 1 (dk_at dksX1_isDial_4 10 rfl rfl)
theorem dX1_isDial_105 : decode cX1_isDial 105 = .ok (.iconst 1, 1) := dk_4 (dk_at dksX1_isDial_4 13 rfl rfl)
theorem dX1_isDial_106 : decode cX1_isDial 106 = .ok (.istore_n 3, 1) := dk_62 (dk_at dksX1_isDial_4 14 rfl rfl)
theorem dX1_isDial_107 : decode cX1_isDial 107 = .ok (.iinc 5 1, 3) := dk_132 5 1 (dk_at dksX1_isDial_4 15 rfl rfl)
theorem dX1_isDial_110 : decode cX1_isDial 110 = .ok (.goto (-98), 3) := dk_167 255 158 (dk_at dksX1_isDial_4 18 rfl rfl)
theorem dX1_isDial_113 : decode cX1_isDial 113 = .ok (.iload 4, 2) := dk_21 4 (dk_at dksX1_isDial_4 21 rfl rfl)
theorem dX1_isDial_115 : decode cX1_isDial 115 = .ok (.ifCond .eq 23, 3) := dk_153 0 23 (dk_at dksX1_isDial_5 0 rfl rfl)
theorem dX1_isDial_118 : decode cX1_isDial 118 = .ok (.iload_n 1, 1) := dk_27 (dk_at dksX1_isDial_5 3 rfl rfl)
theorem dX1_isDial_119 : decode cX1_isDial 119 = .ok (.bipush 26, 2) := dk_16 26 (dk_at dksX1_isDial_5 4 rfl rfl)
theorem dX1_isDial_121 : decode cX1_isDial 121 = .ok (.if_icmp .ne 17, 3) := dk_160 0 17 (dk_at dksX1_isDial_5 6 rfl rfl)
theorem dX1_isDial_124 : decode cX1_isDial 124 = .ok (.iload_n 2, 1) := dk_28 (dk_at dksX1_isDial_5 9 rfl rfl)
theorem dX1_isDial_125 : decode cX1_isDial 125 = .ok (.bipush 9, 2) := dk_16 9 (dk_at dksX1_isDial_5 10 rfl rfl)
theorem dX1_isDial_127 : decode cX1_isDial 127 = .ok (.if_icmp .ne 11, 3) := dk_160 0 11 (dk_at dksX1_isDial_5 12 rfl rfl)
theorem dX1_isDial_130 : decode cX1_isDial 130 = .ok (.iload_n 3, 1) := dk_29 (dk_at dksX1_isDial_5 15 rfl rfl)
theorem dX1_isDial_131 : decode cX1_isDial 131 = .ok (.ifCond .eq 7, 3) := dk_153 0 7 (dk_at dksX1_isDial_5 16 rfl rfl)
theorem dX1_isDial_134 : decode cX1_isDial 134 = .ok (.iconst 1, 1) := dk_4 (dk_at dksX1_isDial_5 19 rfl rfl)
theorem dX1_isDial_135 : decode cX1_isDial 135 = .ok (.goto 4, 3) := dk_167 0 4 (dk_at dksX1_isDial_5 20 rfl rfl)
theorem dX1_isDial_138 : decode cX1_isDial 138 = .ok (.iconst 0, 1) := dk_3 (dk_at dksX1_isDial_5 23 rfl rfl)
theorem dX1_isDial_139 : decode cX1_isDial 139 = .ok (.ireturn, 1) := dk_172 (dk_at dksX1_isDial_6 0 rfl rfl)
abbrev cX1_drop : ByteArray := prog_7_method_21_code
def yX1_drop : MethodName := ⟨RX1, "drop", "(I)I"⟩
def dkwX1_drop_2 : List UInt8 := [180, 0, 142, 4, 96, 181, 0, 142, 42, 3, 181, 0, 130, 42, 180, 0, 109, 172]
abbrev dktX1_drop_2 : List UInt8 := dkwX1_drop_2 ++ []
def dkwX1_drop_1 : List UInt8 := [42, 180, 0, 109, 162, 0, 17, 42, 28, 4, 96, 28, 182, 0, 116, 132, 2, 1, 167, 255, 237, 42, 89]
abbrev dktX1_drop_1 : List UInt8 := dkwX1_drop_1 ++ dktX1_drop_2
def dkwX1_drop_0 : List UInt8 := [42, 27, 182, 0, 139, 154, 0, 6, 16, 155, 172, 42, 89, 180, 0, 109, 4, 100, 181, 0, 109, 27, 61, 28]
abbrev dktX1_drop_0 : List UInt8 := dkwX1_drop_0 ++ dktX1_drop_1
theorem dksX1_drop_0 : cX1_drop.data.toList.drop 0 = dktX1_drop_0 := by decide +kernel
theorem dksX1_drop_1 : cX1_drop.data.toList.drop 24 = dktX1_drop_1 := dk_seg dksX1_drop_0 24 rfl rfl
theorem dksX1_drop_2 : cX1_drop.data.toList.drop 47 = dktX1_drop_2 := dk_seg dksX1_drop_1 23 rfl rfl
theorem dX1_drop_0 : decode cX1_drop 0 = .ok (.aload_n 0, 1) := dk_42 (dk_at dksX1_drop_0 0 rfl rfl)
theorem dX1_drop_1 : decode cX1_drop 1 = .ok (.iload_n 1, 1) := dk_27 (dk_at dksX1_drop_0 1 rfl rfl)
theorem dX1_drop_2 : decode cX1_drop 2 = .ok (.invokevirtual 139, 3) := dk_182 0 139 (dk_at dksX1_drop_0 2 rfl rfl)
theorem dX1_drop_5 : decode cX1_drop 5 = .ok (.ifCond .ne 6, 3) := dk_154 0 6 (dk_at dksX1_drop_0 5 rfl rfl)
theorem dX1_drop_8 : decode cX1_drop 8 = .ok (.bipush (-101), 2) := dk_16 155 (dk_at dksX1_drop_0 8 rfl rfl)
theorem dX1_drop_10 : decode cX1_drop 10 = .ok (.ireturn, 1) := dk_172 (dk_at dksX1_drop_0 10 rfl rfl)
theorem dX1_drop_11 : decode cX1_drop 11 = .ok (.aload_n 0, 1) := dk_42 (dk_at dksX1_drop_0 11 rfl rfl)
theorem dX1_drop_12 : decode cX1_drop 12 = .ok (.dup, 1) := dk_89 (dk_at dksX1_drop_0 12 rfl rfl)
theorem dX1_drop_13 : decode cX1_drop 13 = .ok (.getfield 109, 3) := dk_180 0 109 (dk_at dksX1_drop_0 13 rfl rfl)
theorem dX1_drop_16 : decode cX1_drop 16 = .ok (.iconst 1, 1) := dk_4 (dk_at dksX1_drop_0 16 rfl rfl)
theorem dX1_drop_17 : decode cX1_drop 17 = .ok (.isub, 1) := dk_100 (dk_at dksX1_drop_0 17 rfl rfl)
theorem dX1_drop_18 : decode cX1_drop 18 = .ok (.putfield 109, 3) := dk_181 0 109 (dk_at dksX1_drop_0 18 rfl rfl)
theorem dX1_drop_21 : decode cX1_drop 21 = .ok (.iload_n 1, 1) := dk_27 (dk_at dksX1_drop_0 21 rfl rfl)
theorem dX1_drop_22 : decode cX1_drop 22 = .ok (.istore_n 2, 1) := dk_61 (dk_at dksX1_drop_0 22 rfl rfl)
theorem dX1_drop_23 : decode cX1_drop 23 = .ok (.iload_n 2, 1) := dk_28 (dk_at dksX1_drop_0 23 rfl rfl)
theorem dX1_drop_24 : decode cX1_drop 24 = .ok (.aload_n 0, 1) := dk_42 (dk_at dksX1_drop_1 0 rfl rfl)
theorem dX1_drop_25 : decode cX1_drop 25 = .ok (.getfield 109, 3) := dk_180 0 109 (dk_at dksX1_drop_1 1 rfl rfl)
theorem dX1_drop_28 : decode cX1_drop 28 = .ok (.if_icmp .ge 17, 3) := dk_162 0 17 (dk_at dksX1_drop_1 4 rfl rfl)
theorem dX1_drop_31 : decode cX1_drop 31 = .ok (.aload_n 0, 1) := dk_42 (dk_at dksX1_drop_1 7 rfl rfl)
theorem dX1_drop_32 : decode cX1_drop 32 = .ok (.iload_n 2, 1) := dk_28 (dk_at dksX1_drop_1 8 rfl rfl)
theorem dX1_drop_33 : decode cX1_drop 33 = .ok (.iconst 1, 1) := dk_4 (dk_at dksX1_drop_1 9 rfl rfl)
theorem dX1_drop_34 : decode cX1_drop 34 = .ok (.iadd, 1) := dk_96 (dk_at dksX1_drop_1 10 rfl rfl)
theorem dX1_drop_35 : decode cX1_drop 35 = .ok (.iload_n 2, 1) := dk_28 (dk_at dksX1_drop_1 11 rfl rfl)
theorem dX1_drop_36 : decode cX1_drop 36 = .ok (.invokevirtual 116, 3) := dk_182 0 116 (dk_at dksX1_drop_1 12 rfl rfl)
theorem dX1_drop_39 : decode cX1_drop 39 = .ok (.iinc 2 1, 3) := dk_132 2 1 (dk_at dksX1_drop_1 15 rfl rfl)
theorem dX1_drop_42 : decode cX1_drop 42 = .ok (.goto (-19), 3) := dk_167 255 237 (dk_at dksX1_drop_1 18 rfl rfl)
theorem dX1_drop_45 : decode cX1_drop 45 = .ok (.aload_n 0, 1) := dk_42 (dk_at dksX1_drop_1 21 rfl rfl)
theorem dX1_drop_46 : decode cX1_drop 46 = .ok (.dup, 1) := dk_89 (dk_at dksX1_drop_1 22 rfl rfl)
theorem dX1_drop_47 : decode cX1_drop 47 = .ok (.getfield 142, 3) := dk_180 0 142 (dk_at dksX1_drop_2 0 rfl rfl)
theorem dX1_drop_50 : decode cX1_drop 50 = .ok (.iconst 1, 1) := dk_4 (dk_at dksX1_drop_2 3 rfl rfl)
theorem dX1_drop_51 : decode cX1_drop 51 = .ok (.iadd, 1) := dk_96 (dk_at dksX1_drop_2 4 rfl rfl)
theorem dX1_drop_52 : decode cX1_drop 52 = .ok (.putfield 142, 3) := dk_181 0 142 (dk_at dksX1_drop_2 5 rfl rfl)
theorem dX1_drop_55 : decode cX1_drop 55 = .ok (.aload_n 0, 1) := dk_42 (dk_at dksX1_drop_2 8 rfl rfl)
theorem dX1_drop_56 : decode cX1_drop 56 = .ok (.iconst 0, 1) := dk_3 (dk_at dksX1_drop_2 9 rfl rfl)
theorem dX1_drop_57 : decode cX1_drop 57 = .ok (.putfield 130, 3) := dk_181 0 130 (dk_at dksX1_drop_2 10 rfl rfl)
theorem dX1_drop_60 : decode cX1_drop 60 = .ok (.aload_n 0, 1) := dk_42 (dk_at dksX1_drop_2 13 rfl rfl)
theorem dX1_drop_61 : decode cX1_drop 61 = .ok (.getfield 109, 3) := dk_180 0 109 (dk_at dksX1_drop_2 14 rfl rfl)
theorem dX1_drop_64 : decode cX1_drop 64 = .ok (.ireturn, 1) := dk_172 (dk_at dksX1_drop_2 17 rfl rfl)
abbrev cX1_isName : ByteArray := prog_7_method_20_code
def yX1_isName : MethodName := ⟨RX1, "isName", "(I)Z"⟩
def dkwX1_isName_0 : List UInt8 := [27, 3, 42, 180, 0, 109, 4, 100, 184, 0, 73, 172]
abbrev dktX1_isName_0 : List UInt8 := dkwX1_isName_0 ++ []
theorem dksX1_isName_0 : cX1_isName.data.toList.drop 0 = dktX1_isName_0 := by decide +kernel
theorem dX1_isName_0 : decode cX1_isName 0 = .ok (.iload_n 1, 1) := dk_27 (dk_at dksX1_isName_0 0 rfl rfl)
theorem dX1_isName_1 : decode cX1_isName 1 = .ok (.iconst 0, 1) := dk_3 (dk_at dksX1_isName_0 1 rfl rfl)
theorem dX1_isName_2 : decode cX1_isName 2 = .ok (.aload_n 0, 1) := dk_42 (dk_at dksX1_isName_0 2 rfl rfl)
theorem dX1_isName_3 : decode cX1_isName 3 = .ok (.getfield 109, 3) := dk_180 0 109 (dk_at dksX1_isName_0 3 rfl rfl)
theorem dX1_isName_6 : decode cX1_isName 6 = .ok (.iconst 1, 1) := dk_4 (dk_at dksX1_isName_0 6 rfl rfl)
theorem dX1_isName_7 : decode cX1_isName 7 = .ok (.isub, 1) := dk_100 (dk_at dksX1_isName_0 7 rfl rfl)
theorem dX1_isName_8 : decode cX1_isName 8 = .ok (.invokestatic 73, 3) := dk_184 0 73 (dk_at dksX1_isName_0 8 rfl rfl)
theorem dX1_isName_11 : decode cX1_isName 11 = .ok (.ireturn, 1) := dk_172 (dk_at dksX1_isName_0 11 rfl rfl)
abbrev cX1_use : ByteArray := prog_7_method_22_code
def yX1_use : MethodName := ⟨RX1, "use", "(II)I"⟩
def dkwX1_use_1 : List UInt8 := [42, 180, 0, 19, 27, 46, 62, 42, 180, 0, 19, 27, 28, 79, 29, 172]
abbrev dktX1_use_1 : List UInt8 := dkwX1_use_1 ++ []
def dkwX1_use_0 : List UInt8 := [42, 27, 182, 0, 139, 154, 0, 6, 16, 155, 172, 28, 4, 16, 99, 184, 0, 73, 154, 0, 6, 16, 154, 172]
abbrev dktX1_use_0 : List UInt8 := dkwX1_use_0 ++ dktX1_use_1
theorem dksX1_use_0 : cX1_use.data.toList.drop 0 = dktX1_use_0 := by decide +kernel
theorem dksX1_use_1 : cX1_use.data.toList.drop 24 = dktX1_use_1 := dk_seg dksX1_use_0 24 rfl rfl
theorem dX1_use_0 : decode cX1_use 0 = .ok (.aload_n 0, 1) := dk_42 (dk_at dksX1_use_0 0 rfl rfl)
theorem dX1_use_1 : decode cX1_use 1 = .ok (.iload_n 1, 1) := dk_27 (dk_at dksX1_use_0 1 rfl rfl)
theorem dX1_use_2 : decode cX1_use 2 = .ok (.invokevirtual 139, 3) := dk_182 0 139 (dk_at dksX1_use_0 2 rfl rfl)
theorem dX1_use_5 : decode cX1_use 5 = .ok (.ifCond .ne 6, 3) := dk_154 0 6 (dk_at dksX1_use_0 5 rfl rfl)
theorem dX1_use_8 : decode cX1_use 8 = .ok (.bipush (-101), 2) := dk_16 155 (dk_at dksX1_use_0 8 rfl rfl)
theorem dX1_use_10 : decode cX1_use 10 = .ok (.ireturn, 1) := dk_172 (dk_at dksX1_use_0 10 rfl rfl)
theorem dX1_use_11 : decode cX1_use 11 = .ok (.iload_n 2, 1) := dk_28 (dk_at dksX1_use_0 11 rfl rfl)
theorem dX1_use_12 : decode cX1_use 12 = .ok (.iconst 1, 1) := dk_4 (dk_at dksX1_use_0 12 rfl rfl)
theorem dX1_use_13 : decode cX1_use 13 = .ok (.bipush 99, 2) := dk_16 99 (dk_at dksX1_use_0 13 rfl rfl)
theorem dX1_use_15 : decode cX1_use 15 = .ok (.invokestatic 73, 3) := dk_184 0 73 (dk_at dksX1_use_0 15 rfl rfl)
theorem dX1_use_18 : decode cX1_use 18 = .ok (.ifCond .ne 6, 3) := dk_154 0 6 (dk_at dksX1_use_0 18 rfl rfl)
theorem dX1_use_21 : decode cX1_use 21 = .ok (.bipush (-102), 2) := dk_16 154 (dk_at dksX1_use_0 21 rfl rfl)
theorem dX1_use_23 : decode cX1_use 23 = .ok (.ireturn, 1) := dk_172 (dk_at dksX1_use_0 23 rfl rfl)
theorem dX1_use_24 : decode cX1_use 24 = .ok (.aload_n 0, 1) := dk_42 (dk_at dksX1_use_1 0 rfl rfl)
theorem dX1_use_25 : decode cX1_use 25 = .ok (.getfield 19, 3) := dk_180 0 19 (dk_at dksX1_use_1 1 rfl rfl)
theorem dX1_use_28 : decode cX1_use 28 = .ok (.iload_n 1, 1) := dk_27 (dk_at dksX1_use_1 4 rfl rfl)
theorem dX1_use_29 : decode cX1_use 29 = .ok (.iaload, 1) := dk_46 (dk_at dksX1_use_1 5 rfl rfl)
theorem dX1_use_30 : decode cX1_use 30 = .ok (.istore_n 3, 1) := dk_62 (dk_at dksX1_use_1 6 rfl rfl)
theorem dX1_use_31 : decode cX1_use 31 = .ok (.aload_n 0, 1) := dk_42 (dk_at dksX1_use_1 7 rfl rfl)
theorem dX1_use_32 : decode cX1_use 32 = .ok (.getfield 19, 3) := dk_180 0 19 (dk_at dksX1_use_1 8 rfl rfl)
theorem dX1_use_35 : decode cX1_use 35 = .ok (.iload_n 1, 1) := dk_27 (dk_at dksX1_use_1 11 rfl rfl)
theorem dX1_use_36 : decode cX1_use 36 = .ok (.iload_n 2, 1) := dk_28 (dk_at dksX1_use_1 12 rfl rfl)
theorem dX1_use_37 : decode cX1_use 37 = .ok (.iastore, 1) := dk_79 (dk_at dksX1_use_1 13 rfl rfl)
theorem dX1_use_38 : decode cX1_use 38 = .ok (.iload_n 3, 1) := dk_29 (dk_at dksX1_use_1 14 rfl rfl)
theorem dX1_use_39 : decode cX1_use 39 = .ok (.ireturn, 1) := dk_172 (dk_at dksX1_use_1 15 rfl rfl)
abbrev cX1_name : ByteArray := prog_7_method_32_code
def yX1_name : MethodName := ⟨RX1, "name", "(II)I"⟩
def dkwX1_name_1 : List UInt8 := [27, 28, 182, 0, 175, 167, 0, 5, 16, 154, 172]
abbrev dktX1_name_1 : List UInt8 := dkwX1_name_1 ++ []
def dkwX1_name_0 : List UInt8 := [42, 27, 182, 0, 139, 154, 0, 8, 16, 155, 167, 0, 24, 28, 3, 16, 7, 184, 0, 73, 153, 0, 12, 42]
abbrev dktX1_name_0 : List UInt8 := dkwX1_name_0 ++ dktX1_name_1
theorem dksX1_name_0 : cX1_name.data.toList.drop 0 = dktX1_name_0 := by decide +kernel
theorem dksX1_name_1 : cX1_name.data.toList.drop 24 = dktX1_name_1 := dk_seg dksX1_name_0 24 rfl rfl
theorem dX1_name_0 : decode cX1_name 0 = .ok (.aload_n 0, 1) := dk_42 (dk_at dksX1_name_0 0 rfl rfl)
theorem dX1_name_1 : decode cX1_name 1 = .ok (.iload_n 1, 1) := dk_27 (dk_at dksX1_name_0 1 rfl rfl)
theorem dX1_name_2 : decode cX1_name 2 = .ok (.invokevirtual 139, 3) := dk_182 0 139 (dk_at dksX1_name_0 2 rfl rfl)
theorem dX1_name_5 : decode cX1_name 5 = .ok (.ifCond .ne 8, 3) := dk_154 0 8 (dk_at dksX1_name_0 5 rfl rfl)
theorem dX1_name_8 : decode cX1_name 8 = .ok (.bipush (-101), 2) := dk_16 155 (dk_at dksX1_name_0 8 rfl rfl)
theorem dX1_name_10 : decode cX1_name 10 = .ok (.goto 24, 3) := dk_167 0 24 (dk_at dksX1_name_0 10 rfl rfl)
theorem dX1_name_13 : decode cX1_name 13 = .ok (.iload_n 2, 1) := dk_28 (dk_at dksX1_name_0 13 rfl rfl)
theorem dX1_name_14 : decode cX1_name 14 = .ok (.iconst 0, 1) := dk_3 (dk_at dksX1_name_0 14 rfl rfl)
theorem dX1_name_15 : decode cX1_name 15 = .ok (.bipush 7, 2) := dk_16 7 (dk_at dksX1_name_0 15 rfl rfl)
theorem dX1_name_17 : decode cX1_name 17 = .ok (.invokestatic 73, 3) := dk_184 0 73 (dk_at dksX1_name_0 17 rfl rfl)
theorem dX1_name_20 : decode cX1_name 20 = .ok (.ifCond .eq 12, 3) := dk_153 0 12 (dk_at dksX1_name_0 20 rfl rfl)
theorem dX1_name_23 : decode cX1_name 23 = .ok (.aload_n 0, 1) := dk_42 (dk_at dksX1_name_0 23 rfl rfl)
theorem dX1_name_24 : decode cX1_name 24 = .ok (.iload_n 1, 1) := dk_27 (dk_at dksX1_name_1 0 rfl rfl)
theorem dX1_name_25 : decode cX1_name 25 = .ok (.iload_n 2, 1) := dk_28 (dk_at dksX1_name_1 1 rfl rfl)
theorem dX1_name_26 : decode cX1_name 26 = .ok (.invokevirtual 175, 3) := dk_182 0 175 (dk_at dksX1_name_1 2 rfl rfl)
theorem dX1_name_29 : decode cX1_name 29 = .ok (.goto 5, 3) := dk_167 0 5 (dk_at dksX1_name_1 5 rfl rfl)
theorem dX1_name_32 : decode cX1_name 32 = .ok (.bipush (-102), 2) := dk_16 154 (dk_at dksX1_name_1 8 rfl rfl)
theorem dX1_name_34 : decode cX1_name 34 = .ok (.ireturn, 1) := dk_172 (dk_at dksX1_name_1 10 rfl rfl)
abbrev cX1_nameNow : ByteArray := prog_7_method_31_code
def yX1_nameNow : MethodName := ⟨RX1, "nameNow", "(II)I"⟩
def dkwX1_nameNow_5 : List UInt8 := [180, 0, 64, 27, 46, 172]
abbrev dktX1_nameNow_5 : List UInt8 := dkwX1_nameNow_5 ++ []
def dkwX1_nameNow_4 : List UInt8 := [180, 0, 130, 154, 0, 7, 2, 167, 0, 9, 42, 180, 0, 28, 27, 46, 172, 42, 6, 182, 0, 172, 42]
abbrev dktX1_nameNow_4 : List UInt8 := dkwX1_nameNow_4 ++ dktX1_nameNow_5
def dkwX1_nameNow_3 : List UInt8 := [182, 0, 166, 172, 42, 27, 182, 0, 169, 172, 42, 27, 42, 180, 0, 13, 27, 46, 182, 0, 159, 172, 42]
abbrev dktX1_nameNow_3 : List UInt8 := dkwX1_nameNow_3 ++ dktX1_nameNow_4
def dkwX1_nameNow_2 : List UInt8 := [42, 180, 0, 13, 27, 46, 172, 42, 180, 0, 19, 27, 46, 172, 42, 27, 182, 0, 162, 172, 42, 27]
abbrev dktX1_nameNow_2 : List UInt8 := dkwX1_nameNow_2 ++ dktX1_nameNow_3
def dkwX1_nameNow_1 : List UInt8 := [170, 0, 0, 0, 0, 0, 105, 0, 0, 0, 0, 0, 0, 0, 6, 0, 0, 0, 43, 0, 0, 0, 50, 0, 0, 0, 57, 0, 0, 0, 63, 0, 0, 0, 69, 0, 0, 0, 75, 0, 0, 0, 87]
abbrev dktX1_nameNow_1 : List UInt8 := dkwX1_nameNow_1 ++ dktX1_nameNow_2
def dkwX1_nameNow_0 : List UInt8 := [28]
abbrev dktX1_nameNow_0 : List UInt8 := dkwX1_nameNow_0 ++ dktX1_nameNow_1
theorem dksX1_nameNow_0 : cX1_nameNow.data.toList.drop 0 = dktX1_nameNow_0 := by decide +kernel
theorem dksX1_nameNow_1 : cX1_nameNow.data.toList.drop 1 = dktX1_nameNow_1 := dk_seg dksX1_nameNow_0 1 rfl rfl
theorem dksX1_nameNow_2 : cX1_nameNow.data.toList.drop 44 = dktX1_nameNow_2 := dk_seg dksX1_nameNow_1 43 rfl rfl
theorem dksX1_nameNow_3 : cX1_nameNow.data.toList.drop 66 = dktX1_nameNow_3 := dk_seg dksX1_nameNow_2 22 rfl rfl
theorem dksX1_nameNow_4 : cX1_nameNow.data.toList.drop 89 = dktX1_nameNow_4 := dk_seg dksX1_nameNow_3 23 rfl rfl
theorem dksX1_nameNow_5 : cX1_nameNow.data.toList.drop 112 = dktX1_nameNow_5 := dk_seg dksX1_nameNow_4 23 rfl rfl
theorem dX1_nameNow_0 : decode cX1_nameNow 0 = .ok (.iload_n 2, 1) := dk_28 (dk_at dksX1_nameNow_0 0 rfl rfl)
theorem dX1_nameNow_1 : decode cX1_nameNow 1 = .ok (.tableswitch 105 0 6 #[43, 50, 57, 63, 69, 75, 87], 43) := by decide +kernel
theorem dX1_nameNow_44 : decode cX1_nameNow 44 = .ok (.aload_n 0, 1) := dk_42 (dk_at dksX1_nameNow_2 0 rfl rfl)
theorem dX1_nameNow_45 : decode cX1_nameNow 45 = .ok (.getfield 13, 3) := dk_180 0 13 (dk_at dksX1_nameNow_2 1 rfl rfl)
theorem dX1_nameNow_48 : decode cX1_nameNow 48 = .ok (.iload_n 1, 1) := dk_27 (dk_at dksX1_nameNow_2 4 rfl rfl)
theorem dX1_nameNow_49 : decode cX1_nameNow 49 = .ok (.iaload, 1) := dk_46 (dk_at dksX1_nameNow_2 5 rfl rfl)
theorem dX1_nameNow_50 : decode cX1_nameNow 50 = .ok (.ireturn, 1) := dk_172 (dk_at dksX1_nameNow_2 6 rfl rfl)
theorem dX1_nameNow_51 : decode cX1_nameNow 51 = .ok (.aload_n 0, 1) := dk_42 (dk_at dksX1_nameNow_2 7 rfl rfl)
theorem dX1_nameNow_52 : decode cX1_nameNow 52 = .ok (.getfield 19, 3) := dk_180 0 19 (dk_at dksX1_nameNow_2 8 rfl rfl)
theorem dX1_nameNow_55 : decode cX1_nameNow 55 = .ok (.iload_n 1, 1) := dk_27 (dk_at dksX1_nameNow_2 11 rfl rfl)
theorem dX1_nameNow_56 : decode cX1_nameNow 56 = .ok (.iaload, 1) := dk_46 (dk_at dksX1_nameNow_2 12 rfl rfl)
theorem dX1_nameNow_57 : decode cX1_nameNow 57 = .ok (.ireturn, 1) := dk_172 (dk_at dksX1_nameNow_2 13 rfl rfl)
theorem dX1_nameNow_58 : decode cX1_nameNow 58 = .ok (.aload_n 0, 1) := dk_42 (dk_at dksX1_nameNow_2 14 rfl rfl)
theorem dX1_nameNow_59 : decode cX1_nameNow 59 = .ok (.iload_n 1, 1) := dk_27 (dk_at dksX1_nameNow_2 15 rfl rfl)
theorem dX1_nameNow_60 : decode cX1_nameNow 60 = .ok (.invokevirtual 162, 3) := dk_182 0 162 (dk_at dksX1_nameNow_2 16 rfl rfl)
theorem dX1_nameNow_63 : decode cX1_nameNow 63 = .ok (.ireturn, 1) := dk_172 (dk_at dksX1_nameNow_2 19 rfl rfl)
theorem dX1_nameNow_64 : decode cX1_nameNow 64 = .ok (.aload_n 0, 1) := dk_42 (dk_at dksX1_nameNow_2 20 rfl rfl)
theorem dX1_nameNow_65 : decode cX1_nameNow 65 = .ok (.iload_n 1, 1) := dk_27 (dk_at dksX1_nameNow_2 21 rfl rfl)
theorem dX1_nameNow_66 : decode cX1_nameNow 66 = .ok (.invokevirtual 166, 3) := dk_182 0 166 (dk_at dksX1_nameNow_3 0 rfl rfl)
theorem dX1_nameNow_69 : decode cX1_nameNow 69 = .ok (.ireturn, 1) := dk_172 (dk_at dksX1_nameNow_3 3 rfl rfl)
theorem dX1_nameNow_70 : decode cX1_nameNow 70 = .ok (.aload_n 0, 1) := dk_42 (dk_at dksX1_nameNow_3 4 rfl rfl)
theorem dX1_nameNow_71 : decode cX1_nameNow 71 = .ok (.iload_n 1, 1) := dk_27 (dk_at dksX1_nameNow_3 5 rfl rfl)
theorem dX1_nameNow_72 : decode cX1_nameNow 72 = .ok (.invokevirtual 169, 3) := dk_182 0 169 (dk_at dksX1_nameNow_3 6 rfl rfl)
theorem dX1_nameNow_75 : decode cX1_nameNow 75 = .ok (.ireturn, 1) := dk_172 (dk_at dksX1_nameNow_3 9 rfl rfl)
theorem dX1_nameNow_76 : decode cX1_nameNow 76 = .ok (.aload_n 0, 1) := dk_42 (dk_at dksX1_nameNow_3 10 rfl rfl)
theorem dX1_nameNow_77 : decode cX1_nameNow 77 = .ok (.iload_n 1, 1) := dk_27 (dk_at dksX1_nameNow_3 11 rfl rfl)
theorem dX1_nameNow_78 : decode cX1_nameNow 78 = .ok (.aload_n 0, 1) := dk_42 (dk_at dksX1_nameNow_3 12 rfl rfl)
theorem dX1_nameNow_79 : decode cX1_nameNow 79 = .ok (.getfield 13, 3) := dk_180 0 13 (dk_at dksX1_nameNow_3 13 rfl rfl)
theorem dX1_nameNow_82 : decode cX1_nameNow 82 = .ok (.iload_n 1, 1) := dk_27 (dk_at dksX1_nameNow_3 16 rfl rfl)
theorem dX1_nameNow_83 : decode cX1_nameNow 83 = .ok (.iaload, 1) := dk_46 (dk_at dksX1_nameNow_3 17 rfl rfl)
theorem dX1_nameNow_84 : decode cX1_nameNow 84 = .ok (.invokevirtual 159, 3) := dk_182 0 159 (dk_at dksX1_nameNow_3 18 rfl rfl)
theorem dX1_nameNow_87 : decode cX1_nameNow 87 = .ok (.ireturn, 1) := dk_172 (dk_at dksX1_nameNow_3 21 rfl rfl)
theorem dX1_nameNow_88 : decode cX1_nameNow 88 = .ok (.aload_n 0, 1) := dk_42 (dk_at dksX1_nameNow_3 22 rfl rfl)
theorem dX1_nameNow_89 : decode cX1_nameNow 89 = .ok (.getfield 130, 3) := dk_180 0 130 (dk_at dksX1_nameNow_4 0 rfl rfl)
theorem dX1_nameNow_92 : decode cX1_nameNow 92 = .ok (.ifCond .ne 7, 3) := dk_154 0 7 (dk_at dksX1_nameNow_4 3 rfl rfl)
theorem dX1_nameNow_95 : decode cX1_nameNow 95 = .ok (.iconst (-1), 1) := dk_2 (dk_at dksX1_nameNow_4 6 rfl rfl)
theorem dX1_nameNow_96 : decode cX1_nameNow 96 = .ok (.goto 9, 3) := dk_167 0 9 (dk_at dksX1_nameNow_4 7 rfl rfl)
theorem dX1_nameNow_99 : decode cX1_nameNow 99 = .ok (.aload_n 0, 1) := dk_42 (dk_at dksX1_nameNow_4 10 rfl rfl)
theorem dX1_nameNow_100 : decode cX1_nameNow 100 = .ok (.getfield 28, 3) := dk_180 0 28 (dk_at dksX1_nameNow_4 11 rfl rfl)
theorem dX1_nameNow_103 : decode cX1_nameNow 103 = .ok (.iload_n 1, 1) := dk_27 (dk_at dksX1_nameNow_4 14 rfl rfl)
theorem dX1_nameNow_104 : decode cX1_nameNow 104 = .ok (.iaload, 1) := dk_46 (dk_at dksX1_nameNow_4 15 rfl rfl)
theorem dX1_nameNow_105 : decode cX1_nameNow 105 = .ok (.ireturn, 1) := dk_172 (dk_at dksX1_nameNow_4 16 rfl rfl)
theorem dX1_nameNow_106 : decode cX1_nameNow 106 = .ok (.aload_n 0, 1) := dk_42 (dk_at dksX1_nameNow_4 17 rfl rfl)
theorem dX1_nameNow_107 : decode cX1_nameNow 107 = .ok (.iconst 3, 1) := dk_6 (dk_at dksX1_nameNow_4 18 rfl rfl)
theorem dX1_nameNow_108 : decode cX1_nameNow 108 = .ok (.invokevirtual 172, 3) := dk_182 0 172 (dk_at dksX1_nameNow_4 19 rfl rfl)
theorem dX1_nameNow_111 : decode cX1_nameNow 111 = .ok (.aload_n 0, 1) := dk_42 (dk_at dksX1_nameNow_4 22 rfl rfl)
theorem dX1_nameNow_112 : decode cX1_nameNow 112 = .ok (.getfield 64, 3) := dk_180 0 64 (dk_at dksX1_nameNow_5 0 rfl rfl)
theorem dX1_nameNow_115 : decode cX1_nameNow 115 = .ok (.iload_n 1, 1) := dk_27 (dk_at dksX1_nameNow_5 3 rfl rfl)
theorem dX1_nameNow_116 : decode cX1_nameNow 116 = .ok (.iaload, 1) := dk_46 (dk_at dksX1_nameNow_5 4 rfl rfl)
theorem dX1_nameNow_117 : decode cX1_nameNow 117 = .ok (.ireturn, 1) := dk_172 (dk_at dksX1_nameNow_5 5 rfl rfl)
abbrev cX1_twins : ByteArray := prog_7_method_26_code
def yX1_twins : MethodName := ⟨RX1, "twins", "(I)I"⟩
def dkwX1_twins_1 : List UInt8 := [167, 0, 4, 3, 96, 61, 132, 3, 1, 167, 255, 228, 28, 172]
abbrev dktX1_twins_1 : List UInt8 := dkwX1_twins_1 ++ []
def dkwX1_twins_0 : List UInt8 := [3, 61, 3, 62, 29, 42, 180, 0, 109, 162, 0, 26, 28, 42, 27, 29, 182, 0, 151, 153, 0, 7, 4]
abbrev dktX1_twins_0 : List UInt8 := dkwX1_twins_0 ++ dktX1_twins_1
theorem dksX1_twins_0 : cX1_twins.data.toList.drop 0 = dktX1_twins_0 := by decide +kernel
theorem dksX1_twins_1 : cX1_twins.data.toList.drop 23 = dktX1_twins_1 := dk_seg dksX1_twins_0 23 rfl rfl
theorem dX1_twins_0 : decode cX1_twins 0 = .ok (.iconst 0, 1) := dk_3 (dk_at dksX1_twins_0 0 rfl rfl)
theorem dX1_twins_1 : decode cX1_twins 1 = .ok (.istore_n 2, 1) := dk_61 (dk_at dksX1_twins_0 1 rfl rfl)
theorem dX1_twins_2 : decode cX1_twins 2 = .ok (.iconst 0, 1) := dk_3 (dk_at dksX1_twins_0 2 rfl rfl)
theorem dX1_twins_3 : decode cX1_twins 3 = .ok (.istore_n 3, 1) := dk_62 (dk_at dksX1_twins_0 3 rfl rfl)
theorem dX1_twins_4 : decode cX1_twins 4 = .ok (.iload_n 3, 1) := dk_29 (dk_at dksX1_twins_0 4 rfl rfl)
theorem dX1_twins_5 : decode cX1_twins 5 = .ok (.aload_n 0, 1) := dk_42 (dk_at dksX1_twins_0 5 rfl rfl)
theorem dX1_twins_6 : decode cX1_twins 6 = .ok (.getfield 109, 3) := dk_180 0 109 (dk_at dksX1_twins_0 6 rfl rfl)
theorem dX1_twins_9 : decode cX1_twins 9 = .ok (.if_icmp .ge 26, 3) := dk_162 0 26 (dk_at dksX1_twins_0 9 rfl rfl)
theorem dX1_twins_12 : decode cX1_twins 12 = .ok (.iload_n 2, 1) := dk_28 (dk_at dksX1_twins_0 12 rfl rfl)
theorem dX1_twins_13 : decode cX1_twins 13 = .ok (.aload_n 0, 1) := dk_42 (dk_at dksX1_twins_0 13 rfl rfl)
theorem dX1_twins_14 : decode cX1_twins 14 = .ok (.iload_n 1, 1) := dk_27 (dk_at dksX1_twins_0 14 rfl rfl)
theorem dX1_twins_15 : decode cX1_twins 15 = .ok (.iload_n 3, 1) := dk_29 (dk_at dksX1_twins_0 15 rfl rfl)
theorem dX1_twins_16 : decode cX1_twins 16 = .ok (.invokevirtual 151, 3) := dk_182 0 151 (dk_at dksX1_twins_0 16 rfl rfl)
theorem dX1_twins_19 : decode cX1_twins 19 = .ok (.ifCond .eq 7, 3) := dk_153 0 7 (dk_at dksX1_twins_0 19 rfl rfl)
theorem dX1_twins_22 : decode cX1_twins 22 = .ok (.iconst 1, 1) := dk_4 (dk_at dksX1_twins_0 22 rfl rfl)
theorem dX1_twins_23 : decode cX1_twins 23 = .ok (.goto 4, 3) := dk_167 0 4 (dk_at dksX1_twins_1 0 rfl rfl)
theorem dX1_twins_26 : decode cX1_twins 26 = .ok (.iconst 0, 1) := dk_3 (dk_at dksX1_twins_1 3 rfl rfl)
theorem dX1_twins_27 : decode cX1_twins 27 = .ok (.iadd, 1) := dk_96 (dk_at dksX1_twins_1 4 rfl rfl)
theorem dX1_twins_28 : decode cX1_twins 28 = .ok (.istore_n 2, 1) := dk_61 (dk_at dksX1_twins_1 5 rfl rfl)
theorem dX1_twins_29 : decode cX1_twins 29 = .ok (.iinc 3 1, 3) := dk_132 3 1 (dk_at dksX1_twins_1 6 rfl rfl)
theorem dX1_twins_32 : decode cX1_twins 32 = .ok (.goto (-28), 3) := dk_167 255 228 (dk_at dksX1_twins_1 9 rfl rfl)
theorem dX1_twins_35 : decode cX1_twins 35 = .ok (.iload_n 2, 1) := dk_28 (dk_at dksX1_twins_1 12 rfl rfl)
theorem dX1_twins_36 : decode cX1_twins 36 = .ok (.ireturn, 1) := dk_172 (dk_at dksX1_twins_1 13 rfl rfl)
abbrev cX1_isTwin : ByteArray := prog_7_method_25_code
def yX1_isTwin : MethodName := ⟨RX1, "isTwin", "(II)Z"⟩
def dkwX1_isTwin_1 : List UInt8 := [180, 0, 13, 27, 46, 28, 182, 0, 148, 153, 0, 7, 4, 167, 0, 4, 3, 172]
abbrev dktX1_isTwin_1 : List UInt8 := dkwX1_isTwin_1 ++ []
def dkwX1_isTwin_0 : List UInt8 := [27, 28, 159, 0, 37, 42, 180, 0, 13, 27, 46, 42, 180, 0, 13, 28, 46, 160, 0, 22, 42, 27, 42]
abbrev dktX1_isTwin_0 : List UInt8 := dkwX1_isTwin_0 ++ dktX1_isTwin_1
theorem dksX1_isTwin_0 : cX1_isTwin.data.toList.drop 0 = dktX1_isTwin_0 := by decide +kernel
theorem dksX1_isTwin_1 : cX1_isTwin.data.toList.drop 23 = dktX1_isTwin_1 := dk_seg dksX1_isTwin_0 23 rfl rfl
theorem dX1_isTwin_0 : decode cX1_isTwin 0 = .ok (.iload_n 1, 1) := dk_27 (dk_at dksX1_isTwin_0 0 rfl rfl)
theorem dX1_isTwin_1 : decode cX1_isTwin 1 = .ok (.iload_n 2, 1) := dk_28 (dk_at dksX1_isTwin_0 1 rfl rfl)
theorem dX1_isTwin_2 : decode cX1_isTwin 2 = .ok (.if_icmp .eq 37, 3) := dk_159 0 37 (dk_at dksX1_isTwin_0 2 rfl rfl)
theorem dX1_isTwin_5 : decode cX1_isTwin 5 = .ok (.aload_n 0, 1) := dk_42 (dk_at dksX1_isTwin_0 5 rfl rfl)
theorem dX1_isTwin_6 : decode cX1_isTwin 6 = .ok (.getfield 13, 3) := dk_180 0 13 (dk_at dksX1_isTwin_0 6 rfl rfl)
theorem dX1_isTwin_9 : decode cX1_isTwin 9 = .ok (.iload_n 1, 1) := dk_27 (dk_at dksX1_isTwin_0 9 rfl rfl)
theorem dX1_isTwin_10 : decode cX1_isTwin 10 = .ok (.iaload, 1) := dk_46 (dk_at dksX1_isTwin_0 10 rfl rfl)
theorem dX1_isTwin_11 : decode cX1_isTwin 11 = .ok (.aload_n 0, 1) := dk_42 (dk_at dksX1_isTwin_0 11 rfl rfl)
theorem dX1_isTwin_12 : decode cX1_isTwin 12 = .ok (.getfield 13, 3) := dk_180 0 13 (dk_at dksX1_isTwin_0 12 rfl rfl)
theorem dX1_isTwin_15 : decode cX1_isTwin 15 = .ok (.iload_n 2, 1) := dk_28 (dk_at dksX1_isTwin_0 15 rfl rfl)
theorem dX1_isTwin_16 : decode cX1_isTwin 16 = .ok (.iaload, 1) := dk_46 (dk_at dksX1_isTwin_0 16 rfl rfl)
theorem dX1_isTwin_17 : decode cX1_isTwin 17 = .ok (.if_icmp .ne 22, 3) := dk_160 0 22 (dk_at dksX1_isTwin_0 17 rfl rfl)
theorem dX1_isTwin_20 : decode cX1_isTwin 20 = .ok (.aload_n 0, 1) := dk_42 (dk_at dksX1_isTwin_0 20 rfl rfl)
theorem dX1_isTwin_21 : decode cX1_isTwin 21 = .ok (.iload_n 1, 1) := dk_27 (dk_at dksX1_isTwin_0 21 rfl rfl)
theorem dX1_isTwin_22 : decode cX1_isTwin 22 = .ok (.aload_n 0, 1) := dk_42 (dk_at dksX1_isTwin_0 22 rfl rfl)
theorem dX1_isTwin_23 : decode cX1_isTwin 23 = .ok (.getfield 13, 3) := dk_180 0 13 (dk_at dksX1_isTwin_1 0 rfl rfl)
theorem dX1_isTwin_26 : decode cX1_isTwin 26 = .ok (.iload_n 1, 1) := dk_27 (dk_at dksX1_isTwin_1 3 rfl rfl)
theorem dX1_isTwin_27 : decode cX1_isTwin 27 = .ok (.iaload, 1) := dk_46 (dk_at dksX1_isTwin_1 4 rfl rfl)
theorem dX1_isTwin_28 : decode cX1_isTwin 28 = .ok (.iload_n 2, 1) := dk_28 (dk_at dksX1_isTwin_1 5 rfl rfl)
theorem dX1_isTwin_29 : decode cX1_isTwin 29 = .ok (.invokevirtual 148, 3) := dk_182 0 148 (dk_at dksX1_isTwin_1 6 rfl rfl)
theorem dX1_isTwin_32 : decode cX1_isTwin 32 = .ok (.ifCond .eq 7, 3) := dk_153 0 7 (dk_at dksX1_isTwin_1 9 rfl rfl)
theorem dX1_isTwin_35 : decode cX1_isTwin 35 = .ok (.iconst 1, 1) := dk_4 (dk_at dksX1_isTwin_1 12 rfl rfl)
theorem dX1_isTwin_36 : decode cX1_isTwin 36 = .ok (.goto 4, 3) := dk_167 0 4 (dk_at dksX1_isTwin_1 13 rfl rfl)
theorem dX1_isTwin_39 : decode cX1_isTwin 39 = .ok (.iconst 0, 1) := dk_3 (dk_at dksX1_isTwin_1 16 rfl rfl)
theorem dX1_isTwin_40 : decode cX1_isTwin 40 = .ok (.ireturn, 1) := dk_172 (dk_at dksX1_isTwin_1 17 rfl rfl)
abbrev cX1_begins : ByteArray := prog_7_method_24_code
def yX1_begins : MethodName := ⟨RX1, "begins", "(III)Z"⟩
def dkwX1_begins_2 : List UInt8 := [160, 0, 7, 4, 167, 0, 4, 3, 54, 4, 132, 5, 1, 167, 255, 218, 21, 4, 172]
abbrev dktX1_begins_2 : List UInt8 := dkwX1_begins_2 ++ []
def dkwX1_begins_1 : List UInt8 := [162, 0, 38, 21, 4, 153, 0, 33, 42, 27, 21, 5, 182, 0, 145, 42, 29, 21, 5, 182, 0, 145]
abbrev dktX1_begins_1 : List UInt8 := dkwX1_begins_1 ++ dktX1_begins_2
def dkwX1_begins_0 : List UInt8 := [28, 42, 180, 0, 13, 29, 46, 163, 0, 7, 4, 167, 0, 4, 3, 54, 4, 3, 54, 5, 21, 5, 28]
abbrev dktX1_begins_0 : List UInt8 := dkwX1_begins_0 ++ dktX1_begins_1
theorem dksX1_begins_0 : cX1_begins.data.toList.drop 0 = dktX1_begins_0 := by decide +kernel
theorem dksX1_begins_1 : cX1_begins.data.toList.drop 23 = dktX1_begins_1 := dk_seg dksX1_begins_0 23 rfl rfl
theorem dksX1_begins_2 : cX1_begins.data.toList.drop 45 = dktX1_begins_2 := dk_seg dksX1_begins_1 22 rfl rfl
theorem dX1_begins_0 : decode cX1_begins 0 = .ok (.iload_n 2, 1) := dk_28 (dk_at dksX1_begins_0 0 rfl rfl)
theorem dX1_begins_1 : decode cX1_begins 1 = .ok (.aload_n 0, 1) := dk_42 (dk_at dksX1_begins_0 1 rfl rfl)
theorem dX1_begins_2 : decode cX1_begins 2 = .ok (.getfield 13, 3) := dk_180 0 13 (dk_at dksX1_begins_0 2 rfl rfl)
theorem dX1_begins_5 : decode cX1_begins 5 = .ok (.iload_n 3, 1) := dk_29 (dk_at dksX1_begins_0 5 rfl rfl)
theorem dX1_begins_6 : decode cX1_begins 6 = .ok (.iaload, 1) := dk_46 (dk_at dksX1_begins_0 6 rfl rfl)
theorem dX1_begins_7 : decode cX1_begins 7 = .ok (.if_icmp .gt 7, 3) := dk_163 0 7 (dk_at dksX1_begins_0 7 rfl rfl)
theorem dX1_begins_10 : decode cX1_begins 10 = .ok (.iconst 1, 1) := dk_4 (dk_at dksX1_begins_0 10 rfl rfl)
theorem dX1_begins_11 : decode cX1_begins 11 = .ok (.goto 4, 3) := dk_167 0 4 (dk_at dksX1_begins_0 11 rfl rfl)
theorem dX1_begins_14 : decode cX1_begins 14 = .ok (.iconst 0, 1) := dk_3 (dk_at dksX1_begins_0 14 rfl rfl)
theorem dX1_begins_15 : decode cX1_begins 15 = .ok (.istore 4, 2) := dk_54 4 (dk_at dksX1_begins_0 15 rfl rfl)
theorem dX1_begins_17 : decode cX1_begins 17 = .ok (.iconst 0, 1) := dk_3 (dk_at dksX1_begins_0 17 rfl rfl)
theorem dX1_begins_18 : decode cX1_begins 18 = .ok (.istore 5, 2) := dk_54 5 (dk_at dksX1_begins_0 18 rfl rfl)
theorem dX1_begins_20 : decode cX1_begins 20 = .ok (.iload 5, 2) := dk_21 5 (dk_at dksX1_begins_0 20 rfl rfl)
theorem dX1_begins_22 : decode cX1_begins 22 = .ok (.iload_n 2, 1) := dk_28 (dk_at dksX1_begins_0 22 rfl rfl)
theorem dX1_begins_23 : decode cX1_begins 23 = .ok (.if_icmp .ge 38, 3) := dk_162 0 38 (dk_at dksX1_begins_1 0 rfl rfl)
theorem dX1_begins_26 : decode cX1_begins 26 = .ok (.iload 4, 2) := dk_21 4 (dk_at dksX1_begins_1 3 rfl rfl)
theorem dX1_begins_28 : decode cX1_begins 28 = .ok (.ifCond .eq 33, 3) := dk_153 0 33 (dk_at dksX1_begins_1 5 rfl rfl)
theorem dX1_begins_31 : decode cX1_begins 31 = .ok (.aload_n 0, 1) := dk_42 (dk_at dksX1_begins_1 8 rfl rfl)
theorem dX1_begins_32 : decode cX1_begins 32 = .ok (.iload_n 1, 1) := dk_27 (dk_at dksX1_begins_1 9 rfl rfl)
theorem dX1_begins_33 : decode cX1_begins 33 = .ok (.iload 5, 2) := dk_21 5 (dk_at dksX1_begins_1 10 rfl rfl)
theorem dX1_begins_35 : decode cX1_begins 35 = .ok (.invokevirtual 145, 3) := dk_182 0 145 (dk_at dksX1_begins_1 12 rfl rfl)
theorem dX1_begins_38 : decode cX1_begins 38 = .ok (.aload_n 0, 1) := dk_42 (dk_at dksX1_begins_1 15 rfl rfl)
theorem dX1_begins_39 : decode cX1_begins 39 = .ok (.iload_n 3, 1) := dk_29 (dk_at dksX1_begins_1 16 rfl rfl)
theorem dX1_begins_40 : decode cX1_begins 40 = .ok (.iload 5, 2) := dk_21 5 (dk_at dksX1_begins_1 17 rfl rfl)
theorem dX1_begins_42 : decode cX1_begins 42 = .ok (.invokevirtual 145, 3) := dk_182 0 145 (dk_at dksX1_begins_1 19 rfl rfl)
theorem dX1_begins_45 : decode cX1_begins 45 = .ok (.if_icmp .ne 7, 3) := dk_160 0 7 (dk_at dksX1_begins_2 0 rfl rfl)
theorem dX1_begins_48 : decode cX1_begins 48 = .ok (.iconst 1, 1) := dk_4 (dk_at dksX1_begins_2 3 rfl rfl)
theorem dX1_begins_49 : decode cX1_begins 49 = .ok (.goto 4, 3) := dk_167 0 4 (dk_at dksX1_begins_2 4 rfl rfl)
theorem dX1_begins_52 : decode cX1_begins 52 = .ok (.iconst 0, 1) := dk_3 (dk_at dksX1_begins_2 7 rfl rfl)
theorem dX1_begins_53 : decode cX1_begins 53 = .ok (.istore 4, 2) := dk_54 4 (dk_at dksX1_begins_2 8 rfl rfl)
theorem dX1_begins_55 : decode cX1_begins 55 = .ok (.iinc 5 1, 3) := dk_132 5 1 (dk_at dksX1_begins_2 10 rfl rfl)
theorem dX1_begins_58 : decode cX1_begins 58 = .ok (.goto (-38), 3) := dk_167 255 218 (dk_at dksX1_begins_2 13 rfl rfl)
theorem dX1_begins_61 : decode cX1_begins 61 = .ok (.iload 4, 2) := dk_21 4 (dk_at dksX1_begins_2 16 rfl rfl)
theorem dX1_begins_63 : decode cX1_begins 63 = .ok (.ireturn, 1) := dk_172 (dk_at dksX1_begins_2 18 rfl rfl)
abbrev cX1_codeAt : ByteArray := prog_7_method_23_code
def yX1_codeAt : MethodName := ⟨RX1, "codeAt", "(II)I"⟩
def dkwX1_codeAt_0 : List UInt8 := [42, 180, 0, 22, 42, 180, 0, 16, 16, 8, 27, 104, 28, 96, 46, 16, 97, 100, 46, 172]
abbrev dktX1_codeAt_0 : List UInt8 := dkwX1_codeAt_0 ++ []
theorem dksX1_codeAt_0 : cX1_codeAt.data.toList.drop 0 = dktX1_codeAt_0 := by decide +kernel
theorem dX1_codeAt_0 : decode cX1_codeAt 0 = .ok (.aload_n 0, 1) := dk_42 (dk_at dksX1_codeAt_0 0 rfl rfl)
theorem dX1_codeAt_1 : decode cX1_codeAt 1 = .ok (.getfield 22, 3) := dk_180 0 22 (dk_at dksX1_codeAt_0 1 rfl rfl)
theorem dX1_codeAt_4 : decode cX1_codeAt 4 = .ok (.aload_n 0, 1) := dk_42 (dk_at dksX1_codeAt_0 4 rfl rfl)
theorem dX1_codeAt_5 : decode cX1_codeAt 5 = .ok (.getfield 16, 3) := dk_180 0 16 (dk_at dksX1_codeAt_0 5 rfl rfl)
theorem dX1_codeAt_8 : decode cX1_codeAt 8 = .ok (.bipush 8, 2) := dk_16 8 (dk_at dksX1_codeAt_0 8 rfl rfl)
theorem dX1_codeAt_10 : decode cX1_codeAt 10 = .ok (.iload_n 1, 1) := dk_27 (dk_at dksX1_codeAt_0 10 rfl rfl)
theorem dX1_codeAt_11 : decode cX1_codeAt 11 = .ok (.imul, 1) := dk_104 (dk_at dksX1_codeAt_0 11 rfl rfl)
theorem dX1_codeAt_12 : decode cX1_codeAt 12 = .ok (.iload_n 2, 1) := dk_28 (dk_at dksX1_codeAt_0 12 rfl rfl)
theorem dX1_codeAt_13 : decode cX1_codeAt 13 = .ok (.iadd, 1) := dk_96 (dk_at dksX1_codeAt_0 13 rfl rfl)
theorem dX1_codeAt_14 : decode cX1_codeAt 14 = .ok (.iaload, 1) := dk_46 (dk_at dksX1_codeAt_0 14 rfl rfl)
theorem dX1_codeAt_15 : decode cX1_codeAt 15 = .ok (.bipush 97, 2) := dk_16 97 (dk_at dksX1_codeAt_0 15 rfl rfl)
theorem dX1_codeAt_17 : decode cX1_codeAt 17 = .ok (.isub, 1) := dk_100 (dk_at dksX1_codeAt_0 17 rfl rfl)
theorem dX1_codeAt_18 : decode cX1_codeAt 18 = .ok (.iaload, 1) := dk_46 (dk_at dksX1_codeAt_0 18 rfl rfl)
theorem dX1_codeAt_19 : decode cX1_codeAt 19 = .ok (.ireturn, 1) := dk_172 (dk_at dksX1_codeAt_0 19 rfl rfl)
abbrev cX1_telling : ByteArray := prog_7_method_27_code
def yX1_telling : MethodName := ⟨RX1, "telling", "(I)I"⟩
def dkwX1_telling_3 : List UInt8 := [2, 172]
abbrev dktX1_telling_3 : List UInt8 := dkwX1_telling_3 ++ []
def dkwX1_telling_2 : List UInt8 := [4, 167, 0, 4, 3, 62, 132, 4, 1, 167, 255, 217, 29, 153, 0, 5, 28, 172, 132, 2, 1, 167, 255, 190]
abbrev dktX1_telling_2 : List UInt8 := dkwX1_telling_2 ++ dktX1_telling_3
def dkwX1_telling_1 : List UInt8 := [162, 0, 36, 29, 153, 0, 24, 21, 4, 27, 159, 0, 14, 42, 27, 28, 21, 4, 182, 0, 148, 154, 0, 7]
abbrev dktX1_telling_1 : List UInt8 := dkwX1_telling_1 ++ dktX1_telling_2
def dkwX1_telling_0 : List UInt8 := [3, 61, 28, 42, 180, 0, 13, 27, 46, 163, 0, 62, 4, 62, 3, 54, 4, 21, 4, 42, 180, 0, 109]
abbrev dktX1_telling_0 : List UInt8 := dkwX1_telling_0 ++ dktX1_telling_1
theorem dksX1_telling_0 : cX1_telling.data.toList.drop 0 = dktX1_telling_0 := by decide +kernel
theorem dksX1_telling_1 : cX1_telling.data.toList.drop 23 = dktX1_telling_1 := dk_seg dksX1_telling_0 23 rfl rfl
theorem dksX1_telling_2 : cX1_telling.data.toList.drop 47 = dktX1_telling_2 := dk_seg dksX1_telling_1 24 rfl rfl
theorem dksX1_telling_3 : cX1_telling.data.toList.drop 71 = dktX1_telling_3 := dk_seg dksX1_telling_2 24 rfl rfl
theorem dX1_telling_0 : decode cX1_telling 0 = .ok (.iconst 0, 1) := dk_3 (dk_at dksX1_telling_0 0 rfl rfl)
theorem dX1_telling_1 : decode cX1_telling 1 = .ok (.istore_n 2, 1) := dk_61 (dk_at dksX1_telling_0 1 rfl rfl)
theorem dX1_telling_2 : decode cX1_telling 2 = .ok (.iload_n 2, 1) := dk_28 (dk_at dksX1_telling_0 2 rfl rfl)
theorem dX1_telling_3 : decode cX1_telling 3 = .ok (.aload_n 0, 1) := dk_42 (dk_at dksX1_telling_0 3 rfl rfl)
theorem dX1_telling_4 : decode cX1_telling 4 = .ok (.getfield 13, 3) := dk_180 0 13 (dk_at dksX1_telling_0 4 rfl rfl)
theorem dX1_telling_7 : decode cX1_telling 7 = .ok (.iload_n 1, 1) := dk_27 (dk_at dksX1_telling_0 7 rfl rfl)
theorem dX1_telling_8 : decode cX1_telling 8 = .ok (.iaload, 1) := dk_46 (dk_at dksX1_telling_0 8 rfl rfl)
theorem dX1_telling_9 : decode cX1_telling 9 = .ok (.if_icmp .gt 62, 3) := dk_163 0 62 (dk_at dksX1_telling_0 9 rfl rfl)
theorem dX1_telling_12 : decode cX1_telling 12 = .ok (.iconst 1, 1) := dk_4 (dk_at dksX1_telling_0 12 rfl rfl)
theorem dX1_telling_13 : decode cX1_telling 13 = .ok (.istore_n 3, 1) := dk_62 (dk_at dksX1_telling_0 13 rfl rfl)
theorem dX1_telling_14 : decode cX1_telling 14 = .ok (.iconst 0, 1) := dk_3 (dk_at dksX1_telling_0 14 rfl rfl)
theorem dX1_telling_15 : decode cX1_telling 15 = .ok (.istore 4, 2) := dk_54 4 (dk_at dksX1_telling_0 15 rfl rfl)
theorem dX1_telling_17 : decode cX1_telling 17 = .ok (.iload 4, 2) := dk_21 4 (dk_at dksX1_telling_0 17 rfl rfl)
theorem dX1_telling_19 : decode cX1_telling 19 = .ok (.aload_n 0, 1) := dk_42 (dk_at dksX1_telling_0 19 rfl rfl)
theorem dX1_telling_20 : decode cX1_telling 20 = .ok (.getfield 109, 3) := dk_180 0 109 (dk_at dksX1_telling_0 20 rfl rfl)
theorem dX1_telling_23 : decode cX1_telling 23 = .ok (.if_icmp .ge 36, 3) := dk_162 0 36 (dk_at dksX1_telling_1 0 rfl rfl)
theorem dX1_telling_26 : decode cX1_telling 26 = .ok (.iload_n 3, 1) := dk_29 (dk_at dksX1_telling_1 3 rfl rfl)
theorem dX1_telling_27 : decode cX1_telling 27 = .ok (.ifCond .eq 24, 3) := dk_153 0 24 (dk_at dksX1_telling_1 4 rfl rfl)
theorem dX1_telling_30 : decode cX1_telling 30 = .ok (.iload 4, 2) := dk_21 4 (dk_at dksX1_telling_1 7 rfl rfl)
theorem dX1_telling_32 : decode cX1_telling 32 = .ok (.iload_n 1, 1) := dk_27 (dk_at dksX1_telling_1 9 rfl rfl)
theorem dX1_telling_33 : decode cX1_telling 33 = .ok (.if_icmp .eq 14, 3) := dk_159 0 14 (dk_at dksX1_telling_1 10 rfl rfl)
theorem dX1_telling_36 : decode cX1_telling 36 = .ok (.aload_n 0, 1) := dk_42 (dk_at dksX1_telling_1 13 rfl rfl)
theorem dX1_telling_37 : decode cX1_telling 37 = .ok (.iload_n 1, 1) := dk_27 (dk_at dksX1_telling_1 14 rfl rfl)
theorem dX1_telling_38 : decode cX1_telling 38 = .ok (.iload_n 2, 1) := dk_28 (dk_at dksX1_telling_1 15 rfl rfl)
theorem dX1_telling_39 : decode cX1_telling 39 = .ok (.iload 4, 2) := dk_21 4 (dk_at dksX1_telling_1 16 rfl rfl)
theorem dX1_telling_41 : decode cX1_telling 41 = .ok (.invokevirtual 148, 3) := dk_182 0 148 (dk_at dksX1_telling_1 18 rfl rfl)
theorem dX1_telling_44 : decode cX1_telling 44 = .ok (.ifCond .ne 7, 3) := dk_154 0 7 (dk_at dksX1_telling_1 21 rfl rfl)
theorem dX1_telling_47 : decode cX1_telling 47 = .ok (.iconst 1, 1) := dk_4 (dk_at dksX1_telling_2 0 rfl rfl)
theorem dX1_telling_48 : decode cX1_telling 48 = .ok (.goto 4, 3) := dk_167 0 4 (dk_at dksX1_telling_2 1 rfl rfl)
theorem dX1_telling_51 : decode cX1_telling 51 = .ok (.iconst 0, 1) := dk_3 (dk_at dksX1_telling_2 4 rfl rfl)
theorem dX1_telling_52 : decode cX1_telling 52 = .ok (.istore_n 3, 1) := dk_62 (dk_at dksX1_telling_2 5 rfl rfl)
theorem dX1_telling_53 : decode cX1_telling 53 = .ok (.iinc 4 1, 3) := dk_132 4 1 (dk_at dksX1_telling_2 6 rfl rfl)
theorem dX1_telling_56 : decode cX1_telling 56 = .ok (.goto (-39), 3) := dk_167 255 217 (dk_at dksX1_telling_2 9 rfl rfl)
theorem dX1_telling_59 : decode cX1_telling 59 = .ok (.iload_n 3, 1) := dk_29 (dk_at dksX1_telling_2 12 rfl rfl)
theorem dX1_telling_60 : decode cX1_telling 60 = .ok (.ifCond .eq 5, 3) := dk_153 0 5 (dk_at dksX1_telling_2 13 rfl rfl)
theorem dX1_telling_63 : decode cX1_telling 63 = .ok (.iload_n 2, 1) := dk_28 (dk_at dksX1_telling_2 16 rfl rfl)
theorem dX1_telling_64 : decode cX1_telling 64 = .ok (.ireturn, 1) := dk_172 (dk_at dksX1_telling_2 17 rfl rfl)
theorem dX1_telling_65 : decode cX1_telling 65 = .ok (.iinc 2 1, 3) := dk_132 2 1 (dk_at dksX1_telling_2 18 rfl rfl)
theorem dX1_telling_68 : decode cX1_telling 68 = .ok (.goto (-66), 3) := dk_167 255 190 (dk_at dksX1_telling_2 21 rfl rfl)
theorem dX1_telling_71 : decode cX1_telling 71 = .ok (.iconst (-1), 1) := dk_2 (dk_at dksX1_telling_3 0 rfl rfl)
theorem dX1_telling_72 : decode cX1_telling 72 = .ok (.ireturn, 1) := dk_172 (dk_at dksX1_telling_3 1 rfl rfl)
abbrev cX1_presses : ByteArray := prog_7_method_30_code
def yX1_presses : MethodName := ⟨RX1, "presses", "(I)I"⟩
def dkwX1_presses_1 : List UInt8 := [96, 54, 4, 21, 4, 28, 162, 0, 8, 21, 4, 167, 0, 4, 28, 61, 132, 3, 1, 167, 255, 218, 28, 172]
abbrev dktX1_presses_1 : List UInt8 := dkwX1_presses_1 ++ []
def dkwX1_presses_0 : List UInt8 := [18, 158, 61, 3, 62, 29, 42, 180, 0, 13, 27, 46, 163, 0, 34, 29, 42, 27, 29, 182, 0, 159, 96, 4]
abbrev dktX1_presses_0 : List UInt8 := dkwX1_presses_0 ++ dktX1_presses_1
theorem dksX1_presses_0 : cX1_presses.data.toList.drop 0 = dktX1_presses_0 := by decide +kernel
theorem dksX1_presses_1 : cX1_presses.data.toList.drop 24 = dktX1_presses_1 := dk_seg dksX1_presses_0 24 rfl rfl
theorem dX1_presses_0 : decode cX1_presses 0 = .ok (.ldc 158, 2) := dk_18 158 (dk_at dksX1_presses_0 0 rfl rfl)
theorem dX1_presses_2 : decode cX1_presses 2 = .ok (.istore_n 2, 1) := dk_61 (dk_at dksX1_presses_0 2 rfl rfl)
theorem dX1_presses_3 : decode cX1_presses 3 = .ok (.iconst 0, 1) := dk_3 (dk_at dksX1_presses_0 3 rfl rfl)
theorem dX1_presses_4 : decode cX1_presses 4 = .ok (.istore_n 3, 1) := dk_62 (dk_at dksX1_presses_0 4 rfl rfl)
theorem dX1_presses_5 : decode cX1_presses 5 = .ok (.iload_n 3, 1) := dk_29 (dk_at dksX1_presses_0 5 rfl rfl)
theorem dX1_presses_6 : decode cX1_presses 6 = .ok (.aload_n 0, 1) := dk_42 (dk_at dksX1_presses_0 6 rfl rfl)
theorem dX1_presses_7 : decode cX1_presses 7 = .ok (.getfield 13, 3) := dk_180 0 13 (dk_at dksX1_presses_0 7 rfl rfl)
theorem dX1_presses_10 : decode cX1_presses 10 = .ok (.iload_n 1, 1) := dk_27 (dk_at dksX1_presses_0 10 rfl rfl)
theorem dX1_presses_11 : decode cX1_presses 11 = .ok (.iaload, 1) := dk_46 (dk_at dksX1_presses_0 11 rfl rfl)
theorem dX1_presses_12 : decode cX1_presses 12 = .ok (.if_icmp .gt 34, 3) := dk_163 0 34 (dk_at dksX1_presses_0 12 rfl rfl)
theorem dX1_presses_15 : decode cX1_presses 15 = .ok (.iload_n 3, 1) := dk_29 (dk_at dksX1_presses_0 15 rfl rfl)
theorem dX1_presses_16 : decode cX1_presses 16 = .ok (.aload_n 0, 1) := dk_42 (dk_at dksX1_presses_0 16 rfl rfl)
theorem dX1_presses_17 : decode cX1_presses 17 = .ok (.iload_n 1, 1) := dk_27 (dk_at dksX1_presses_0 17 rfl rfl)
theorem dX1_presses_18 : decode cX1_presses 18 = .ok (.iload_n 3, 1) := dk_29 (dk_at dksX1_presses_0 18 rfl rfl)
theorem dX1_presses_19 : decode cX1_presses 19 = .ok (.invokevirtual 159, 3) := dk_182 0 159 (dk_at dksX1_presses_0 19 rfl rfl)
theorem dX1_presses_22 : decode cX1_presses 22 = .ok (.iadd, 1) := dk_96 (dk_at dksX1_presses_0 22 rfl rfl)
theorem dX1_presses_23 : decode cX1_presses 23 = .ok (.iconst 1, 1) := dk_4 (dk_at dksX1_presses_0 23 rfl rfl)
theorem dX1_presses_24 : decode cX1_presses 24 = .ok (.iadd, 1) := dk_96 (dk_at dksX1_presses_1 0 rfl rfl)
theorem dX1_presses_25 : decode cX1_presses 25 = .ok (.istore 4, 2) := dk_54 4 (dk_at dksX1_presses_1 1 rfl rfl)
theorem dX1_presses_27 : decode cX1_presses 27 = .ok (.iload 4, 2) := dk_21 4 (dk_at dksX1_presses_1 3 rfl rfl)
theorem dX1_presses_29 : decode cX1_presses 29 = .ok (.iload_n 2, 1) := dk_28 (dk_at dksX1_presses_1 5 rfl rfl)
theorem dX1_presses_30 : decode cX1_presses 30 = .ok (.if_icmp .ge 8, 3) := dk_162 0 8 (dk_at dksX1_presses_1 6 rfl rfl)
theorem dX1_presses_33 : decode cX1_presses 33 = .ok (.iload 4, 2) := dk_21 4 (dk_at dksX1_presses_1 9 rfl rfl)
theorem dX1_presses_35 : decode cX1_presses 35 = .ok (.goto 4, 3) := dk_167 0 4 (dk_at dksX1_presses_1 11 rfl rfl)
theorem dX1_presses_38 : decode cX1_presses 38 = .ok (.iload_n 2, 1) := dk_28 (dk_at dksX1_presses_1 14 rfl rfl)
theorem dX1_presses_39 : decode cX1_presses 39 = .ok (.istore_n 2, 1) := dk_61 (dk_at dksX1_presses_1 15 rfl rfl)
theorem dX1_presses_40 : decode cX1_presses 40 = .ok (.iinc 3 1, 3) := dk_132 3 1 (dk_at dksX1_presses_1 16 rfl rfl)
theorem dX1_presses_43 : decode cX1_presses 43 = .ok (.goto (-38), 3) := dk_167 255 218 (dk_at dksX1_presses_1 19 rfl rfl)
theorem dX1_presses_46 : decode cX1_presses 46 = .ok (.iload_n 2, 1) := dk_28 (dk_at dksX1_presses_1 22 rfl rfl)
theorem dX1_presses_47 : decode cX1_presses 47 = .ok (.ireturn, 1) := dk_172 (dk_at dksX1_presses_1 23 rfl rfl)
abbrev cX1_placeIn : ByteArray := prog_7_method_29_code
def yX1_placeIn : MethodName := ⟨RX1, "placeIn", "(II)I"⟩
def dkwX1_placeIn_2 : List UInt8 := [167, 255, 215, 29, 172]
abbrev dktX1_placeIn_2 : List UInt8 := dkwX1_placeIn_2 ++ []
def dkwX1_placeIn_1 : List UInt8 := [153, 0, 17, 42, 21, 4, 27, 182, 0, 155, 153, 0, 7, 4, 167, 0, 4, 3, 96, 62, 132, 4, 1]
abbrev dktX1_placeIn_1 : List UInt8 := dkwX1_placeIn_1 ++ dktX1_placeIn_2
def dkwX1_placeIn_0 : List UInt8 := [3, 62, 3, 54, 4, 21, 4, 42, 180, 0, 109, 162, 0, 38, 29, 42, 27, 28, 21, 4, 182, 0, 148]
abbrev dktX1_placeIn_0 : List UInt8 := dkwX1_placeIn_0 ++ dktX1_placeIn_1
theorem dksX1_placeIn_0 : cX1_placeIn.data.toList.drop 0 = dktX1_placeIn_0 := by decide +kernel
theorem dksX1_placeIn_1 : cX1_placeIn.data.toList.drop 23 = dktX1_placeIn_1 := dk_seg dksX1_placeIn_0 23 rfl rfl
theorem dksX1_placeIn_2 : cX1_placeIn.data.toList.drop 46 = dktX1_placeIn_2 := dk_seg dksX1_placeIn_1 23 rfl rfl
theorem dX1_placeIn_0 : decode cX1_placeIn 0 = .ok (.iconst 0, 1) := dk_3 (dk_at dksX1_placeIn_0 0 rfl rfl)
theorem dX1_placeIn_1 : decode cX1_placeIn 1 = .ok (.istore_n 3, 1) := dk_62 (dk_at dksX1_placeIn_0 1 rfl rfl)
theorem dX1_placeIn_2 : decode cX1_placeIn 2 = .ok (.iconst 0, 1) := dk_3 (dk_at dksX1_placeIn_0 2 rfl rfl)
theorem dX1_placeIn_3 : decode cX1_placeIn 3 = .ok (.istore 4, 2) := dk_54 4 (dk_at dksX1_placeIn_0 3 rfl rfl)
theorem dX1_placeIn_5 : decode cX1_placeIn 5 = .ok (.iload 4, 2) := dk_21 4 (dk_at dksX1_placeIn_0 5 rfl rfl)
theorem dX1_placeIn_7 : decode cX1_placeIn 7 = .ok (.aload_n 0, 1) := dk_42 (dk_at dksX1_placeIn_0 7 rfl rfl)
theorem dX1_placeIn_8 : decode cX1_placeIn 8 = .ok (.getfield 109, 3) := dk_180 0 109 (dk_at dksX1_placeIn_0 8 rfl rfl)
theorem dX1_placeIn_11 : decode cX1_placeIn 11 = .ok (.if_icmp .ge 38, 3) := dk_162 0 38 (dk_at dksX1_placeIn_0 11 rfl rfl)
theorem dX1_placeIn_14 : decode cX1_placeIn 14 = .ok (.iload_n 3, 1) := dk_29 (dk_at dksX1_placeIn_0 14 rfl rfl)
theorem dX1_placeIn_15 : decode cX1_placeIn 15 = .ok (.aload_n 0, 1) := dk_42 (dk_at dksX1_placeIn_0 15 rfl rfl)
theorem dX1_placeIn_16 : decode cX1_placeIn 16 = .ok (.iload_n 1, 1) := dk_27 (dk_at dksX1_placeIn_0 16 rfl rfl)
theorem dX1_placeIn_17 : decode cX1_placeIn 17 = .ok (.iload_n 2, 1) := dk_28 (dk_at dksX1_placeIn_0 17 rfl rfl)
theorem dX1_placeIn_18 : decode cX1_placeIn 18 = .ok (.iload 4, 2) := dk_21 4 (dk_at dksX1_placeIn_0 18 rfl rfl)
theorem dX1_placeIn_20 : decode cX1_placeIn 20 = .ok (.invokevirtual 148, 3) := dk_182 0 148 (dk_at dksX1_placeIn_0 20 rfl rfl)
theorem dX1_placeIn_23 : decode cX1_placeIn 23 = .ok (.ifCond .eq 17, 3) := dk_153 0 17 (dk_at dksX1_placeIn_1 0 rfl rfl)
theorem dX1_placeIn_26 : decode cX1_placeIn 26 = .ok (.aload_n 0, 1) := dk_42 (dk_at dksX1_placeIn_1 3 rfl rfl)
theorem dX1_placeIn_27 : decode cX1_placeIn 27 = .ok (.iload 4, 2) := dk_21 4 (dk_at dksX1_placeIn_1 4 rfl rfl)
theorem dX1_placeIn_29 : decode cX1_placeIn 29 = .ok (.iload_n 1, 1) := dk_27 (dk_at dksX1_placeIn_1 6 rfl rfl)
theorem dX1_placeIn_30 : decode cX1_placeIn 30 = .ok (.invokevirtual 155, 3) := dk_182 0 155 (dk_at dksX1_placeIn_1 7 rfl rfl)
theorem dX1_placeIn_33 : decode cX1_placeIn 33 = .ok (.ifCond .eq 7, 3) := dk_153 0 7 (dk_at dksX1_placeIn_1 10 rfl rfl)
theorem dX1_placeIn_36 : decode cX1_placeIn 36 = .ok (.iconst 1, 1) := dk_4 (dk_at dksX1_placeIn_1 13 rfl rfl)
theorem dX1_placeIn_37 : decode cX1_placeIn 37 = .ok (.goto 4, 3) := dk_167 0 4 (dk_at dksX1_placeIn_1 14 rfl rfl)
theorem dX1_placeIn_40 : decode cX1_placeIn 40 = .ok (.iconst 0, 1) := dk_3 (dk_at dksX1_placeIn_1 17 rfl rfl)
theorem dX1_placeIn_41 : decode cX1_placeIn 41 = .ok (.iadd, 1) := dk_96 (dk_at dksX1_placeIn_1 18 rfl rfl)
theorem dX1_placeIn_42 : decode cX1_placeIn 42 = .ok (.istore_n 3, 1) := dk_62 (dk_at dksX1_placeIn_1 19 rfl rfl)
theorem dX1_placeIn_43 : decode cX1_placeIn 43 = .ok (.iinc 4 1, 3) := dk_132 4 1 (dk_at dksX1_placeIn_1 20 rfl rfl)
theorem dX1_placeIn_46 : decode cX1_placeIn 46 = .ok (.goto (-41), 3) := dk_167 255 215 (dk_at dksX1_placeIn_2 0 rfl rfl)
theorem dX1_placeIn_49 : decode cX1_placeIn 49 = .ok (.iload_n 3, 1) := dk_29 (dk_at dksX1_placeIn_2 3 rfl rfl)
theorem dX1_placeIn_50 : decode cX1_placeIn 50 = .ok (.ireturn, 1) := dk_172 (dk_at dksX1_placeIn_2 4 rfl rfl)
abbrev cX1_isAhead : ByteArray := prog_7_method_28_code
def yX1_isAhead : MethodName := ⟨RX1, "isAhead", "(II)Z"⟩
def dkwX1_isAhead_1 : List UInt8 := [180, 0, 19, 28, 46, 160, 0, 12, 27, 28, 162, 0, 7, 4, 167, 0, 4, 3, 172]
abbrev dktX1_isAhead_1 : List UInt8 := dkwX1_isAhead_1 ++ []
def dkwX1_isAhead_0 : List UInt8 := [42, 180, 0, 19, 27, 46, 42, 180, 0, 19, 28, 46, 163, 0, 23, 42, 180, 0, 19, 27, 46, 42]
abbrev dktX1_isAhead_0 : List UInt8 := dkwX1_isAhead_0 ++ dktX1_isAhead_1
theorem dksX1_isAhead_0 : cX1_isAhead.data.toList.drop 0 = dktX1_isAhead_0 := by decide +kernel
theorem dksX1_isAhead_1 : cX1_isAhead.data.toList.drop 22 = dktX1_isAhead_1 := dk_seg dksX1_isAhead_0 22 rfl rfl
theorem dX1_isAhead_0 : decode cX1_isAhead 0 = .ok (.aload_n 0, 1) := dk_42 (dk_at dksX1_isAhead_0 0 rfl rfl)
theorem dX1_isAhead_1 : decode cX1_isAhead 1 = .ok (.getfield 19, 3) := dk_180 0 19 (dk_at dksX1_isAhead_0 1 rfl rfl)
theorem dX1_isAhead_4 : decode cX1_isAhead 4 = .ok (.iload_n 1, 1) := dk_27 (dk_at dksX1_isAhead_0 4 rfl rfl)
theorem dX1_isAhead_5 : decode cX1_isAhead 5 = .ok (.iaload, 1) := dk_46 (dk_at dksX1_isAhead_0 5 rfl rfl)
theorem dX1_isAhead_6 : decode cX1_isAhead 6 = .ok (.aload_n 0, 1) := dk_42 (dk_at dksX1_isAhead_0 6 rfl rfl)
theorem dX1_isAhead_7 : decode cX1_isAhead 7 = .ok (.getfield 19, 3) := dk_180 0 19 (dk_at dksX1_isAhead_0 7 rfl rfl)
theorem dX1_isAhead_10 : decode cX1_isAhead 10 = .ok (.iload_n 2, 1) := dk_28 (dk_at dksX1_isAhead_0 10 rfl rfl)
theorem dX1_isAhead_11 : decode cX1_isAhead 11 = .ok (.iaload, 1) := dk_46 (dk_at dksX1_isAhead_0 11 rfl rfl)
theorem dX1_isAhead_12 : decode cX1_isAhead 12 = .ok (.if_icmp .gt 23, 3) := dk_163 0 23 (dk_at dksX1_isAhead_0 12 rfl rfl)
theorem dX1_isAhead_15 : decode cX1_isAhead 15 = .ok (.aload_n 0, 1) := dk_42 (dk_at dksX1_isAhead_0 15 rfl rfl)
theorem dX1_isAhead_16 : decode cX1_isAhead 16 = .ok (.getfield 19, 3) := dk_180 0 19 (dk_at dksX1_isAhead_0 16 rfl rfl)
theorem dX1_isAhead_19 : decode cX1_isAhead 19 = .ok (.iload_n 1, 1) := dk_27 (dk_at dksX1_isAhead_0 19 rfl rfl)
theorem dX1_isAhead_20 : decode cX1_isAhead 20 = .ok (.iaload, 1) := dk_46 (dk_at dksX1_isAhead_0 20 rfl rfl)
theorem dX1_isAhead_21 : decode cX1_isAhead 21 = .ok (.aload_n 0, 1) := dk_42 (dk_at dksX1_isAhead_0 21 rfl rfl)
theorem dX1_isAhead_22 : decode cX1_isAhead 22 = .ok (.getfield 19, 3) := dk_180 0 19 (dk_at dksX1_isAhead_1 0 rfl rfl)
theorem dX1_isAhead_25 : decode cX1_isAhead 25 = .ok (.iload_n 2, 1) := dk_28 (dk_at dksX1_isAhead_1 3 rfl rfl)
theorem dX1_isAhead_26 : decode cX1_isAhead 26 = .ok (.iaload, 1) := dk_46 (dk_at dksX1_isAhead_1 4 rfl rfl)
theorem dX1_isAhead_27 : decode cX1_isAhead 27 = .ok (.if_icmp .ne 12, 3) := dk_160 0 12 (dk_at dksX1_isAhead_1 5 rfl rfl)
theorem dX1_isAhead_30 : decode cX1_isAhead 30 = .ok (.iload_n 1, 1) := dk_27 (dk_at dksX1_isAhead_1 8 rfl rfl)
theorem dX1_isAhead_31 : decode cX1_isAhead 31 = .ok (.iload_n 2, 1) := dk_28 (dk_at dksX1_isAhead_1 9 rfl rfl)
theorem dX1_isAhead_32 : decode cX1_isAhead 32 = .ok (.if_icmp .ge 7, 3) := dk_162 0 7 (dk_at dksX1_isAhead_1 10 rfl rfl)
theorem dX1_isAhead_35 : decode cX1_isAhead 35 = .ok (.iconst 1, 1) := dk_4 (dk_at dksX1_isAhead_1 13 rfl rfl)
theorem dX1_isAhead_36 : decode cX1_isAhead 36 = .ok (.goto 4, 3) := dk_167 0 4 (dk_at dksX1_isAhead_1 14 rfl rfl)
theorem dX1_isAhead_39 : decode cX1_isAhead 39 = .ok (.iconst 0, 1) := dk_3 (dk_at dksX1_isAhead_1 17 rfl rfl)
theorem dX1_isAhead_40 : decode cX1_isAhead 40 = .ok (.ireturn, 1) := dk_172 (dk_at dksX1_isAhead_1 18 rfl rfl)
abbrev cX1_layMenu : ByteArray := prog_7_method_68_code
def yX1_layMenu : MethodName := ⟨RX1, "layMenu", "(I)V"⟩
def dkwX1_layMenu_1 : List UInt8 := [167, 255, 239, 177]
abbrev dktX1_layMenu_1 : List UInt8 := dkwX1_layMenu_1 ++ []
def dkwX1_layMenu_0 : List UInt8 := [42, 27, 182, 0, 250, 3, 61, 28, 42, 180, 0, 109, 162, 0, 15, 42, 27, 28, 182, 0, 253, 132, 2, 1]
abbrev dktX1_layMenu_0 : List UInt8 := dkwX1_layMenu_0 ++ dktX1_layMenu_1
theorem dksX1_layMenu_0 : cX1_layMenu.data.toList.drop 0 = dktX1_layMenu_0 := by decide +kernel
theorem dksX1_layMenu_1 : cX1_layMenu.data.toList.drop 24 = dktX1_layMenu_1 := dk_seg dksX1_layMenu_0 24 rfl rfl
theorem dX1_layMenu_0 : decode cX1_layMenu 0 = .ok (.aload_n 0, 1) := dk_42 (dk_at dksX1_layMenu_0 0 rfl rfl)
theorem dX1_layMenu_1 : decode cX1_layMenu 1 = .ok (.iload_n 1, 1) := dk_27 (dk_at dksX1_layMenu_0 1 rfl rfl)
theorem dX1_layMenu_2 : decode cX1_layMenu 2 = .ok (.invokevirtual 250, 3) := dk_182 0 250 (dk_at dksX1_layMenu_0 2 rfl rfl)
theorem dX1_layMenu_5 : decode cX1_layMenu 5 = .ok (.iconst 0, 1) := dk_3 (dk_at dksX1_layMenu_0 5 rfl rfl)
theorem dX1_layMenu_6 : decode cX1_layMenu 6 = .ok (.istore_n 2, 1) := dk_61 (dk_at dksX1_layMenu_0 6 rfl rfl)
theorem dX1_layMenu_7 : decode cX1_layMenu 7 = .ok (.iload_n 2, 1) := dk_28 (dk_at dksX1_layMenu_0 7 rfl rfl)
theorem dX1_layMenu_8 : decode cX1_layMenu 8 = .ok (.aload_n 0, 1) := dk_42 (dk_at dksX1_layMenu_0 8 rfl rfl)
theorem dX1_layMenu_9 : decode cX1_layMenu 9 = .ok (.getfield 109, 3) := dk_180 0 109 (dk_at dksX1_layMenu_0 9 rfl rfl)
theorem dX1_layMenu_12 : decode cX1_layMenu 12 = .ok (.if_icmp .ge 15, 3) := dk_162 0 15 (dk_at dksX1_layMenu_0 12 rfl rfl)
theorem dX1_layMenu_15 : decode cX1_layMenu 15 = .ok (.aload_n 0, 1) := dk_42 (dk_at dksX1_layMenu_0 15 rfl rfl)
theorem dX1_layMenu_16 : decode cX1_layMenu 16 = .ok (.iload_n 1, 1) := dk_27 (dk_at dksX1_layMenu_0 16 rfl rfl)
theorem dX1_layMenu_17 : decode cX1_layMenu 17 = .ok (.iload_n 2, 1) := dk_28 (dk_at dksX1_layMenu_0 17 rfl rfl)
theorem dX1_layMenu_18 : decode cX1_layMenu 18 = .ok (.invokevirtual 253, 3) := dk_182 0 253 (dk_at dksX1_layMenu_0 18 rfl rfl)
theorem dX1_layMenu_21 : decode cX1_layMenu 21 = .ok (.iinc 2 1, 3) := dk_132 2 1 (dk_at dksX1_layMenu_0 21 rfl rfl)
theorem dX1_layMenu_24 : decode cX1_layMenu 24 = .ok (.goto (-17), 3) := dk_167 255 239 (dk_at dksX1_layMenu_1 0 rfl rfl)
theorem dX1_layMenu_27 : decode cX1_layMenu 27 = .ok (.return_, 1) := dk_177 (dk_at dksX1_layMenu_1 3 rfl rfl)
abbrev cX1_layCosts : ByteArray := prog_7_method_63_code
def yX1_layCosts : MethodName := ⟨RX1, "layCosts", "(I)V"⟩
def dkwX1_layCosts_1 : List UInt8 := [29, 29, 28, 96, 182, 0, 235, 132, 3, 1, 167, 255, 234, 132, 2, 1, 167, 255, 218, 177]
abbrev dktX1_layCosts_1 : List UInt8 := dkwX1_layCosts_1 ++ []
def dkwX1_layCosts_0 : List UInt8 := [4, 61, 28, 42, 180, 0, 109, 163, 0, 36, 3, 62, 29, 28, 96, 42, 180, 0, 109, 163, 0, 18, 42, 27]
abbrev dktX1_layCosts_0 : List UInt8 := dkwX1_layCosts_0 ++ dktX1_layCosts_1
theorem dksX1_layCosts_0 : cX1_layCosts.data.toList.drop 0 = dktX1_layCosts_0 := by decide +kernel
theorem dksX1_layCosts_1 : cX1_layCosts.data.toList.drop 24 = dktX1_layCosts_1 := dk_seg dksX1_layCosts_0 24 rfl rfl
theorem dX1_layCosts_0 : decode cX1_layCosts 0 = .ok (.iconst 1, 1) := dk_4 (dk_at dksX1_layCosts_0 0 rfl rfl)
theorem dX1_layCosts_1 : decode cX1_layCosts 1 = .ok (.istore_n 2, 1) := dk_61 (dk_at dksX1_layCosts_0 1 rfl rfl)
theorem dX1_layCosts_2 : decode cX1_layCosts 2 = .ok (.iload_n 2, 1) := dk_28 (dk_at dksX1_layCosts_0 2 rfl rfl)
theorem dX1_layCosts_3 : decode cX1_layCosts 3 = .ok (.aload_n 0, 1) := dk_42 (dk_at dksX1_layCosts_0 3 rfl rfl)
theorem dX1_layCosts_4 : decode cX1_layCosts 4 = .ok (.getfield 109, 3) := dk_180 0 109 (dk_at dksX1_layCosts_0 4 rfl rfl)
theorem dX1_layCosts_7 : decode cX1_layCosts 7 = .ok (.if_icmp .gt 36, 3) := dk_163 0 36 (dk_at dksX1_layCosts_0 7 rfl rfl)
theorem dX1_layCosts_10 : decode cX1_layCosts 10 = .ok (.iconst 0, 1) := dk_3 (dk_at dksX1_layCosts_0 10 rfl rfl)
theorem dX1_layCosts_11 : decode cX1_layCosts 11 = .ok (.istore_n 3, 1) := dk_62 (dk_at dksX1_layCosts_0 11 rfl rfl)
theorem dX1_layCosts_12 : decode cX1_layCosts 12 = .ok (.iload_n 3, 1) := dk_29 (dk_at dksX1_layCosts_0 12 rfl rfl)
theorem dX1_layCosts_13 : decode cX1_layCosts 13 = .ok (.iload_n 2, 1) := dk_28 (dk_at dksX1_layCosts_0 13 rfl rfl)
theorem dX1_layCosts_14 : decode cX1_layCosts 14 = .ok (.iadd, 1) := dk_96 (dk_at dksX1_layCosts_0 14 rfl rfl)
theorem dX1_layCosts_15 : decode cX1_layCosts 15 = .ok (.aload_n 0, 1) := dk_42 (dk_at dksX1_layCosts_0 15 rfl rfl)
theorem dX1_layCosts_16 : decode cX1_layCosts 16 = .ok (.getfield 109, 3) := dk_180 0 109 (dk_at dksX1_layCosts_0 16 rfl rfl)
theorem dX1_layCosts_19 : decode cX1_layCosts 19 = .ok (.if_icmp .gt 18, 3) := dk_163 0 18 (dk_at dksX1_layCosts_0 19 rfl rfl)
theorem dX1_layCosts_22 : decode cX1_layCosts 22 = .ok (.aload_n 0, 1) := dk_42 (dk_at dksX1_layCosts_0 22 rfl rfl)
theorem dX1_layCosts_23 : decode cX1_layCosts 23 = .ok (.iload_n 1, 1) := dk_27 (dk_at dksX1_layCosts_0 23 rfl rfl)
theorem dX1_layCosts_24 : decode cX1_layCosts 24 = .ok (.iload_n 3, 1) := dk_29 (dk_at dksX1_layCosts_1 0 rfl rfl)
theorem dX1_layCosts_25 : decode cX1_layCosts 25 = .ok (.iload_n 3, 1) := dk_29 (dk_at dksX1_layCosts_1 1 rfl rfl)
theorem dX1_layCosts_26 : decode cX1_layCosts 26 = .ok (.iload_n 2, 1) := dk_28 (dk_at dksX1_layCosts_1 2 rfl rfl)
theorem dX1_layCosts_27 : decode cX1_layCosts 27 = .ok (.iadd, 1) := dk_96 (dk_at dksX1_layCosts_1 3 rfl rfl)
theorem dX1_layCosts_28 : decode cX1_layCosts 28 = .ok (.invokevirtual 235, 3) := dk_182 0 235 (dk_at dksX1_layCosts_1 4 rfl rfl)
theorem dX1_layCosts_31 : decode cX1_layCosts 31 = .ok (.iinc 3 1, 3) := dk_132 3 1 (dk_at dksX1_layCosts_1 7 rfl rfl)
theorem dX1_layCosts_34 : decode cX1_layCosts 34 = .ok (.goto (-22), 3) := dk_167 255 234 (dk_at dksX1_layCosts_1 10 rfl rfl)
theorem dX1_layCosts_37 : decode cX1_layCosts 37 = .ok (.iinc 2 1, 3) := dk_132 2 1 (dk_at dksX1_layCosts_1 13 rfl rfl)
theorem dX1_layCosts_40 : decode cX1_layCosts 40 = .ok (.goto (-38), 3) := dk_167 255 218 (dk_at dksX1_layCosts_1 16 rfl rfl)
theorem dX1_layCosts_43 : decode cX1_layCosts 43 = .ok (.return_, 1) := dk_177 (dk_at dksX1_layCosts_1 19 rfl rfl)
abbrev cX1_layStretch : ByteArray := prog_7_method_64_code
def yX1_layStretch : MethodName := ⟨RX1, "layStretch", "(III)V"⟩
def dkwX1_layStretch_4 : List UInt8 := [79, 42, 180, 0, 61, 17, 0, 225, 16, 15, 28, 104, 96, 29, 96, 42, 28, 29, 182, 0, 232, 79, 177]
abbrev dktX1_layStretch_4 : List UInt8 := dkwX1_layStretch_4 ++ []
def dkwX1_layStretch_3 : List UInt8 := [28, 104, 29, 96, 29, 28, 100, 4, 160, 0, 7, 3, 167, 0, 12, 21, 4, 42, 28, 29, 182, 0, 241, 96]
abbrev dktX1_layStretch_3 : List UInt8 := dkwX1_layStretch_3 ++ dktX1_layStretch_4
def dkwX1_layStretch_2 : List UInt8 := [162, 0, 8, 21, 6, 167, 0, 5, 21, 4, 54, 4, 132, 5, 1, 167, 255, 201, 42, 180, 0, 58, 16, 15]
abbrev dktX1_layStretch_2 : List UInt8 := dkwX1_layStretch_2 ++ dktX1_layStretch_3
def dkwX1_layStretch_1 : List UInt8 := [180, 0, 61, 17, 0, 225, 21, 5, 104, 16, 15, 28, 104, 96, 29, 96, 21, 6, 79, 21, 6, 21, 4]
abbrev dktX1_layStretch_1 : List UInt8 := dkwX1_layStretch_1 ++ dktX1_layStretch_2
def dkwX1_layStretch_0 : List UInt8 := [18, 158, 54, 4, 5, 54, 5, 21, 5, 27, 163, 0, 55, 42, 21, 5, 28, 29, 182, 0, 238, 54, 6, 42]
abbrev dktX1_layStretch_0 : List UInt8 := dkwX1_layStretch_0 ++ dktX1_layStretch_1
theorem dksX1_layStretch_0 : cX1_layStretch.data.toList.drop 0 = dktX1_layStretch_0 := by decide +kernel
theorem dksX1_layStretch_1 : cX1_layStretch.data.toList.drop 24 = dktX1_layStretch_1 := dk_seg dksX1_layStretch_0 24 rfl rfl
theorem dksX1_layStretch_2 : cX1_layStretch.data.toList.drop 47 = dktX1_layStretch_2 := dk_seg dksX1_layStretch_1 23 rfl rfl
theorem dksX1_layStretch_3 : cX1_layStretch.data.toList.drop 71 = dktX1_layStretch_3 := dk_seg dksX1_layStretch_2 24 rfl rfl
theorem dksX1_layStretch_4 : cX1_layStretch.data.toList.drop 95 = dktX1_layStretch_4 := dk_seg dksX1_layStretch_3 24 rfl rfl
theorem dX1_layStretch_0 : decode cX1_layStretch 0 = .ok (.ldc 158, 2) := dk_18 158 (dk_at dksX1_layStretch_0 0 rfl rfl)
theorem dX1_layStretch_2 : decode cX1_layStretch 2 = .ok (.istore 4, 2) := dk_54 4 (dk_at dksX1_layStretch_0 2 rfl rfl)
theorem dX1_layStretch_4 : decode cX1_layStretch 4 = .ok (.iconst 2, 1) := dk_5 (dk_at dksX1_layStretch_0 4 rfl rfl)
theorem dX1_layStretch_5 : decode cX1_layStretch 5 = .ok (.istore 5, 2) := dk_54 5 (dk_at dksX1_layStretch_0 5 rfl rfl)
theorem dX1_layStretch_7 : decode cX1_layStretch 7 = .ok (.iload 5, 2) := dk_21 5 (dk_at dksX1_layStretch_0 7 rfl rfl)
theorem dX1_layStretch_9 : decode cX1_layStretch 9 = .ok (.iload_n 1, 1) := dk_27 (dk_at dksX1_layStretch_0 9 rfl rfl)
theorem dX1_layStretch_10 : decode cX1_layStretch 10 = .ok (.if_icmp .gt 55, 3) := dk_163 0 55 (dk_at dksX1_layStretch_0 10 rfl rfl)
theorem dX1_layStretch_13 : decode cX1_layStretch 13 = .ok (.aload_n 0, 1) := dk_42 (dk_at dksX1_layStretch_0 13 rfl rfl)
theorem dX1_layStretch_14 : decode cX1_layStretch 14 = .ok (.iload 5, 2) := dk_21 5 (dk_at dksX1_layStretch_0 14 rfl rfl)
theorem dX1_layStretch_16 : decode cX1_layStretch 16 = .ok (.iload_n 2, 1) := dk_28 (dk_at dksX1_layStretch_0 16 rfl rfl)
theorem dX1_layStretch_17 : decode cX1_layStretch 17 = .ok (.iload_n 3, 1) := dk_29 (dk_at dksX1_layStretch_0 17 rfl rfl)
theorem dX1_layStretch_18 : decode cX1_layStretch 18 = .ok (.invokevirtual 238, 3) := dk_182 0 238 (dk_at dksX1_layStretch_0 18 rfl rfl)
theorem dX1_layStretch_21 : decode cX1_layStretch 21 = .ok (.istore 6, 2) := dk_54 6 (dk_at dksX1_layStretch_0 21 rfl rfl)
theorem dX1_layStretch_23 : decode cX1_layStretch 23 = .ok (.aload_n 0, 1) := dk_42 (dk_at dksX1_layStretch_0 23 rfl rfl)
theorem dX1_layStretch_24 : decode cX1_layStretch 24 = .ok (.getfield 61, 3) := dk_180 0 61 (dk_at dksX1_layStretch_1 0 rfl rfl)
theorem dX1_layStretch_27 : decode cX1_layStretch 27 = .ok (.sipush 225, 3) := dk_17 0 225 (dk_at dksX1_layStretch_1 3 rfl rfl)
theorem dX1_layStretch_30 : decode cX1_layStretch 30 = .ok (.iload 5, 2) := dk_21 5 (dk_at dksX1_layStretch_1 6 rfl rfl)
theorem dX1_layStretch_32 : decode cX1_layStretch 32 = .ok (.imul, 1) := dk_104 (dk_at dksX1_layStretch_1 8 rfl rfl)
theorem dX1_layStretch_33 : decode cX1_layStretch 33 = .ok (.bipush 15, 2) := dk_16 15 (dk_at dksX1_layStretch_1 9 rfl rfl)
theorem dX1_layStretch_35 : decode cX1_layStretch 35 = .ok (.iload_n 2, 1) := dk_28 (dk_at dksX1_layStretch_1 11 rfl rfl)
theorem dX1_layStretch_36 : decode cX1_layStretch 36 = .ok (.imul, 1) := dk_104 (dk_at dksX1_layStretch_1 12 rfl rfl)
theorem dX1_layStretch_37 : decode cX1_layStretch 37 = .ok (.iadd, 1) := dk_96 (dk_at dksX1_layStretch_1 13 rfl rfl)
theorem dX1_layStretch_38 : decode cX1_layStretch 38 = .ok (.iload_n 3, 1) := dk_29 (dk_at dksX1_layStretch_1 14 rfl rfl)
theorem dX1_layStretch_39 : decode cX1_layStretch 39 = .ok (.iadd, 1) := dk_96 (dk_at dksX1_layStretch_1 15 rfl rfl)
theorem dX1_layStretch_40 : decode cX1_layStretch 40 = .ok (.iload 6, 2) := dk_21 6 (dk_at dksX1_layStretch_1 16 rfl rfl)
theorem dX1_layStretch_42 : decode cX1_layStretch 42 = .ok (.iastore, 1) := dk_79 (dk_at dksX1_layStretch_1 18 rfl rfl)
theorem dX1_layStretch_43 : decode cX1_layStretch 43 = .ok (.iload 6, 2) := dk_21 6 (dk_at dksX1_layStretch_1 19 rfl rfl)
theorem dX1_layStretch_45 : decode cX1_layStretch 45 = .ok (.iload 4, 2) := dk_21 4 (dk_at dksX1_layStretch_1 21 rfl rfl)
theorem dX1_layStretch_47 : decode cX1_layStretch 47 = .ok (.if_icmp .ge 8, 3) := dk_162 0 8 (dk_at dksX1_layStretch_2 0 rfl rfl)
theorem dX1_layStretch_50 : decode cX1_layStretch 50 = .ok (.iload 6, 2) := dk_21 6 (dk_at dksX1_layStretch_2 3 rfl rfl)
theorem dX1_layStretch_52 : decode cX1_layStretch 52 = .ok (.goto 5, 3) := dk_167 0 5 (dk_at dksX1_layStretch_2 5 rfl rfl)
theorem dX1_layStretch_55 : decode cX1_layStretch 55 = .ok (.iload 4, 2) := dk_21 4 (dk_at dksX1_layStretch_2 8 rfl rfl)
theorem dX1_layStretch_57 : decode cX1_layStretch 57 = .ok (.istore 4, 2) := dk_54 4 (dk_at dksX1_layStretch_2 10 rfl rfl)
theorem dX1_layStretch_59 : decode cX1_layStretch 59 = .ok (.iinc 5 1, 3) := dk_132 5 1 (dk_at dksX1_layStretch_2 12 rfl rfl)
theorem dX1_layStretch_62 : decode cX1_layStretch 62 = .ok (.goto (-55), 3) := dk_167 255 201 (dk_at dksX1_layStretch_2 15 rfl rfl)
theorem dX1_layStretch_65 : decode cX1_layStretch 65 = .ok (.aload_n 0, 1) := dk_42 (dk_at dksX1_layStretch_2 18 rfl rfl)
theorem dX1_layStretch_66 : decode cX1_layStretch 66 = .ok (.getfield 58, 3) := dk_180 0 58 (dk_at dksX1_layStretch_2 19 rfl rfl)
theorem dX1_layStretch_69 : decode cX1_layStretch 69 = .ok (.bipush 15, 2) := dk_16 15 (dk_at dksX1_layStretch_2 22 rfl rfl)
theorem dX1_layStretch_71 : decode cX1_layStretch 71 = .ok (.iload_n 2, 1) := dk_28 (dk_at dksX1_layStretch_3 0 rfl rfl)
theorem dX1_layStretch_72 : decode cX1_layStretch 72 = .ok (.imul, 1) := dk_104 (dk_at dksX1_layStretch_3 1 rfl rfl)
theorem dX1_layStretch_73 : decode cX1_layStretch 73 = .ok (.iload_n 3, 1) := dk_29 (dk_at dksX1_layStretch_3 2 rfl rfl)
theorem dX1_layStretch_74 : decode cX1_layStretch 74 = .ok (.iadd, 1) := dk_96 (dk_at dksX1_layStretch_3 3 rfl rfl)
theorem dX1_layStretch_75 : decode cX1_layStretch 75 = .ok (.iload_n 3, 1) := dk_29 (dk_at dksX1_layStretch_3 4 rfl rfl)
theorem dX1_layStretch_76 : decode cX1_layStretch 76 = .ok (.iload_n 2, 1) := dk_28 (dk_at dksX1_layStretch_3 5 rfl rfl)
theorem dX1_layStretch_77 : decode cX1_layStretch 77 = .ok (.isub, 1) := dk_100 (dk_at dksX1_layStretch_3 6 rfl rfl)
theorem dX1_layStretch_78 : decode cX1_layStretch 78 = .ok (.iconst 1, 1) := dk_4 (dk_at dksX1_layStretch_3 7 rfl rfl)
theorem dX1_layStretch_79 : decode cX1_layStretch 79 = .ok (.if_icmp .ne 7, 3) := dk_160 0 7 (dk_at dksX1_layStretch_3 8 rfl rfl)
theorem dX1_layStretch_82 : decode cX1_layStretch 82 = .ok (.iconst 0, 1) := dk_3 (dk_at dksX1_layStretch_3 11 rfl rfl)
theorem dX1_layStretch_83 : decode cX1_layStretch 83 = .ok (.goto 12, 3) := dk_167 0 12 (dk_at dksX1_layStretch_3 12 rfl rfl)
theorem dX1_layStretch_86 : decode cX1_layStretch 86 = .ok (.iload 4, 2) := dk_21 4 (dk_at dksX1_layStretch_3 15 rfl rfl)
theorem dX1_layStretch_88 : decode cX1_layStretch 88 = .ok (.aload_n 0, 1) := dk_42 (dk_at dksX1_layStretch_3 17 rfl rfl)
theorem dX1_layStretch_89 : decode cX1_layStretch 89 = .ok (.iload_n 2, 1) := dk_28 (dk_at dksX1_layStretch_3 18 rfl rfl)
theorem dX1_layStretch_90 : decode cX1_layStretch 90 = .ok (.iload_n 3, 1) := dk_29 (dk_at dksX1_layStretch_3 19 rfl rfl)
theorem dX1_layStretch_91 : decode cX1_layStretch 91 = .ok (.invokevirtual 241, 3) := dk_182 0 241 (dk_at dksX1_layStretch_3 20 rfl rfl)
theorem dX1_layStretch_94 : decode cX1_layStretch 94 = .ok (.iadd, 1) := dk_96 (dk_at dksX1_layStretch_3 23 rfl rfl)
theorem dX1_layStretch_95 : decode cX1_layStretch 95 = .ok (.iastore, 1) := dk_79 (dk_at dksX1_layStretch_4 0 rfl rfl)
theorem dX1_layStretch_96 : decode cX1_layStretch 96 = .ok (.aload_n 0, 1) := dk_42 (dk_at dksX1_layStretch_4 1 rfl rfl)
theorem dX1_layStretch_97 : decode cX1_layStretch 97 = .ok (.getfield 61, 3) := dk_180 0 61 (dk_at dksX1_layStretch_4 2 rfl rfl)
theorem dX1_layStretch_100 : decode cX1_layStretch 100 = .ok (.sipush 225, 3) := dk_17 0 225 (dk_at dksX1_layStretch_4 5 rfl rfl)
theorem dX1_layStretch_103 : decode cX1_layStretch 103 = .ok (.bipush 15, 2) := dk_16 15 (dk_at dksX1_layStretch_4 8 rfl rfl)
theorem dX1_layStretch_105 : decode cX1_layStretch 105 = .ok (.iload_n 2, 1) := dk_28 (dk_at dksX1_layStretch_4 10 rfl rfl)
theorem dX1_layStretch_106 : decode cX1_layStretch 106 = .ok (.imul, 1) := dk_104 (dk_at dksX1_layStretch_4 11 rfl rfl)
theorem dX1_layStretch_107 : decode cX1_layStretch 107 = .ok (.iadd, 1) := dk_96 (dk_at dksX1_layStretch_4 12 rfl rfl)
theorem dX1_layStretch_108 : decode cX1_layStretch 108 = .ok (.iload_n 3, 1) := dk_29 (dk_at dksX1_layStretch_4 13 rfl rfl)
theorem dX1_layStretch_109 : decode cX1_layStretch 109 = .ok (.iadd, 1) := dk_96 (dk_at dksX1_layStretch_4 14 rfl rfl)
theorem dX1_layStretch_110 : decode cX1_layStretch 110 = .ok (.aload_n 0, 1) := dk_42 (dk_at dksX1_layStretch_4 15 rfl rfl)
theorem dX1_layStretch_111 : decode cX1_layStretch 111 = .ok (.iload_n 2, 1) := dk_28 (dk_at dksX1_layStretch_4 16 rfl rfl)
theorem dX1_layStretch_112 : decode cX1_layStretch 112 = .ok (.iload_n 3, 1) := dk_29 (dk_at dksX1_layStretch_4 17 rfl rfl)
theorem dX1_layStretch_113 : decode cX1_layStretch 113 = .ok (.invokevirtual 232, 3) := dk_182 0 232 (dk_at dksX1_layStretch_4 18 rfl rfl)
theorem dX1_layStretch_116 : decode cX1_layStretch 116 = .ok (.iastore, 1) := dk_79 (dk_at dksX1_layStretch_4 21 rfl rfl)
theorem dX1_layStretch_117 : decode cX1_layStretch 117 = .ok (.return_, 1) := dk_177 (dk_at dksX1_layStretch_4 22 rfl rfl)
abbrev cX1_bestParts : ByteArray := prog_7_method_62_code
def yX1_bestParts : MethodName := ⟨RX1, "bestParts", "(III)I"⟩
def dkwX1_bestParts_3 : List UInt8 := [167, 255, 195, 21, 4, 172]
abbrev dktX1_bestParts_3 : List UInt8 := dkwX1_bestParts_3 ++ []
def dkwX1_bestParts_2 : List UInt8 := [21, 6, 96, 54, 7, 21, 7, 21, 4, 162, 0, 8, 21, 7, 167, 0, 5, 21, 4, 54, 4, 132, 5, 1]
abbrev dktX1_bestParts_2 : List UInt8 := dkwX1_bestParts_2 ++ dktX1_bestParts_3
def dkwX1_bestParts_1 : List UInt8 := [182, 0, 228, 54, 6, 21, 6, 18, 158, 160, 0, 8, 18, 158, 167, 0, 13, 42, 28, 21, 5, 182, 0, 232]
abbrev dktX1_bestParts_1 : List UInt8 := dkwX1_bestParts_1 ++ dktX1_bestParts_2
def dkwX1_bestParts_0 : List UInt8 := [18, 158, 54, 4, 28, 4, 96, 54, 5, 21, 5, 29, 162, 0, 61, 42, 27, 4, 100, 21, 5, 29]
abbrev dktX1_bestParts_0 : List UInt8 := dkwX1_bestParts_0 ++ dktX1_bestParts_1
theorem dksX1_bestParts_0 : cX1_bestParts.data.toList.drop 0 = dktX1_bestParts_0 := by decide +kernel
theorem dksX1_bestParts_1 : cX1_bestParts.data.toList.drop 22 = dktX1_bestParts_1 := dk_seg dksX1_bestParts_0 22 rfl rfl
theorem dksX1_bestParts_2 : cX1_bestParts.data.toList.drop 46 = dktX1_bestParts_2 := dk_seg dksX1_bestParts_1 24 rfl rfl
theorem dksX1_bestParts_3 : cX1_bestParts.data.toList.drop 70 = dktX1_bestParts_3 := dk_seg dksX1_bestParts_2 24 rfl rfl
theorem dX1_bestParts_0 : decode cX1_bestParts 0 = .ok (.ldc 158, 2) := dk_18 158 (dk_at dksX1_bestParts_0 0 rfl rfl)
theorem dX1_bestParts_2 : decode cX1_bestParts 2 = .ok (.istore 4, 2) := dk_54 4 (dk_at dksX1_bestParts_0 2 rfl rfl)
theorem dX1_bestParts_4 : decode cX1_bestParts 4 = .ok (.iload_n 2, 1) := dk_28 (dk_at dksX1_bestParts_0 4 rfl rfl)
theorem dX1_bestParts_5 : decode cX1_bestParts 5 = .ok (.iconst 1, 1) := dk_4 (dk_at dksX1_bestParts_0 5 rfl rfl)
theorem dX1_bestParts_6 : decode cX1_bestParts 6 = .ok (.iadd, 1) := dk_96 (dk_at dksX1_bestParts_0 6 rfl rfl)
theorem dX1_bestParts_7 : decode cX1_bestParts 7 = .ok (.istore 5, 2) := dk_54 5 (dk_at dksX1_bestParts_0 7 rfl rfl)
theorem dX1_bestParts_9 : decode cX1_bestParts 9 = .ok (.iload 5, 2) := dk_21 5 (dk_at dksX1_bestParts_0 9 rfl rfl)
theorem dX1_bestParts_11 : decode cX1_bestParts 11 = .ok (.iload_n 3, 1) := dk_29 (dk_at dksX1_bestParts_0 11 rfl rfl)
theorem dX1_bestParts_12 : decode cX1_bestParts 12 = .ok (.if_icmp .ge 61, 3) := dk_162 0 61 (dk_at dksX1_bestParts_0 12 rfl rfl)
theorem dX1_bestParts_15 : decode cX1_bestParts 15 = .ok (.aload_n 0, 1) := dk_42 (dk_at dksX1_bestParts_0 15 rfl rfl)
theorem dX1_bestParts_16 : decode cX1_bestParts 16 = .ok (.iload_n 1, 1) := dk_27 (dk_at dksX1_bestParts_0 16 rfl rfl)
theorem dX1_bestParts_17 : decode cX1_bestParts 17 = .ok (.iconst 1, 1) := dk_4 (dk_at dksX1_bestParts_0 17 rfl rfl)
theorem dX1_bestParts_18 : decode cX1_bestParts 18 = .ok (.isub, 1) := dk_100 (dk_at dksX1_bestParts_0 18 rfl rfl)
theorem dX1_bestParts_19 : decode cX1_bestParts 19 = .ok (.iload 5, 2) := dk_21 5 (dk_at dksX1_bestParts_0 19 rfl rfl)
theorem dX1_bestParts_21 : decode cX1_bestParts 21 = .ok (.iload_n 3, 1) := dk_29 (dk_at dksX1_bestParts_0 21 rfl rfl)
theorem dX1_bestParts_22 : decode cX1_bestParts 22 = .ok (.invokevirtual 228, 3) := dk_182 0 228 (dk_at dksX1_bestParts_1 0 rfl rfl)
theorem dX1_bestParts_25 : decode cX1_bestParts 25 = .ok (.istore 6, 2) := dk_54 6 (dk_at dksX1_bestParts_1 3 rfl rfl)
theorem dX1_bestParts_27 : decode cX1_bestParts 27 = .ok (.iload 6, 2) := dk_21 6 (dk_at dksX1_bestParts_1 5 rfl rfl)
theorem dX1_bestParts_29 : decode cX1_bestParts 29 = .ok (.ldc 158, 2) := dk_18 158 (dk_at dksX1_bestParts_1 7 rfl rfl)
theorem dX1_bestParts_31 : decode cX1_bestParts 31 = .ok (.if_icmp .ne 8, 3) := dk_160 0 8 (dk_at dksX1_bestParts_1 9 rfl rfl)
theorem dX1_bestParts_34 : decode cX1_bestParts 34 = .ok (.ldc 158, 2) := dk_18 158 (dk_at dksX1_bestParts_1 12 rfl rfl)
theorem dX1_bestParts_36 : decode cX1_bestParts 36 = .ok (.goto 13, 3) := dk_167 0 13 (dk_at dksX1_bestParts_1 14 rfl rfl)
theorem dX1_bestParts_39 : decode cX1_bestParts 39 = .ok (.aload_n 0, 1) := dk_42 (dk_at dksX1_bestParts_1 17 rfl rfl)
theorem dX1_bestParts_40 : decode cX1_bestParts 40 = .ok (.iload_n 2, 1) := dk_28 (dk_at dksX1_bestParts_1 18 rfl rfl)
theorem dX1_bestParts_41 : decode cX1_bestParts 41 = .ok (.iload 5, 2) := dk_21 5 (dk_at dksX1_bestParts_1 19 rfl rfl)
theorem dX1_bestParts_43 : decode cX1_bestParts 43 = .ok (.invokevirtual 232, 3) := dk_182 0 232 (dk_at dksX1_bestParts_1 21 rfl rfl)
theorem dX1_bestParts_46 : decode cX1_bestParts 46 = .ok (.iload 6, 2) := dk_21 6 (dk_at dksX1_bestParts_2 0 rfl rfl)
theorem dX1_bestParts_48 : decode cX1_bestParts 48 = .ok (.iadd, 1) := dk_96 (dk_at dksX1_bestParts_2 2 rfl rfl)
theorem dX1_bestParts_49 : decode cX1_bestParts 49 = .ok (.istore 7, 2) := dk_54 7 (dk_at dksX1_bestParts_2 3 rfl rfl)
theorem dX1_bestParts_51 : decode cX1_bestParts 51 = .ok (.iload 7, 2) := dk_21 7 (dk_at dksX1_bestParts_2 5 rfl rfl)
theorem dX1_bestParts_53 : decode cX1_bestParts 53 = .ok (.iload 4, 2) := dk_21 4 (dk_at dksX1_bestParts_2 7 rfl rfl)
theorem dX1_bestParts_55 : decode cX1_bestParts 55 = .ok (.if_icmp .ge 8, 3) := dk_162 0 8 (dk_at dksX1_bestParts_2 9 rfl rfl)
theorem dX1_bestParts_58 : decode cX1_bestParts 58 = .ok (.iload 7, 2) := dk_21 7 (dk_at dksX1_bestParts_2 12 rfl rfl)
theorem dX1_bestParts_60 : decode cX1_bestParts 60 = .ok (.goto 5, 3) := dk_167 0 5 (dk_at dksX1_bestParts_2 14 rfl rfl)
theorem dX1_bestParts_63 : decode cX1_bestParts 63 = .ok (.iload 4, 2) := dk_21 4 (dk_at dksX1_bestParts_2 17 rfl rfl)
theorem dX1_bestParts_65 : decode cX1_bestParts 65 = .ok (.istore 4, 2) := dk_54 4 (dk_at dksX1_bestParts_2 19 rfl rfl)
theorem dX1_bestParts_67 : decode cX1_bestParts 67 = .ok (.iinc 5 1, 3) := dk_132 5 1 (dk_at dksX1_bestParts_2 21 rfl rfl)
theorem dX1_bestParts_70 : decode cX1_bestParts 70 = .ok (.goto (-61), 3) := dk_167 255 195 (dk_at dksX1_bestParts_3 0 rfl rfl)
theorem dX1_bestParts_73 : decode cX1_bestParts 73 = .ok (.iload 4, 2) := dk_21 4 (dk_at dksX1_bestParts_3 3 rfl rfl)
theorem dX1_bestParts_75 : decode cX1_bestParts 75 = .ok (.ireturn, 1) := dk_172 (dk_at dksX1_bestParts_3 5 rfl rfl)
abbrev cX1_partsAt : ByteArray := prog_7_method_61_code
def yX1_partsAt : MethodName := ⟨RX1, "partsAt", "(III)I"⟩
def dkwX1_partsAt_0 : List UInt8 := [42, 180, 0, 61, 17, 0, 225, 27, 104, 16, 15, 28, 104, 96, 29, 96, 46, 172]
abbrev dktX1_partsAt_0 : List UInt8 := dkwX1_partsAt_0 ++ []
theorem dksX1_partsAt_0 : cX1_partsAt.data.toList.drop 0 = dktX1_partsAt_0 := by decide +kernel
theorem dX1_partsAt_0 : decode cX1_partsAt 0 = .ok (.aload_n 0, 1) := dk_42 (dk_at dksX1_partsAt_0 0 rfl rfl)
theorem dX1_partsAt_1 : decode cX1_partsAt 1 = .ok (.getfield 61, 3) := dk_180 0 61 (dk_at dksX1_partsAt_0 1 rfl rfl)
theorem dX1_partsAt_4 : decode cX1_partsAt 4 = .ok (.sipush 225, 3) := dk_17 0 225 (dk_at dksX1_partsAt_0 4 rfl rfl)
theorem dX1_partsAt_7 : decode cX1_partsAt 7 = .ok (.iload_n 1, 1) := dk_27 (dk_at dksX1_partsAt_0 7 rfl rfl)
theorem dX1_partsAt_8 : decode cX1_partsAt 8 = .ok (.imul, 1) := dk_104 (dk_at dksX1_partsAt_0 8 rfl rfl)
theorem dX1_partsAt_9 : decode cX1_partsAt 9 = .ok (.bipush 15, 2) := dk_16 15 (dk_at dksX1_partsAt_0 9 rfl rfl)
theorem dX1_partsAt_11 : decode cX1_partsAt 11 = .ok (.iload_n 2, 1) := dk_28 (dk_at dksX1_partsAt_0 11 rfl rfl)
theorem dX1_partsAt_12 : decode cX1_partsAt 12 = .ok (.imul, 1) := dk_104 (dk_at dksX1_partsAt_0 12 rfl rfl)
theorem dX1_partsAt_13 : decode cX1_partsAt 13 = .ok (.iadd, 1) := dk_96 (dk_at dksX1_partsAt_0 13 rfl rfl)
theorem dX1_partsAt_14 : decode cX1_partsAt 14 = .ok (.iload_n 3, 1) := dk_29 (dk_at dksX1_partsAt_0 14 rfl rfl)
theorem dX1_partsAt_15 : decode cX1_partsAt 15 = .ok (.iadd, 1) := dk_96 (dk_at dksX1_partsAt_0 15 rfl rfl)
theorem dX1_partsAt_16 : decode cX1_partsAt 16 = .ok (.iaload, 1) := dk_46 (dk_at dksX1_partsAt_0 16 rfl rfl)
theorem dX1_partsAt_17 : decode cX1_partsAt 17 = .ok (.ireturn, 1) := dk_172 (dk_at dksX1_partsAt_0 17 rfl rfl)
abbrev cX1_costAt : ByteArray := prog_7_method_60_code
def yX1_costAt : MethodName := ⟨RX1, "costAt", "(II)I"⟩
def dkwX1_costAt_0 : List UInt8 := [42, 180, 0, 58, 16, 15, 27, 104, 28, 96, 46, 172]
abbrev dktX1_costAt_0 : List UInt8 := dkwX1_costAt_0 ++ []
theorem dksX1_costAt_0 : cX1_costAt.data.toList.drop 0 = dktX1_costAt_0 := by decide +kernel
theorem dX1_costAt_0 : decode cX1_costAt 0 = .ok (.aload_n 0, 1) := dk_42 (dk_at dksX1_costAt_0 0 rfl rfl)
theorem dX1_costAt_1 : decode cX1_costAt 1 = .ok (.getfield 58, 3) := dk_180 0 58 (dk_at dksX1_costAt_0 1 rfl rfl)
theorem dX1_costAt_4 : decode cX1_costAt 4 = .ok (.bipush 15, 2) := dk_16 15 (dk_at dksX1_costAt_0 4 rfl rfl)
theorem dX1_costAt_6 : decode cX1_costAt 6 = .ok (.iload_n 1, 1) := dk_27 (dk_at dksX1_costAt_0 6 rfl rfl)
theorem dX1_costAt_7 : decode cX1_costAt 7 = .ok (.imul, 1) := dk_104 (dk_at dksX1_costAt_0 7 rfl rfl)
theorem dX1_costAt_8 : decode cX1_costAt 8 = .ok (.iload_n 2, 1) := dk_28 (dk_at dksX1_costAt_0 8 rfl rfl)
theorem dX1_costAt_9 : decode cX1_costAt 9 = .ok (.iadd, 1) := dk_96 (dk_at dksX1_costAt_0 9 rfl rfl)
theorem dX1_costAt_10 : decode cX1_costAt 10 = .ok (.iaload, 1) := dk_46 (dk_at dksX1_costAt_0 10 rfl rfl)
theorem dX1_costAt_11 : decode cX1_costAt 11 = .ok (.ireturn, 1) := dk_172 (dk_at dksX1_costAt_0 11 rfl rfl)
abbrev cX1_usesOf : ByteArray := prog_7_method_59_code
def yX1_usesOf : MethodName := ⟨RX1, "usesOf", "(II)I"⟩
def dkwX1_usesOf_1 : List UInt8 := [167, 255, 237, 29, 172]
abbrev dktX1_usesOf_1 : List UInt8 := dkwX1_usesOf_1 ++ []
def dkwX1_usesOf_0 : List UInt8 := [3, 62, 27, 54, 4, 21, 4, 28, 162, 0, 19, 29, 42, 180, 0, 19, 21, 4, 46, 96, 62, 132, 4, 1]
abbrev dktX1_usesOf_0 : List UInt8 := dkwX1_usesOf_0 ++ dktX1_usesOf_1
theorem dksX1_usesOf_0 : cX1_usesOf.data.toList.drop 0 = dktX1_usesOf_0 := by decide +kernel
theorem dksX1_usesOf_1 : cX1_usesOf.data.toList.drop 24 = dktX1_usesOf_1 := dk_seg dksX1_usesOf_0 24 rfl rfl
theorem dX1_usesOf_0 : decode cX1_usesOf 0 = .ok (.iconst 0, 1) := dk_3 (dk_at dksX1_usesOf_0 0 rfl rfl)
theorem dX1_usesOf_1 : decode cX1_usesOf 1 = .ok (.istore_n 3, 1) := dk_62 (dk_at dksX1_usesOf_0 1 rfl rfl)
theorem dX1_usesOf_2 : decode cX1_usesOf 2 = .ok (.iload_n 1, 1) := dk_27 (dk_at dksX1_usesOf_0 2 rfl rfl)
theorem dX1_usesOf_3 : decode cX1_usesOf 3 = .ok (.istore 4, 2) := dk_54 4 (dk_at dksX1_usesOf_0 3 rfl rfl)
theorem dX1_usesOf_5 : decode cX1_usesOf 5 = .ok (.iload 4, 2) := dk_21 4 (dk_at dksX1_usesOf_0 5 rfl rfl)
theorem dX1_usesOf_7 : decode cX1_usesOf 7 = .ok (.iload_n 2, 1) := dk_28 (dk_at dksX1_usesOf_0 7 rfl rfl)
theorem dX1_usesOf_8 : decode cX1_usesOf 8 = .ok (.if_icmp .ge 19, 3) := dk_162 0 19 (dk_at dksX1_usesOf_0 8 rfl rfl)
theorem dX1_usesOf_11 : decode cX1_usesOf 11 = .ok (.iload_n 3, 1) := dk_29 (dk_at dksX1_usesOf_0 11 rfl rfl)
theorem dX1_usesOf_12 : decode cX1_usesOf 12 = .ok (.aload_n 0, 1) := dk_42 (dk_at dksX1_usesOf_0 12 rfl rfl)
theorem dX1_usesOf_13 : decode cX1_usesOf 13 = .ok (.getfield 19, 3) := dk_180 0 19 (dk_at dksX1_usesOf_0 13 rfl rfl)
theorem dX1_usesOf_16 : decode cX1_usesOf 16 = .ok (.iload 4, 2) := dk_21 4 (dk_at dksX1_usesOf_0 16 rfl rfl)
theorem dX1_usesOf_18 : decode cX1_usesOf 18 = .ok (.iaload, 1) := dk_46 (dk_at dksX1_usesOf_0 18 rfl rfl)
theorem dX1_usesOf_19 : decode cX1_usesOf 19 = .ok (.iadd, 1) := dk_96 (dk_at dksX1_usesOf_0 19 rfl rfl)
theorem dX1_usesOf_20 : decode cX1_usesOf 20 = .ok (.istore_n 3, 1) := dk_62 (dk_at dksX1_usesOf_0 20 rfl rfl)
theorem dX1_usesOf_21 : decode cX1_usesOf 21 = .ok (.iinc 4 1, 3) := dk_132 4 1 (dk_at dksX1_usesOf_0 21 rfl rfl)
theorem dX1_usesOf_24 : decode cX1_usesOf 24 = .ok (.goto (-19), 3) := dk_167 255 237 (dk_at dksX1_usesOf_1 0 rfl rfl)
theorem dX1_usesOf_27 : decode cX1_usesOf 27 = .ok (.iload_n 3, 1) := dk_29 (dk_at dksX1_usesOf_1 3 rfl rfl)
theorem dX1_usesOf_28 : decode cX1_usesOf 28 = .ok (.ireturn, 1) := dk_172 (dk_at dksX1_usesOf_1 4 rfl rfl)
abbrev cX1_layPath : ByteArray := prog_7_method_67_code
def yX1_layPath : MethodName := ⟨RX1, "layPath", "(II)V"⟩
def dkwX1_layPath_4 : List UInt8 := [21, 6, 79, 42, 180, 0, 64, 28, 92, 46, 4, 96, 79, 167, 255, 163, 177]
abbrev dktX1_layPath_4 : List UInt8 := dkwX1_layPath_4 ++ []
def dkwX1_layPath_3 : List UInt8 := [54, 7, 167, 255, 230, 21, 7, 54, 4, 42, 180, 0, 67, 16, 14, 28, 104, 42, 180, 0, 64, 28, 46, 96]
abbrev dktX1_layPath_3 : List UInt8 := dkwX1_layPath_3 ++ dktX1_layPath_4
def dkwX1_layPath_2 : List UInt8 := [21, 7, 28, 163, 0, 26, 21, 7, 62, 132, 5, 255, 132, 6, 1, 42, 21, 5, 29, 21, 4, 182, 0, 247]
abbrev dktX1_layPath_2 : List UInt8 := dkwX1_layPath_2 ++ dktX1_layPath_3
def dkwX1_layPath_1 : List UInt8 := [27, 29, 21, 4, 182, 0, 244, 54, 5, 4, 54, 6, 42, 21, 5, 29, 21, 4, 182, 0, 247, 54, 7]
abbrev dktX1_layPath_1 : List UInt8 := dkwX1_layPath_1 ++ dktX1_layPath_2
def dkwX1_layPath_0 : List UInt8 := [3, 62, 42, 180, 0, 109, 54, 4, 42, 180, 0, 64, 28, 3, 79, 21, 4, 29, 100, 4, 164, 0, 91, 42]
abbrev dktX1_layPath_0 : List UInt8 := dkwX1_layPath_0 ++ dktX1_layPath_1
theorem dksX1_layPath_0 : cX1_layPath.data.toList.drop 0 = dktX1_layPath_0 := by decide +kernel
theorem dksX1_layPath_1 : cX1_layPath.data.toList.drop 24 = dktX1_layPath_1 := dk_seg dksX1_layPath_0 24 rfl rfl
theorem dksX1_layPath_2 : cX1_layPath.data.toList.drop 47 = dktX1_layPath_2 := dk_seg dksX1_layPath_1 23 rfl rfl
theorem dksX1_layPath_3 : cX1_layPath.data.toList.drop 71 = dktX1_layPath_3 := dk_seg dksX1_layPath_2 24 rfl rfl
theorem dksX1_layPath_4 : cX1_layPath.data.toList.drop 95 = dktX1_layPath_4 := dk_seg dksX1_layPath_3 24 rfl rfl
theorem dX1_layPath_0 : decode cX1_layPath 0 = .ok (.iconst 0, 1) := dk_3 (dk_at dksX1_layPath_0 0 rfl rfl)
theorem dX1_layPath_1 : decode cX1_layPath 1 = .ok (.istore_n 3, 1) := dk_62 (dk_at dksX1_layPath_0 1 rfl rfl)
theorem dX1_layPath_2 : decode cX1_layPath 2 = .ok (.aload_n 0, 1) := dk_42 (dk_at dksX1_layPath_0 2 rfl rfl)
theorem dX1_layPath_3 : decode cX1_layPath 3 = .ok (.getfield 109, 3) := dk_180 0 109 (dk_at dksX1_layPath_0 3 rfl rfl)
theorem dX1_layPath_6 : decode cX1_layPath 6 = .ok (.istore 4, 2) := dk_54 4 (dk_at dksX1_layPath_0 6 rfl rfl)
theorem dX1_layPath_8 : decode cX1_layPath 8 = .ok (.aload_n 0, 1) := dk_42 (dk_at dksX1_layPath_0 8 rfl rfl)
theorem dX1_layPath_9 : decode cX1_layPath 9 = .ok (.getfield 64, 3) := dk_180 0 64 (dk_at dksX1_layPath_0 9 rfl rfl)
theorem dX1_layPath_12 : decode cX1_layPath 12 = .ok (.iload_n 2, 1) := dk_28 (dk_at dksX1_layPath_0 12 rfl rfl)
theorem dX1_layPath_13 : decode cX1_layPath 13 = .ok (.iconst 0, 1) := dk_3 (dk_at dksX1_layPath_0 13 rfl rfl)
theorem dX1_layPath_14 : decode cX1_layPath 14 = .ok (.iastore, 1) := dk_79 (dk_at dksX1_layPath_0 14 rfl rfl)
theorem dX1_layPath_15 : decode cX1_layPath 15 = .ok (.iload 4, 2) := dk_21 4 (dk_at dksX1_layPath_0 15 rfl rfl)
theorem dX1_layPath_17 : decode cX1_layPath 17 = .ok (.iload_n 3, 1) := dk_29 (dk_at dksX1_layPath_0 17 rfl rfl)
theorem dX1_layPath_18 : decode cX1_layPath 18 = .ok (.isub, 1) := dk_100 (dk_at dksX1_layPath_0 18 rfl rfl)
theorem dX1_layPath_19 : decode cX1_layPath 19 = .ok (.iconst 1, 1) := dk_4 (dk_at dksX1_layPath_0 19 rfl rfl)
theorem dX1_layPath_20 : decode cX1_layPath 20 = .ok (.if_icmp .le 91, 3) := dk_164 0 91 (dk_at dksX1_layPath_0 20 rfl rfl)
theorem dX1_layPath_23 : decode cX1_layPath 23 = .ok (.aload_n 0, 1) := dk_42 (dk_at dksX1_layPath_0 23 rfl rfl)
theorem dX1_layPath_24 : decode cX1_layPath 24 = .ok (.iload_n 1, 1) := dk_27 (dk_at dksX1_layPath_1 0 rfl rfl)
theorem dX1_layPath_25 : decode cX1_layPath 25 = .ok (.iload_n 3, 1) := dk_29 (dk_at dksX1_layPath_1 1 rfl rfl)
theorem dX1_layPath_26 : decode cX1_layPath 26 = .ok (.iload 4, 2) := dk_21 4 (dk_at dksX1_layPath_1 2 rfl rfl)
theorem dX1_layPath_28 : decode cX1_layPath 28 = .ok (.invokevirtual 244, 3) := dk_182 0 244 (dk_at dksX1_layPath_1 4 rfl rfl)
theorem dX1_layPath_31 : decode cX1_layPath 31 = .ok (.istore 5, 2) := dk_54 5 (dk_at dksX1_layPath_1 7 rfl rfl)
theorem dX1_layPath_33 : decode cX1_layPath 33 = .ok (.iconst 1, 1) := dk_4 (dk_at dksX1_layPath_1 9 rfl rfl)
theorem dX1_layPath_34 : decode cX1_layPath 34 = .ok (.istore 6, 2) := dk_54 6 (dk_at dksX1_layPath_1 10 rfl rfl)
theorem dX1_layPath_36 : decode cX1_layPath 36 = .ok (.aload_n 0, 1) := dk_42 (dk_at dksX1_layPath_1 12 rfl rfl)
theorem dX1_layPath_37 : decode cX1_layPath 37 = .ok (.iload 5, 2) := dk_21 5 (dk_at dksX1_layPath_1 13 rfl rfl)
theorem dX1_layPath_39 : decode cX1_layPath 39 = .ok (.iload_n 3, 1) := dk_29 (dk_at dksX1_layPath_1 15 rfl rfl)
theorem dX1_layPath_40 : decode cX1_layPath 40 = .ok (.iload 4, 2) := dk_21 4 (dk_at dksX1_layPath_1 16 rfl rfl)
theorem dX1_layPath_42 : decode cX1_layPath 42 = .ok (.invokevirtual 247, 3) := dk_182 0 247 (dk_at dksX1_layPath_1 18 rfl rfl)
theorem dX1_layPath_45 : decode cX1_layPath 45 = .ok (.istore 7, 2) := dk_54 7 (dk_at dksX1_layPath_1 21 rfl rfl)
theorem dX1_layPath_47 : decode cX1_layPath 47 = .ok (.iload 7, 2) := dk_21 7 (dk_at dksX1_layPath_2 0 rfl rfl)
theorem dX1_layPath_49 : decode cX1_layPath 49 = .ok (.iload_n 2, 1) := dk_28 (dk_at dksX1_layPath_2 2 rfl rfl)
theorem dX1_layPath_50 : decode cX1_layPath 50 = .ok (.if_icmp .gt 26, 3) := dk_163 0 26 (dk_at dksX1_layPath_2 3 rfl rfl)
theorem dX1_layPath_53 : decode cX1_layPath 53 = .ok (.iload 7, 2) := dk_21 7 (dk_at dksX1_layPath_2 6 rfl rfl)
theorem dX1_layPath_55 : decode cX1_layPath 55 = .ok (.istore_n 3, 1) := dk_62 (dk_at dksX1_layPath_2 8 rfl rfl)
theorem dX1_layPath_56 : decode cX1_layPath 56 = .ok (.iinc 5 (-1), 3) := dk_132 5 255 (dk_at dksX1_layPath_2 9 rfl rfl)
theorem dX1_layPath_59 : decode cX1_layPath 59 = .ok (.iinc 6 1, 3) := dk_132 6 1 (dk_at dksX1_layPath_2 12 rfl rfl)
theorem dX1_layPath_62 : decode cX1_layPath 62 = .ok (.aload_n 0, 1) := dk_42 (dk_at dksX1_layPath_2 15 rfl rfl)
theorem dX1_layPath_63 : decode cX1_layPath 63 = .ok (.iload 5, 2) := dk_21 5 (dk_at dksX1_layPath_2 16 rfl rfl)
theorem dX1_layPath_65 : decode cX1_layPath 65 = .ok (.iload_n 3, 1) := dk_29 (dk_at dksX1_layPath_2 18 rfl rfl)
theorem dX1_layPath_66 : decode cX1_layPath 66 = .ok (.iload 4, 2) := dk_21 4 (dk_at dksX1_layPath_2 19 rfl rfl)
theorem dX1_layPath_68 : decode cX1_layPath 68 = .ok (.invokevirtual 247, 3) := dk_182 0 247 (dk_at dksX1_layPath_2 21 rfl rfl)
theorem dX1_layPath_71 : decode cX1_layPath 71 = .ok (.istore 7, 2) := dk_54 7 (dk_at dksX1_layPath_3 0 rfl rfl)
theorem dX1_layPath_73 : decode cX1_layPath 73 = .ok (.goto (-26), 3) := dk_167 255 230 (dk_at dksX1_layPath_3 2 rfl rfl)
theorem dX1_layPath_76 : decode cX1_layPath 76 = .ok (.iload 7, 2) := dk_21 7 (dk_at dksX1_layPath_3 5 rfl rfl)
theorem dX1_layPath_78 : decode cX1_layPath 78 = .ok (.istore 4, 2) := dk_54 4 (dk_at dksX1_layPath_3 7 rfl rfl)
theorem dX1_layPath_80 : decode cX1_layPath 80 = .ok (.aload_n 0, 1) := dk_42 (dk_at dksX1_layPath_3 9 rfl rfl)
theorem dX1_layPath_81 : decode cX1_layPath 81 = .ok (.getfield 67, 3) := dk_180 0 67 (dk_at dksX1_layPath_3 10 rfl rfl)
theorem dX1_layPath_84 : decode cX1_layPath 84 = .ok (.bipush 14, 2) := dk_16 14 (dk_at dksX1_layPath_3 13 rfl rfl)
theorem dX1_layPath_86 : decode cX1_layPath 86 = .ok (.iload_n 2, 1) := dk_28 (dk_at dksX1_layPath_3 15 rfl rfl)
theorem dX1_layPath_87 : decode cX1_layPath 87 = .ok (.imul, 1) := dk_104 (dk_at dksX1_layPath_3 16 rfl rfl)
theorem dX1_layPath_88 : decode cX1_layPath 88 = .ok (.aload_n 0, 1) := dk_42 (dk_at dksX1_layPath_3 17 rfl rfl)
theorem dX1_layPath_89 : decode cX1_layPath 89 = .ok (.getfield 64, 3) := dk_180 0 64 (dk_at dksX1_layPath_3 18 rfl rfl)
theorem dX1_layPath_92 : decode cX1_layPath 92 = .ok (.iload_n 2, 1) := dk_28 (dk_at dksX1_layPath_3 21 rfl rfl)
theorem dX1_layPath_93 : decode cX1_layPath 93 = .ok (.iaload, 1) := dk_46 (dk_at dksX1_layPath_3 22 rfl rfl)
theorem dX1_layPath_94 : decode cX1_layPath 94 = .ok (.iadd, 1) := dk_96 (dk_at dksX1_layPath_3 23 rfl rfl)
theorem dX1_layPath_95 : decode cX1_layPath 95 = .ok (.iload 6, 2) := dk_21 6 (dk_at dksX1_layPath_4 0 rfl rfl)
theorem dX1_layPath_97 : decode cX1_layPath 97 = .ok (.iastore, 1) := dk_79 (dk_at dksX1_layPath_4 2 rfl rfl)
theorem dX1_layPath_98 : decode cX1_layPath 98 = .ok (.aload_n 0, 1) := dk_42 (dk_at dksX1_layPath_4 3 rfl rfl)
theorem dX1_layPath_99 : decode cX1_layPath 99 = .ok (.getfield 64, 3) := dk_180 0 64 (dk_at dksX1_layPath_4 4 rfl rfl)
theorem dX1_layPath_102 : decode cX1_layPath 102 = .ok (.iload_n 2, 1) := dk_28 (dk_at dksX1_layPath_4 7 rfl rfl)
theorem dX1_layPath_103 : decode cX1_layPath 103 = .ok (.dup2, 1) := dk_92 (dk_at dksX1_layPath_4 8 rfl rfl)
theorem dX1_layPath_104 : decode cX1_layPath 104 = .ok (.iaload, 1) := dk_46 (dk_at dksX1_layPath_4 9 rfl rfl)
theorem dX1_layPath_105 : decode cX1_layPath 105 = .ok (.iconst 1, 1) := dk_4 (dk_at dksX1_layPath_4 10 rfl rfl)
theorem dX1_layPath_106 : decode cX1_layPath 106 = .ok (.iadd, 1) := dk_96 (dk_at dksX1_layPath_4 11 rfl rfl)
theorem dX1_layPath_107 : decode cX1_layPath 107 = .ok (.iastore, 1) := dk_79 (dk_at dksX1_layPath_4 12 rfl rfl)
theorem dX1_layPath_108 : decode cX1_layPath 108 = .ok (.goto (-93), 3) := dk_167 255 163 (dk_at dksX1_layPath_4 13 rfl rfl)
theorem dX1_layPath_111 : decode cX1_layPath 111 = .ok (.return_, 1) := dk_177 (dk_at dksX1_layPath_4 16 rfl rfl)
abbrev cX1_partsOf : ByteArray := prog_7_method_65_code
def yX1_partsOf : MethodName := ⟨RX1, "partsOf", "(III)I"⟩
def dkwX1_partsOf_2 : List UInt8 := [172]
abbrev dktX1_partsOf_2 : List UInt8 := dkwX1_partsOf_2 ++ []
def dkwX1_partsOf_1 : List UInt8 := [29, 182, 0, 228, 162, 0, 8, 21, 5, 167, 0, 5, 21, 4, 54, 4, 132, 5, 1, 167, 255, 219, 21, 4]
abbrev dktX1_partsOf_1 : List UInt8 := dkwX1_partsOf_1 ++ dktX1_partsOf_2
def dkwX1_partsOf_0 : List UInt8 := [5, 54, 4, 6, 54, 5, 21, 5, 27, 163, 0, 37, 42, 21, 5, 28, 29, 182, 0, 228, 42, 21, 4, 28]
abbrev dktX1_partsOf_0 : List UInt8 := dkwX1_partsOf_0 ++ dktX1_partsOf_1
theorem dksX1_partsOf_0 : cX1_partsOf.data.toList.drop 0 = dktX1_partsOf_0 := by decide +kernel
theorem dksX1_partsOf_1 : cX1_partsOf.data.toList.drop 24 = dktX1_partsOf_1 := dk_seg dksX1_partsOf_0 24 rfl rfl
theorem dksX1_partsOf_2 : cX1_partsOf.data.toList.drop 48 = dktX1_partsOf_2 := dk_seg dksX1_partsOf_1 24 rfl rfl
theorem dX1_partsOf_0 : decode cX1_partsOf 0 = .ok (.iconst 2, 1) := dk_5 (dk_at dksX1_partsOf_0 0 rfl rfl)
theorem dX1_partsOf_1 : decode cX1_partsOf 1 = .ok (.istore 4, 2) := dk_54 4 (dk_at dksX1_partsOf_0 1 rfl rfl)
theorem dX1_partsOf_3 : decode cX1_partsOf 3 = .ok (.iconst 3, 1) := dk_6 (dk_at dksX1_partsOf_0 3 rfl rfl)
theorem dX1_partsOf_4 : decode cX1_partsOf 4 = .ok (.istore 5, 2) := dk_54 5 (dk_at dksX1_partsOf_0 4 rfl rfl)
theorem dX1_partsOf_6 : decode cX1_partsOf 6 = .ok (.iload 5, 2) := dk_21 5 (dk_at dksX1_partsOf_0 6 rfl rfl)
theorem dX1_partsOf_8 : decode cX1_partsOf 8 = .ok (.iload_n 1, 1) := dk_27 (dk_at dksX1_partsOf_0 8 rfl rfl)
theorem dX1_partsOf_9 : decode cX1_partsOf 9 = .ok (.if_icmp .gt 37, 3) := dk_163 0 37 (dk_at dksX1_partsOf_0 9 rfl rfl)
theorem dX1_partsOf_12 : decode cX1_partsOf 12 = .ok (.aload_n 0, 1) := dk_42 (dk_at dksX1_partsOf_0 12 rfl rfl)
theorem dX1_partsOf_13 : decode cX1_partsOf 13 = .ok (.iload 5, 2) := dk_21 5 (dk_at dksX1_partsOf_0 13 rfl rfl)
theorem dX1_partsOf_15 : decode cX1_partsOf 15 = .ok (.iload_n 2, 1) := dk_28 (dk_at dksX1_partsOf_0 15 rfl rfl)
theorem dX1_partsOf_16 : decode cX1_partsOf 16 = .ok (.iload_n 3, 1) := dk_29 (dk_at dksX1_partsOf_0 16 rfl rfl)
theorem dX1_partsOf_17 : decode cX1_partsOf 17 = .ok (.invokevirtual 228, 3) := dk_182 0 228 (dk_at dksX1_partsOf_0 17 rfl rfl)
theorem dX1_partsOf_20 : decode cX1_partsOf 20 = .ok (.aload_n 0, 1) := dk_42 (dk_at dksX1_partsOf_0 20 rfl rfl)
theorem dX1_partsOf_21 : decode cX1_partsOf 21 = .ok (.iload 4, 2) := dk_21 4 (dk_at dksX1_partsOf_0 21 rfl rfl)
theorem dX1_partsOf_23 : decode cX1_partsOf 23 = .ok (.iload_n 2, 1) := dk_28 (dk_at dksX1_partsOf_0 23 rfl rfl)
theorem dX1_partsOf_24 : decode cX1_partsOf 24 = .ok (.iload_n 3, 1) := dk_29 (dk_at dksX1_partsOf_1 0 rfl rfl)
theorem dX1_partsOf_25 : decode cX1_partsOf 25 = .ok (.invokevirtual 228, 3) := dk_182 0 228 (dk_at dksX1_partsOf_1 1 rfl rfl)
theorem dX1_partsOf_28 : decode cX1_partsOf 28 = .ok (.if_icmp .ge 8, 3) := dk_162 0 8 (dk_at dksX1_partsOf_1 4 rfl rfl)
theorem dX1_partsOf_31 : decode cX1_partsOf 31 = .ok (.iload 5, 2) := dk_21 5 (dk_at dksX1_partsOf_1 7 rfl rfl)
theorem dX1_partsOf_33 : decode cX1_partsOf 33 = .ok (.goto 5, 3) := dk_167 0 5 (dk_at dksX1_partsOf_1 9 rfl rfl)
theorem dX1_partsOf_36 : decode cX1_partsOf 36 = .ok (.iload 4, 2) := dk_21 4 (dk_at dksX1_partsOf_1 12 rfl rfl)
theorem dX1_partsOf_38 : decode cX1_partsOf 38 = .ok (.istore 4, 2) := dk_54 4 (dk_at dksX1_partsOf_1 14 rfl rfl)
theorem dX1_partsOf_40 : decode cX1_partsOf 40 = .ok (.iinc 5 1, 3) := dk_132 5 1 (dk_at dksX1_partsOf_1 16 rfl rfl)
theorem dX1_partsOf_43 : decode cX1_partsOf 43 = .ok (.goto (-37), 3) := dk_167 255 219 (dk_at dksX1_partsOf_1 19 rfl rfl)
theorem dX1_partsOf_46 : decode cX1_partsOf 46 = .ok (.iload 4, 2) := dk_21 4 (dk_at dksX1_partsOf_1 22 rfl rfl)
theorem dX1_partsOf_48 : decode cX1_partsOf 48 = .ok (.ireturn, 1) := dk_172 (dk_at dksX1_partsOf_2 0 rfl rfl)
abbrev cX1_firstCut : ByteArray := prog_7_method_66_code
def yX1_firstCut : MethodName := ⟨RX1, "firstCut", "(III)I"⟩
def dkwX1_firstCut_2 : List UInt8 := [29, 182, 0, 228, 159, 0, 9, 132, 4, 1, 167, 255, 210, 21, 4, 172]
abbrev dktX1_firstCut_2 : List UInt8 := dkwX1_firstCut_2 ++ []
def dkwX1_firstCut_1 : List UInt8 := [159, 0, 31, 42, 28, 21, 4, 182, 0, 232, 42, 27, 4, 100, 21, 4, 29, 182, 0, 228, 96, 42, 27, 28]
abbrev dktX1_firstCut_1 : List UInt8 := dkwX1_firstCut_1 ++ dktX1_firstCut_2
def dkwX1_firstCut_0 : List UInt8 := [27, 4, 160, 0, 5, 29, 172, 28, 4, 96, 54, 4, 42, 27, 4, 100, 21, 4, 29, 182, 0, 228, 18, 158]
abbrev dktX1_firstCut_0 : List UInt8 := dkwX1_firstCut_0 ++ dktX1_firstCut_1
theorem dksX1_firstCut_0 : cX1_firstCut.data.toList.drop 0 = dktX1_firstCut_0 := by decide +kernel
theorem dksX1_firstCut_1 : cX1_firstCut.data.toList.drop 24 = dktX1_firstCut_1 := dk_seg dksX1_firstCut_0 24 rfl rfl
theorem dksX1_firstCut_2 : cX1_firstCut.data.toList.drop 48 = dktX1_firstCut_2 := dk_seg dksX1_firstCut_1 24 rfl rfl
theorem dX1_firstCut_0 : decode cX1_firstCut 0 = .ok (.iload_n 1, 1) := dk_27 (dk_at dksX1_firstCut_0 0 rfl rfl)
theorem dX1_firstCut_1 : decode cX1_firstCut 1 = .ok (.iconst 1, 1) := dk_4 (dk_at dksX1_firstCut_0 1 rfl rfl)
theorem dX1_firstCut_2 : decode cX1_firstCut 2 = .ok (.if_icmp .ne 5, 3) := dk_160 0 5 (dk_at dksX1_firstCut_0 2 rfl rfl)
theorem dX1_firstCut_5 : decode cX1_firstCut 5 = .ok (.iload_n 3, 1) := dk_29 (dk_at dksX1_firstCut_0 5 rfl rfl)
theorem dX1_firstCut_6 : decode cX1_firstCut 6 = .ok (.ireturn, 1) := dk_172 (dk_at dksX1_firstCut_0 6 rfl rfl)
theorem dX1_firstCut_7 : decode cX1_firstCut 7 = .ok (.iload_n 2, 1) := dk_28 (dk_at dksX1_firstCut_0 7 rfl rfl)
theorem dX1_firstCut_8 : decode cX1_firstCut 8 = .ok (.iconst 1, 1) := dk_4 (dk_at dksX1_firstCut_0 8 rfl rfl)
theorem dX1_firstCut_9 : decode cX1_firstCut 9 = .ok (.iadd, 1) := dk_96 (dk_at dksX1_firstCut_0 9 rfl rfl)
theorem dX1_firstCut_10 : decode cX1_firstCut 10 = .ok (.istore 4, 2) := dk_54 4 (dk_at dksX1_firstCut_0 10 rfl rfl)
theorem dX1_firstCut_12 : decode cX1_firstCut 12 = .ok (.aload_n 0, 1) := dk_42 (dk_at dksX1_firstCut_0 12 rfl rfl)
theorem dX1_firstCut_13 : decode cX1_firstCut 13 = .ok (.iload_n 1, 1) := dk_27 (dk_at dksX1_firstCut_0 13 rfl rfl)
theorem dX1_firstCut_14 : decode cX1_firstCut 14 = .ok (.iconst 1, 1) := dk_4 (dk_at dksX1_firstCut_0 14 rfl rfl)
theorem dX1_firstCut_15 : decode cX1_firstCut 15 = .ok (.isub, 1) := dk_100 (dk_at dksX1_firstCut_0 15 rfl rfl)
theorem dX1_firstCut_16 : decode cX1_firstCut 16 = .ok (.iload 4, 2) := dk_21 4 (dk_at dksX1_firstCut_0 16 rfl rfl)
theorem dX1_firstCut_18 : decode cX1_firstCut 18 = .ok (.iload_n 3, 1) := dk_29 (dk_at dksX1_firstCut_0 18 rfl rfl)
theorem dX1_firstCut_19 : decode cX1_firstCut 19 = .ok (.invokevirtual 228, 3) := dk_182 0 228 (dk_at dksX1_firstCut_0 19 rfl rfl)
theorem dX1_firstCut_22 : decode cX1_firstCut 22 = .ok (.ldc 158, 2) := dk_18 158 (dk_at dksX1_firstCut_0 22 rfl rfl)
theorem dX1_firstCut_24 : decode cX1_firstCut 24 = .ok (.if_icmp .eq 31, 3) := dk_159 0 31 (dk_at dksX1_firstCut_1 0 rfl rfl)
theorem dX1_firstCut_27 : decode cX1_firstCut 27 = .ok (.aload_n 0, 1) := dk_42 (dk_at dksX1_firstCut_1 3 rfl rfl)
theorem dX1_firstCut_28 : decode cX1_firstCut 28 = .ok (.iload_n 2, 1) := dk_28 (dk_at dksX1_firstCut_1 4 rfl rfl)
theorem dX1_firstCut_29 : decode cX1_firstCut 29 = .ok (.iload 4, 2) := dk_21 4 (dk_at dksX1_firstCut_1 5 rfl rfl)
theorem dX1_firstCut_31 : decode cX1_firstCut 31 = .ok (.invokevirtual 232, 3) := dk_182 0 232 (dk_at dksX1_firstCut_1 7 rfl rfl)
theorem dX1_firstCut_34 : decode cX1_firstCut 34 = .ok (.aload_n 0, 1) := dk_42 (dk_at dksX1_firstCut_1 10 rfl rfl)
theorem dX1_firstCut_35 : decode cX1_firstCut 35 = .ok (.iload_n 1, 1) := dk_27 (dk_at dksX1_firstCut_1 11 rfl rfl)
theorem dX1_firstCut_36 : decode cX1_firstCut 36 = .ok (.iconst 1, 1) := dk_4 (dk_at dksX1_firstCut_1 12 rfl rfl)
theorem dX1_firstCut_37 : decode cX1_firstCut 37 = .ok (.isub, 1) := dk_100 (dk_at dksX1_firstCut_1 13 rfl rfl)
theorem dX1_firstCut_38 : decode cX1_firstCut 38 = .ok (.iload 4, 2) := dk_21 4 (dk_at dksX1_firstCut_1 14 rfl rfl)
theorem dX1_firstCut_40 : decode cX1_firstCut 40 = .ok (.iload_n 3, 1) := dk_29 (dk_at dksX1_firstCut_1 16 rfl rfl)
theorem dX1_firstCut_41 : decode cX1_firstCut 41 = .ok (.invokevirtual 228, 3) := dk_182 0 228 (dk_at dksX1_firstCut_1 17 rfl rfl)
theorem dX1_firstCut_44 : decode cX1_firstCut 44 = .ok (.iadd, 1) := dk_96 (dk_at dksX1_firstCut_1 20 rfl rfl)
theorem dX1_firstCut_45 : decode cX1_firstCut 45 = .ok (.aload_n 0, 1) := dk_42 (dk_at dksX1_firstCut_1 21 rfl rfl)
theorem dX1_firstCut_46 : decode cX1_firstCut 46 = .ok (.iload_n 1, 1) := dk_27 (dk_at dksX1_firstCut_1 22 rfl rfl)
theorem dX1_firstCut_47 : decode cX1_firstCut 47 = .ok (.iload_n 2, 1) := dk_28 (dk_at dksX1_firstCut_1 23 rfl rfl)
theorem dX1_firstCut_48 : decode cX1_firstCut 48 = .ok (.iload_n 3, 1) := dk_29 (dk_at dksX1_firstCut_2 0 rfl rfl)
theorem dX1_firstCut_49 : decode cX1_firstCut 49 = .ok (.invokevirtual 228, 3) := dk_182 0 228 (dk_at dksX1_firstCut_2 1 rfl rfl)
theorem dX1_firstCut_52 : decode cX1_firstCut 52 = .ok (.if_icmp .eq 9, 3) := dk_159 0 9 (dk_at dksX1_firstCut_2 4 rfl rfl)
theorem dX1_firstCut_55 : decode cX1_firstCut 55 = .ok (.iinc 4 1, 3) := dk_132 4 1 (dk_at dksX1_firstCut_2 7 rfl rfl)
theorem dX1_firstCut_58 : decode cX1_firstCut 58 = .ok (.goto (-46), 3) := dk_167 255 210 (dk_at dksX1_firstCut_2 10 rfl rfl)
theorem dX1_firstCut_61 : decode cX1_firstCut 61 = .ok (.iload 4, 2) := dk_21 4 (dk_at dksX1_firstCut_2 13 rfl rfl)
theorem dX1_firstCut_63 : decode cX1_firstCut 63 = .ok (.ireturn, 1) := dk_172 (dk_at dksX1_firstCut_2 15 rfl rfl)
abbrev cX1_sign : ByteArray := prog_7_method_33_code
def yX1_sign : MethodName := ⟨RX1, "sign", "(II)I"⟩
def dkwX1_sign_1 : List UInt8 := [42, 180, 0, 16, 16, 8, 27, 104, 28, 96, 46, 167, 0, 5, 16, 155, 172]
abbrev dktX1_sign_1 : List UInt8 := dkwX1_sign_1 ++ []
def dkwX1_sign_0 : List UInt8 := [42, 27, 182, 0, 139, 153, 0, 33, 28, 3, 42, 180, 0, 13, 27, 46, 4, 100, 184, 0, 73, 153, 0, 17]
abbrev dktX1_sign_0 : List UInt8 := dkwX1_sign_0 ++ dktX1_sign_1
theorem dksX1_sign_0 : cX1_sign.data.toList.drop 0 = dktX1_sign_0 := by decide +kernel
theorem dksX1_sign_1 : cX1_sign.data.toList.drop 24 = dktX1_sign_1 := dk_seg dksX1_sign_0 24 rfl rfl
theorem dX1_sign_0 : decode cX1_sign 0 = .ok (.aload_n 0, 1) := dk_42 (dk_at dksX1_sign_0 0 rfl rfl)
theorem dX1_sign_1 : decode cX1_sign 1 = .ok (.iload_n 1, 1) := dk_27 (dk_at dksX1_sign_0 1 rfl rfl)
theorem dX1_sign_2 : decode cX1_sign 2 = .ok (.invokevirtual 139, 3) := dk_182 0 139 (dk_at dksX1_sign_0 2 rfl rfl)
theorem dX1_sign_5 : decode cX1_sign 5 = .ok (.ifCond .eq 33, 3) := dk_153 0 33 (dk_at dksX1_sign_0 5 rfl rfl)
theorem dX1_sign_8 : decode cX1_sign 8 = .ok (.iload_n 2, 1) := dk_28 (dk_at dksX1_sign_0 8 rfl rfl)
theorem dX1_sign_9 : decode cX1_sign 9 = .ok (.iconst 0, 1) := dk_3 (dk_at dksX1_sign_0 9 rfl rfl)
theorem dX1_sign_10 : decode cX1_sign 10 = .ok (.aload_n 0, 1) := dk_42 (dk_at dksX1_sign_0 10 rfl rfl)
theorem dX1_sign_11 : decode cX1_sign 11 = .ok (.getfield 13, 3) := dk_180 0 13 (dk_at dksX1_sign_0 11 rfl rfl)
theorem dX1_sign_14 : decode cX1_sign 14 = .ok (.iload_n 1, 1) := dk_27 (dk_at dksX1_sign_0 14 rfl rfl)
theorem dX1_sign_15 : decode cX1_sign 15 = .ok (.iaload, 1) := dk_46 (dk_at dksX1_sign_0 15 rfl rfl)
theorem dX1_sign_16 : decode cX1_sign 16 = .ok (.iconst 1, 1) := dk_4 (dk_at dksX1_sign_0 16 rfl rfl)
theorem dX1_sign_17 : decode cX1_sign 17 = .ok (.isub, 1) := dk_100 (dk_at dksX1_sign_0 17 rfl rfl)
theorem dX1_sign_18 : decode cX1_sign 18 = .ok (.invokestatic 73, 3) := dk_184 0 73 (dk_at dksX1_sign_0 18 rfl rfl)
theorem dX1_sign_21 : decode cX1_sign 21 = .ok (.ifCond .eq 17, 3) := dk_153 0 17 (dk_at dksX1_sign_0 21 rfl rfl)
theorem dX1_sign_24 : decode cX1_sign 24 = .ok (.aload_n 0, 1) := dk_42 (dk_at dksX1_sign_1 0 rfl rfl)
theorem dX1_sign_25 : decode cX1_sign 25 = .ok (.getfield 16, 3) := dk_180 0 16 (dk_at dksX1_sign_1 1 rfl rfl)
theorem dX1_sign_28 : decode cX1_sign 28 = .ok (.bipush 8, 2) := dk_16 8 (dk_at dksX1_sign_1 4 rfl rfl)
theorem dX1_sign_30 : decode cX1_sign 30 = .ok (.iload_n 1, 1) := dk_27 (dk_at dksX1_sign_1 6 rfl rfl)
theorem dX1_sign_31 : decode cX1_sign 31 = .ok (.imul, 1) := dk_104 (dk_at dksX1_sign_1 7 rfl rfl)
theorem dX1_sign_32 : decode cX1_sign 32 = .ok (.iload_n 2, 1) := dk_28 (dk_at dksX1_sign_1 8 rfl rfl)
theorem dX1_sign_33 : decode cX1_sign 33 = .ok (.iadd, 1) := dk_96 (dk_at dksX1_sign_1 9 rfl rfl)
theorem dX1_sign_34 : decode cX1_sign 34 = .ok (.iaload, 1) := dk_46 (dk_at dksX1_sign_1 10 rfl rfl)
theorem dX1_sign_35 : decode cX1_sign 35 = .ok (.goto 5, 3) := dk_167 0 5 (dk_at dksX1_sign_1 11 rfl rfl)
theorem dX1_sign_38 : decode cX1_sign 38 = .ok (.bipush (-101), 2) := dk_16 155 (dk_at dksX1_sign_1 14 rfl rfl)
theorem dX1_sign_40 : decode cX1_sign 40 = .ok (.ireturn, 1) := dk_172 (dk_at dksX1_sign_1 16 rfl rfl)
abbrev cX1_digit : ByteArray := prog_7_method_34_code
def yX1_digit : MethodName := ⟨RX1, "digit", "(II)I"⟩
def dkwX1_digit_1 : List UInt8 := [42, 27, 28, 182, 0, 145, 167, 0, 5, 16, 155, 172]
abbrev dktX1_digit_1 : List UInt8 := dkwX1_digit_1 ++ []
def dkwX1_digit_0 : List UInt8 := [42, 27, 182, 0, 139, 153, 0, 28, 28, 3, 42, 180, 0, 13, 27, 46, 4, 100, 184, 0, 73, 153, 0, 12]
abbrev dktX1_digit_0 : List UInt8 := dkwX1_digit_0 ++ dktX1_digit_1
theorem dksX1_digit_0 : cX1_digit.data.toList.drop 0 = dktX1_digit_0 := by decide +kernel
theorem dksX1_digit_1 : cX1_digit.data.toList.drop 24 = dktX1_digit_1 := dk_seg dksX1_digit_0 24 rfl rfl
theorem dX1_digit_0 : decode cX1_digit 0 = .ok (.aload_n 0, 1) := dk_42 (dk_at dksX1_digit_0 0 rfl rfl)
theorem dX1_digit_1 : decode cX1_digit 1 = .ok (.iload_n 1, 1) := dk_27 (dk_at dksX1_digit_0 1 rfl rfl)
theorem dX1_digit_2 : decode cX1_digit 2 = .ok (.invokevirtual 139, 3) := dk_182 0 139 (dk_at dksX1_digit_0 2 rfl rfl)
theorem dX1_digit_5 : decode cX1_digit 5 = .ok (.ifCond .eq 28, 3) := dk_153 0 28 (dk_at dksX1_digit_0 5 rfl rfl)
theorem dX1_digit_8 : decode cX1_digit 8 = .ok (.iload_n 2, 1) := dk_28 (dk_at dksX1_digit_0 8 rfl rfl)
theorem dX1_digit_9 : decode cX1_digit 9 = .ok (.iconst 0, 1) := dk_3 (dk_at dksX1_digit_0 9 rfl rfl)
theorem dX1_digit_10 : decode cX1_digit 10 = .ok (.aload_n 0, 1) := dk_42 (dk_at dksX1_digit_0 10 rfl rfl)
theorem dX1_digit_11 : decode cX1_digit 11 = .ok (.getfield 13, 3) := dk_180 0 13 (dk_at dksX1_digit_0 11 rfl rfl)
theorem dX1_digit_14 : decode cX1_digit 14 = .ok (.iload_n 1, 1) := dk_27 (dk_at dksX1_digit_0 14 rfl rfl)
theorem dX1_digit_15 : decode cX1_digit 15 = .ok (.iaload, 1) := dk_46 (dk_at dksX1_digit_0 15 rfl rfl)
theorem dX1_digit_16 : decode cX1_digit 16 = .ok (.iconst 1, 1) := dk_4 (dk_at dksX1_digit_0 16 rfl rfl)
theorem dX1_digit_17 : decode cX1_digit 17 = .ok (.isub, 1) := dk_100 (dk_at dksX1_digit_0 17 rfl rfl)
theorem dX1_digit_18 : decode cX1_digit 18 = .ok (.invokestatic 73, 3) := dk_184 0 73 (dk_at dksX1_digit_0 18 rfl rfl)
theorem dX1_digit_21 : decode cX1_digit 21 = .ok (.ifCond .eq 12, 3) := dk_153 0 12 (dk_at dksX1_digit_0 21 rfl rfl)
theorem dX1_digit_24 : decode cX1_digit 24 = .ok (.aload_n 0, 1) := dk_42 (dk_at dksX1_digit_1 0 rfl rfl)
theorem dX1_digit_25 : decode cX1_digit 25 = .ok (.iload_n 1, 1) := dk_27 (dk_at dksX1_digit_1 1 rfl rfl)
theorem dX1_digit_26 : decode cX1_digit 26 = .ok (.iload_n 2, 1) := dk_28 (dk_at dksX1_digit_1 2 rfl rfl)
theorem dX1_digit_27 : decode cX1_digit 27 = .ok (.invokevirtual 145, 3) := dk_182 0 145 (dk_at dksX1_digit_1 3 rfl rfl)
theorem dX1_digit_30 : decode cX1_digit 30 = .ok (.goto 5, 3) := dk_167 0 5 (dk_at dksX1_digit_1 6 rfl rfl)
theorem dX1_digit_33 : decode cX1_digit 33 = .ok (.bipush (-101), 2) := dk_16 155 (dk_at dksX1_digit_1 9 rfl rfl)
theorem dX1_digit_35 : decode cX1_digit 35 = .ok (.ireturn, 1) := dk_172 (dk_at dksX1_digit_1 11 rfl rfl)
abbrev cX1_laid : ByteArray := prog_7_method_35_code
def yX1_laid : MethodName := ⟨RX1, "laid", "(I)I"⟩
def dkwX1_laid_1 : List UInt8 := [16, 154, 172]
abbrev dktX1_laid_1 : List UInt8 := dkwX1_laid_1 ++ []
def dkwX1_laid_0 : List UInt8 := [27, 16, 97, 16, 122, 184, 0, 73, 153, 0, 15, 42, 180, 0, 22, 27, 16, 97, 100, 46, 167, 0, 5]
abbrev dktX1_laid_0 : List UInt8 := dkwX1_laid_0 ++ dktX1_laid_1
theorem dksX1_laid_0 : cX1_laid.data.toList.drop 0 = dktX1_laid_0 := by decide +kernel
theorem dksX1_laid_1 : cX1_laid.data.toList.drop 23 = dktX1_laid_1 := dk_seg dksX1_laid_0 23 rfl rfl
theorem dX1_laid_0 : decode cX1_laid 0 = .ok (.iload_n 1, 1) := dk_27 (dk_at dksX1_laid_0 0 rfl rfl)
theorem dX1_laid_1 : decode cX1_laid 1 = .ok (.bipush 97, 2) := dk_16 97 (dk_at dksX1_laid_0 1 rfl rfl)
theorem dX1_laid_3 : decode cX1_laid 3 = .ok (.bipush 122, 2) := dk_16 122 (dk_at dksX1_laid_0 3 rfl rfl)
theorem dX1_laid_5 : decode cX1_laid 5 = .ok (.invokestatic 73, 3) := dk_184 0 73 (dk_at dksX1_laid_0 5 rfl rfl)
theorem dX1_laid_8 : decode cX1_laid 8 = .ok (.ifCond .eq 15, 3) := dk_153 0 15 (dk_at dksX1_laid_0 8 rfl rfl)
theorem dX1_laid_11 : decode cX1_laid 11 = .ok (.aload_n 0, 1) := dk_42 (dk_at dksX1_laid_0 11 rfl rfl)
theorem dX1_laid_12 : decode cX1_laid 12 = .ok (.getfield 22, 3) := dk_180 0 22 (dk_at dksX1_laid_0 12 rfl rfl)
theorem dX1_laid_15 : decode cX1_laid 15 = .ok (.iload_n 1, 1) := dk_27 (dk_at dksX1_laid_0 15 rfl rfl)
theorem dX1_laid_16 : decode cX1_laid 16 = .ok (.bipush 97, 2) := dk_16 97 (dk_at dksX1_laid_0 16 rfl rfl)
theorem dX1_laid_18 : decode cX1_laid 18 = .ok (.isub, 1) := dk_100 (dk_at dksX1_laid_0 18 rfl rfl)
theorem dX1_laid_19 : decode cX1_laid 19 = .ok (.iaload, 1) := dk_46 (dk_at dksX1_laid_0 19 rfl rfl)
theorem dX1_laid_20 : decode cX1_laid 20 = .ok (.goto 5, 3) := dk_167 0 5 (dk_at dksX1_laid_0 20 rfl rfl)
theorem dX1_laid_23 : decode cX1_laid 23 = .ok (.bipush (-102), 2) := dk_16 154 (dk_at dksX1_laid_1 0 rfl rfl)
theorem dX1_laid_25 : decode cX1_laid 25 = .ok (.ireturn, 1) := dk_172 (dk_at dksX1_laid_1 2 rfl rfl)
abbrev cX1_about : ByteArray := prog_7_method_43_code
def yX1_about : MethodName := ⟨RX1, "about", "(I)I"⟩
def dkwX1_about_0 : List UInt8 := [27, 3, 16, 6, 184, 0, 73, 153, 0, 11, 42, 27, 182, 0, 196, 167, 0, 5, 16, 154, 172]
abbrev dktX1_about_0 : List UInt8 := dkwX1_about_0 ++ []
theorem dksX1_about_0 : cX1_about.data.toList.drop 0 = dktX1_about_0 := by decide +kernel
theorem dX1_about_0 : decode cX1_about 0 = .ok (.iload_n 1, 1) := dk_27 (dk_at dksX1_about_0 0 rfl rfl)
theorem dX1_about_1 : decode cX1_about 1 = .ok (.iconst 0, 1) := dk_3 (dk_at dksX1_about_0 1 rfl rfl)
theorem dX1_about_2 : decode cX1_about 2 = .ok (.bipush 6, 2) := dk_16 6 (dk_at dksX1_about_0 2 rfl rfl)
theorem dX1_about_4 : decode cX1_about 4 = .ok (.invokestatic 73, 3) := dk_184 0 73 (dk_at dksX1_about_0 4 rfl rfl)
theorem dX1_about_7 : decode cX1_about 7 = .ok (.ifCond .eq 11, 3) := dk_153 0 11 (dk_at dksX1_about_0 7 rfl rfl)
theorem dX1_about_10 : decode cX1_about 10 = .ok (.aload_n 0, 1) := dk_42 (dk_at dksX1_about_0 10 rfl rfl)
theorem dX1_about_11 : decode cX1_about 11 = .ok (.iload_n 1, 1) := dk_27 (dk_at dksX1_about_0 11 rfl rfl)
theorem dX1_about_12 : decode cX1_about 12 = .ok (.invokevirtual 196, 3) := dk_182 0 196 (dk_at dksX1_about_0 12 rfl rfl)
theorem dX1_about_15 : decode cX1_about 15 = .ok (.goto 5, 3) := dk_167 0 5 (dk_at dksX1_about_0 15 rfl rfl)
theorem dX1_about_18 : decode cX1_about 18 = .ok (.bipush (-102), 2) := dk_16 154 (dk_at dksX1_about_0 18 rfl rfl)
theorem dX1_about_20 : decode cX1_about 20 = .ok (.ireturn, 1) := dk_172 (dk_at dksX1_about_0 20 rfl rfl)
abbrev cX1_aboutNow : ByteArray := prog_7_method_42_code
def yX1_aboutNow : MethodName := ⟨RX1, "aboutNow", "(I)I"⟩
def dkwX1_aboutNow_3 : List UInt8 := [172, 42, 182, 0, 190, 172, 42, 182, 0, 193, 172]
abbrev dktX1_aboutNow_3 : List UInt8 := dkwX1_aboutNow_3 ++ []
def dkwX1_aboutNow_2 : List UInt8 := [42, 180, 0, 109, 172, 42, 182, 0, 178, 172, 42, 182, 0, 181, 172, 42, 182, 0, 184, 172, 42, 182, 0, 187]
abbrev dktX1_aboutNow_2 : List UInt8 := dkwX1_aboutNow_2 ++ dktX1_aboutNow_3
def dkwX1_aboutNow_1 : List UInt8 := [170, 0, 0, 0, 0, 0, 69, 0, 0, 0, 0, 0, 0, 0, 5, 0, 0, 0, 39, 0, 0, 0, 44, 0, 0, 0, 49, 0, 0, 0, 54, 0, 0, 0, 59, 0, 0, 0, 64]
abbrev dktX1_aboutNow_1 : List UInt8 := dkwX1_aboutNow_1 ++ dktX1_aboutNow_2
def dkwX1_aboutNow_0 : List UInt8 := [27]
abbrev dktX1_aboutNow_0 : List UInt8 := dkwX1_aboutNow_0 ++ dktX1_aboutNow_1
theorem dksX1_aboutNow_0 : cX1_aboutNow.data.toList.drop 0 = dktX1_aboutNow_0 := by decide +kernel
theorem dksX1_aboutNow_1 : cX1_aboutNow.data.toList.drop 1 = dktX1_aboutNow_1 := dk_seg dksX1_aboutNow_0 1 rfl rfl
theorem dksX1_aboutNow_2 : cX1_aboutNow.data.toList.drop 40 = dktX1_aboutNow_2 := dk_seg dksX1_aboutNow_1 39 rfl rfl
theorem dksX1_aboutNow_3 : cX1_aboutNow.data.toList.drop 64 = dktX1_aboutNow_3 := dk_seg dksX1_aboutNow_2 24 rfl rfl
theorem dX1_aboutNow_0 : decode cX1_aboutNow 0 = .ok (.iload_n 1, 1) := dk_27 (dk_at dksX1_aboutNow_0 0 rfl rfl)
theorem dX1_aboutNow_1 : decode cX1_aboutNow 1 = .ok (.tableswitch 69 0 5 #[39, 44, 49, 54, 59, 64], 39) := by decide +kernel
theorem dX1_aboutNow_40 : decode cX1_aboutNow 40 = .ok (.aload_n 0, 1) := dk_42 (dk_at dksX1_aboutNow_2 0 rfl rfl)
theorem dX1_aboutNow_41 : decode cX1_aboutNow 41 = .ok (.getfield 109, 3) := dk_180 0 109 (dk_at dksX1_aboutNow_2 1 rfl rfl)
theorem dX1_aboutNow_44 : decode cX1_aboutNow 44 = .ok (.ireturn, 1) := dk_172 (dk_at dksX1_aboutNow_2 4 rfl rfl)
theorem dX1_aboutNow_45 : decode cX1_aboutNow 45 = .ok (.aload_n 0, 1) := dk_42 (dk_at dksX1_aboutNow_2 5 rfl rfl)
theorem dX1_aboutNow_46 : decode cX1_aboutNow 46 = .ok (.invokevirtual 178, 3) := dk_182 0 178 (dk_at dksX1_aboutNow_2 6 rfl rfl)
theorem dX1_aboutNow_49 : decode cX1_aboutNow 49 = .ok (.ireturn, 1) := dk_172 (dk_at dksX1_aboutNow_2 9 rfl rfl)
theorem dX1_aboutNow_50 : decode cX1_aboutNow 50 = .ok (.aload_n 0, 1) := dk_42 (dk_at dksX1_aboutNow_2 10 rfl rfl)
theorem dX1_aboutNow_51 : decode cX1_aboutNow 51 = .ok (.invokevirtual 181, 3) := dk_182 0 181 (dk_at dksX1_aboutNow_2 11 rfl rfl)
theorem dX1_aboutNow_54 : decode cX1_aboutNow 54 = .ok (.ireturn, 1) := dk_172 (dk_at dksX1_aboutNow_2 14 rfl rfl)
theorem dX1_aboutNow_55 : decode cX1_aboutNow 55 = .ok (.aload_n 0, 1) := dk_42 (dk_at dksX1_aboutNow_2 15 rfl rfl)
theorem dX1_aboutNow_56 : decode cX1_aboutNow 56 = .ok (.invokevirtual 184, 3) := dk_182 0 184 (dk_at dksX1_aboutNow_2 16 rfl rfl)
theorem dX1_aboutNow_59 : decode cX1_aboutNow 59 = .ok (.ireturn, 1) := dk_172 (dk_at dksX1_aboutNow_2 19 rfl rfl)
theorem dX1_aboutNow_60 : decode cX1_aboutNow 60 = .ok (.aload_n 0, 1) := dk_42 (dk_at dksX1_aboutNow_2 20 rfl rfl)
theorem dX1_aboutNow_61 : decode cX1_aboutNow 61 = .ok (.invokevirtual 187, 3) := dk_182 0 187 (dk_at dksX1_aboutNow_2 21 rfl rfl)
theorem dX1_aboutNow_64 : decode cX1_aboutNow 64 = .ok (.ireturn, 1) := dk_172 (dk_at dksX1_aboutNow_3 0 rfl rfl)
theorem dX1_aboutNow_65 : decode cX1_aboutNow 65 = .ok (.aload_n 0, 1) := dk_42 (dk_at dksX1_aboutNow_3 1 rfl rfl)
theorem dX1_aboutNow_66 : decode cX1_aboutNow 66 = .ok (.invokevirtual 190, 3) := dk_182 0 190 (dk_at dksX1_aboutNow_3 2 rfl rfl)
theorem dX1_aboutNow_69 : decode cX1_aboutNow 69 = .ok (.ireturn, 1) := dk_172 (dk_at dksX1_aboutNow_3 5 rfl rfl)
theorem dX1_aboutNow_70 : decode cX1_aboutNow 70 = .ok (.aload_n 0, 1) := dk_42 (dk_at dksX1_aboutNow_3 6 rfl rfl)
theorem dX1_aboutNow_71 : decode cX1_aboutNow 71 = .ok (.invokevirtual 193, 3) := dk_182 0 193 (dk_at dksX1_aboutNow_3 7 rfl rfl)
theorem dX1_aboutNow_74 : decode cX1_aboutNow 74 = .ok (.ireturn, 1) := dk_172 (dk_at dksX1_aboutNow_3 10 rfl rfl)
abbrev cX1_usesAll : ByteArray := prog_7_method_36_code
def yX1_usesAll : MethodName := ⟨RX1, "usesAll", "()I"⟩
def dkwX1_usesAll_1 : List UInt8 := [167, 255, 236, 27, 172]
abbrev dktX1_usesAll_1 : List UInt8 := dkwX1_usesAll_1 ++ []
def dkwX1_usesAll_0 : List UInt8 := [3, 60, 3, 61, 28, 42, 180, 0, 109, 162, 0, 18, 27, 42, 180, 0, 19, 28, 46, 96, 60, 132, 2, 1]
abbrev dktX1_usesAll_0 : List UInt8 := dkwX1_usesAll_0 ++ dktX1_usesAll_1
theorem dksX1_usesAll_0 : cX1_usesAll.data.toList.drop 0 = dktX1_usesAll_0 := by decide +kernel
theorem dksX1_usesAll_1 : cX1_usesAll.data.toList.drop 24 = dktX1_usesAll_1 := dk_seg dksX1_usesAll_0 24 rfl rfl
theorem dX1_usesAll_0 : decode cX1_usesAll 0 = .ok (.iconst 0, 1) := dk_3 (dk_at dksX1_usesAll_0 0 rfl rfl)
theorem dX1_usesAll_1 : decode cX1_usesAll 1 = .ok (.istore_n 1, 1) := dk_60 (dk_at dksX1_usesAll_0 1 rfl rfl)
theorem dX1_usesAll_2 : decode cX1_usesAll 2 = .ok (.iconst 0, 1) := dk_3 (dk_at dksX1_usesAll_0 2 rfl rfl)
theorem dX1_usesAll_3 : decode cX1_usesAll 3 = .ok (.istore_n 2, 1) := dk_61 (dk_at dksX1_usesAll_0 3 rfl rfl)
theorem dX1_usesAll_4 : decode cX1_usesAll 4 = .ok (.iload_n 2, 1) := dk_28 (dk_at dksX1_usesAll_0 4 rfl rfl)
theorem dX1_usesAll_5 : decode cX1_usesAll 5 = .ok (.aload_n 0, 1) := dk_42 (dk_at dksX1_usesAll_0 5 rfl rfl)
theorem dX1_usesAll_6 : decode cX1_usesAll 6 = .ok (.getfield 109, 3) := dk_180 0 109 (dk_at dksX1_usesAll_0 6 rfl rfl)
theorem dX1_usesAll_9 : decode cX1_usesAll 9 = .ok (.if_icmp .ge 18, 3) := dk_162 0 18 (dk_at dksX1_usesAll_0 9 rfl rfl)
theorem dX1_usesAll_12 : decode cX1_usesAll 12 = .ok (.iload_n 1, 1) := dk_27 (dk_at dksX1_usesAll_0 12 rfl rfl)
theorem dX1_usesAll_13 : decode cX1_usesAll 13 = .ok (.aload_n 0, 1) := dk_42 (dk_at dksX1_usesAll_0 13 rfl rfl)
theorem dX1_usesAll_14 : decode cX1_usesAll 14 = .ok (.getfield 19, 3) := dk_180 0 19 (dk_at dksX1_usesAll_0 14 rfl rfl)
theorem dX1_usesAll_17 : decode cX1_usesAll 17 = .ok (.iload_n 2, 1) := dk_28 (dk_at dksX1_usesAll_0 17 rfl rfl)
theorem dX1_usesAll_18 : decode cX1_usesAll 18 = .ok (.iaload, 1) := dk_46 (dk_at dksX1_usesAll_0 18 rfl rfl)
theorem dX1_usesAll_19 : decode cX1_usesAll 19 = .ok (.iadd, 1) := dk_96 (dk_at dksX1_usesAll_0 19 rfl rfl)
theorem dX1_usesAll_20 : decode cX1_usesAll 20 = .ok (.istore_n 1, 1) := dk_60 (dk_at dksX1_usesAll_0 20 rfl rfl)
theorem dX1_usesAll_21 : decode cX1_usesAll 21 = .ok (.iinc 2 1, 3) := dk_132 2 1 (dk_at dksX1_usesAll_0 21 rfl rfl)
theorem dX1_usesAll_24 : decode cX1_usesAll 24 = .ok (.goto (-20), 3) := dk_167 255 236 (dk_at dksX1_usesAll_1 0 rfl rfl)
theorem dX1_usesAll_27 : decode cX1_usesAll 27 = .ok (.iload_n 1, 1) := dk_27 (dk_at dksX1_usesAll_1 3 rfl rfl)
theorem dX1_usesAll_28 : decode cX1_usesAll 28 = .ok (.ireturn, 1) := dk_172 (dk_at dksX1_usesAll_1 4 rfl rfl)
abbrev cX1_withTwins : ByteArray := prog_7_method_37_code
def yX1_withTwins : MethodName := ⟨RX1, "withTwins", "()I"⟩
def dkwX1_withTwins_1 : List UInt8 := [167, 0, 4, 3, 96, 60, 132, 2, 1, 167, 255, 229, 27, 172]
abbrev dktX1_withTwins_1 : List UInt8 := dkwX1_withTwins_1 ++ []
def dkwX1_withTwins_0 : List UInt8 := [3, 60, 3, 61, 28, 42, 180, 0, 109, 162, 0, 25, 27, 42, 28, 182, 0, 162, 158, 0, 7, 4]
abbrev dktX1_withTwins_0 : List UInt8 := dkwX1_withTwins_0 ++ dktX1_withTwins_1
theorem dksX1_withTwins_0 : cX1_withTwins.data.toList.drop 0 = dktX1_withTwins_0 := by decide +kernel
theorem dksX1_withTwins_1 : cX1_withTwins.data.toList.drop 22 = dktX1_withTwins_1 := dk_seg dksX1_withTwins_0 22 rfl rfl
theorem dX1_withTwins_0 : decode cX1_withTwins 0 = .ok (.iconst 0, 1) := dk_3 (dk_at dksX1_withTwins_0 0 rfl rfl)
theorem dX1_withTwins_1 : decode cX1_withTwins 1 = .ok (.istore_n 1, 1) := dk_60 (dk_at dksX1_withTwins_0 1 rfl rfl)
theorem dX1_withTwins_2 : decode cX1_withTwins 2 = .ok (.iconst 0, 1) := dk_3 (dk_at dksX1_withTwins_0 2 rfl rfl)
theorem dX1_withTwins_3 : decode cX1_withTwins 3 = .ok (.istore_n 2, 1) := dk_61 (dk_at dksX1_withTwins_0 3 rfl rfl)
theorem dX1_withTwins_4 : decode cX1_withTwins 4 = .ok (.iload_n 2, 1) := dk_28 (dk_at dksX1_withTwins_0 4 rfl rfl)
theorem dX1_withTwins_5 : decode cX1_withTwins 5 = .ok (.aload_n 0, 1) := dk_42 (dk_at dksX1_withTwins_0 5 rfl rfl)
theorem dX1_withTwins_6 : decode cX1_withTwins 6 = .ok (.getfield 109, 3) := dk_180 0 109 (dk_at dksX1_withTwins_0 6 rfl rfl)
theorem dX1_withTwins_9 : decode cX1_withTwins 9 = .ok (.if_icmp .ge 25, 3) := dk_162 0 25 (dk_at dksX1_withTwins_0 9 rfl rfl)
theorem dX1_withTwins_12 : decode cX1_withTwins 12 = .ok (.iload_n 1, 1) := dk_27 (dk_at dksX1_withTwins_0 12 rfl rfl)
theorem dX1_withTwins_13 : decode cX1_withTwins 13 = .ok (.aload_n 0, 1) := dk_42 (dk_at dksX1_withTwins_0 13 rfl rfl)
theorem dX1_withTwins_14 : decode cX1_withTwins 14 = .ok (.iload_n 2, 1) := dk_28 (dk_at dksX1_withTwins_0 14 rfl rfl)
theorem dX1_withTwins_15 : decode cX1_withTwins 15 = .ok (.invokevirtual 162, 3) := dk_182 0 162 (dk_at dksX1_withTwins_0 15 rfl rfl)
theorem dX1_withTwins_18 : decode cX1_withTwins 18 = .ok (.ifCond .le 7, 3) := dk_158 0 7 (dk_at dksX1_withTwins_0 18 rfl rfl)
theorem dX1_withTwins_21 : decode cX1_withTwins 21 = .ok (.iconst 1, 1) := dk_4 (dk_at dksX1_withTwins_0 21 rfl rfl)
theorem dX1_withTwins_22 : decode cX1_withTwins 22 = .ok (.goto 4, 3) := dk_167 0 4 (dk_at dksX1_withTwins_1 0 rfl rfl)
theorem dX1_withTwins_25 : decode cX1_withTwins 25 = .ok (.iconst 0, 1) := dk_3 (dk_at dksX1_withTwins_1 3 rfl rfl)
theorem dX1_withTwins_26 : decode cX1_withTwins 26 = .ok (.iadd, 1) := dk_96 (dk_at dksX1_withTwins_1 4 rfl rfl)
theorem dX1_withTwins_27 : decode cX1_withTwins 27 = .ok (.istore_n 1, 1) := dk_60 (dk_at dksX1_withTwins_1 5 rfl rfl)
theorem dX1_withTwins_28 : decode cX1_withTwins 28 = .ok (.iinc 2 1, 3) := dk_132 2 1 (dk_at dksX1_withTwins_1 6 rfl rfl)
theorem dX1_withTwins_31 : decode cX1_withTwins 31 = .ok (.goto (-27), 3) := dk_167 255 229 (dk_at dksX1_withTwins_1 9 rfl rfl)
theorem dX1_withTwins_34 : decode cX1_withTwins 34 = .ok (.iload_n 1, 1) := dk_27 (dk_at dksX1_withTwins_1 12 rfl rfl)
theorem dX1_withTwins_35 : decode cX1_withTwins 35 = .ok (.ireturn, 1) := dk_172 (dk_at dksX1_withTwins_1 13 rfl rfl)
abbrev cX1_codesMany : ByteArray := prog_7_method_38_code
def yX1_codesMany : MethodName := ⟨RX1, "codesMany", "()I"⟩
def dkwX1_codesMany_2 : List UInt8 := [167, 255, 227, 27, 29, 153, 0, 7, 4, 167, 0, 4, 3, 96, 60, 132, 2, 1, 167, 255, 196, 27, 172]
abbrev dktX1_codesMany_2 : List UInt8 := dkwX1_codesMany_2 ++ []
def dkwX1_codesMany_1 : List UInt8 := [153, 0, 17, 42, 28, 21, 4, 182, 0, 151, 154, 0, 7, 4, 167, 0, 4, 3, 62, 132, 4, 1]
abbrev dktX1_codesMany_1 : List UInt8 := dkwX1_codesMany_1 ++ dktX1_codesMany_2
def dkwX1_codesMany_0 : List UInt8 := [3, 60, 3, 61, 28, 42, 180, 0, 109, 162, 0, 58, 4, 62, 3, 54, 4, 21, 4, 28, 162, 0, 29, 29]
abbrev dktX1_codesMany_0 : List UInt8 := dkwX1_codesMany_0 ++ dktX1_codesMany_1
theorem dksX1_codesMany_0 : cX1_codesMany.data.toList.drop 0 = dktX1_codesMany_0 := by decide +kernel
theorem dksX1_codesMany_1 : cX1_codesMany.data.toList.drop 24 = dktX1_codesMany_1 := dk_seg dksX1_codesMany_0 24 rfl rfl
theorem dksX1_codesMany_2 : cX1_codesMany.data.toList.drop 46 = dktX1_codesMany_2 := dk_seg dksX1_codesMany_1 22 rfl rfl
theorem dX1_codesMany_0 : decode cX1_codesMany 0 = .ok (.iconst 0, 1) := dk_3 (dk_at dksX1_codesMany_0 0 rfl rfl)
theorem dX1_codesMany_1 : decode cX1_codesMany 1 = .ok (.istore_n 1, 1) := dk_60 (dk_at dksX1_codesMany_0 1 rfl rfl)
theorem dX1_codesMany_2 : decode cX1_codesMany 2 = .ok (.iconst 0, 1) := dk_3 (dk_at dksX1_codesMany_0 2 rfl rfl)
theorem dX1_codesMany_3 : decode cX1_codesMany 3 = .ok (.istore_n 2, 1) := dk_61 (dk_at dksX1_codesMany_0 3 rfl rfl)
theorem dX1_codesMany_4 : decode cX1_codesMany 4 = .ok (.iload_n 2, 1) := dk_28 (dk_at dksX1_codesMany_0 4 rfl rfl)
theorem dX1_codesMany_5 : decode cX1_codesMany 5 = .ok (.aload_n 0, 1) := dk_42 (dk_at dksX1_codesMany_0 5 rfl rfl)
theorem dX1_codesMany_6 : decode cX1_codesMany 6 = .ok (.getfield 109, 3) := dk_180 0 109 (dk_at dksX1_codesMany_0 6 rfl rfl)
theorem dX1_codesMany_9 : decode cX1_codesMany 9 = .ok (.if_icmp .ge 58, 3) := dk_162 0 58 (dk_at dksX1_codesMany_0 9 rfl rfl)
theorem dX1_codesMany_12 : decode cX1_codesMany 12 = .ok (.iconst 1, 1) := dk_4 (dk_at dksX1_codesMany_0 12 rfl rfl)
theorem dX1_codesMany_13 : decode cX1_codesMany 13 = .ok (.istore_n 3, 1) := dk_62 (dk_at dksX1_codesMany_0 13 rfl rfl)
theorem dX1_codesMany_14 : decode cX1_codesMany 14 = .ok (.iconst 0, 1) := dk_3 (dk_at dksX1_codesMany_0 14 rfl rfl)
theorem dX1_codesMany_15 : decode cX1_codesMany 15 = .ok (.istore 4, 2) := dk_54 4 (dk_at dksX1_codesMany_0 15 rfl rfl)
theorem dX1_codesMany_17 : decode cX1_codesMany 17 = .ok (.iload 4, 2) := dk_21 4 (dk_at dksX1_codesMany_0 17 rfl rfl)
theorem dX1_codesMany_19 : decode cX1_codesMany 19 = .ok (.iload_n 2, 1) := dk_28 (dk_at dksX1_codesMany_0 19 rfl rfl)
theorem dX1_codesMany_20 : decode cX1_codesMany 20 = .ok (.if_icmp .ge 29, 3) := dk_162 0 29 (dk_at dksX1_codesMany_0 20 rfl rfl)
theorem dX1_codesMany_23 : decode cX1_codesMany 23 = .ok (.iload_n 3, 1) := dk_29 (dk_at dksX1_codesMany_0 23 rfl rfl)
theorem dX1_codesMany_24 : decode cX1_codesMany 24 = .ok (.ifCond .eq 17, 3) := dk_153 0 17 (dk_at dksX1_codesMany_1 0 rfl rfl)
theorem dX1_codesMany_27 : decode cX1_codesMany 27 = .ok (.aload_n 0, 1) := dk_42 (dk_at dksX1_codesMany_1 3 rfl rfl)
theorem dX1_codesMany_28 : decode cX1_codesMany 28 = .ok (.iload_n 2, 1) := dk_28 (dk_at dksX1_codesMany_1 4 rfl rfl)
theorem dX1_codesMany_29 : decode cX1_codesMany 29 = .ok (.iload 4, 2) := dk_21 4 (dk_at dksX1_codesMany_1 5 rfl rfl)
theorem dX1_codesMany_31 : decode cX1_codesMany 31 = .ok (.invokevirtual 151, 3) := dk_182 0 151 (dk_at dksX1_codesMany_1 7 rfl rfl)
theorem dX1_codesMany_34 : decode cX1_codesMany 34 = .ok (.ifCond .ne 7, 3) := dk_154 0 7 (dk_at dksX1_codesMany_1 10 rfl rfl)
theorem dX1_codesMany_37 : decode cX1_codesMany 37 = .ok (.iconst 1, 1) := dk_4 (dk_at dksX1_codesMany_1 13 rfl rfl)
theorem dX1_codesMany_38 : decode cX1_codesMany 38 = .ok (.goto 4, 3) := dk_167 0 4 (dk_at dksX1_codesMany_1 14 rfl rfl)
theorem dX1_codesMany_41 : decode cX1_codesMany 41 = .ok (.iconst 0, 1) := dk_3 (dk_at dksX1_codesMany_1 17 rfl rfl)
theorem dX1_codesMany_42 : decode cX1_codesMany 42 = .ok (.istore_n 3, 1) := dk_62 (dk_at dksX1_codesMany_1 18 rfl rfl)
theorem dX1_codesMany_43 : decode cX1_codesMany 43 = .ok (.iinc 4 1, 3) := dk_132 4 1 (dk_at dksX1_codesMany_1 19 rfl rfl)
theorem dX1_codesMany_46 : decode cX1_codesMany 46 = .ok (.goto (-29), 3) := dk_167 255 227 (dk_at dksX1_codesMany_2 0 rfl rfl)
theorem dX1_codesMany_49 : decode cX1_codesMany 49 = .ok (.iload_n 1, 1) := dk_27 (dk_at dksX1_codesMany_2 3 rfl rfl)
theorem dX1_codesMany_50 : decode cX1_codesMany 50 = .ok (.iload_n 3, 1) := dk_29 (dk_at dksX1_codesMany_2 4 rfl rfl)
theorem dX1_codesMany_51 : decode cX1_codesMany 51 = .ok (.ifCond .eq 7, 3) := dk_153 0 7 (dk_at dksX1_codesMany_2 5 rfl rfl)
theorem dX1_codesMany_54 : decode cX1_codesMany 54 = .ok (.iconst 1, 1) := dk_4 (dk_at dksX1_codesMany_2 8 rfl rfl)
theorem dX1_codesMany_55 : decode cX1_codesMany 55 = .ok (.goto 4, 3) := dk_167 0 4 (dk_at dksX1_codesMany_2 9 rfl rfl)
theorem dX1_codesMany_58 : decode cX1_codesMany 58 = .ok (.iconst 0, 1) := dk_3 (dk_at dksX1_codesMany_2 12 rfl rfl)
theorem dX1_codesMany_59 : decode cX1_codesMany 59 = .ok (.iadd, 1) := dk_96 (dk_at dksX1_codesMany_2 13 rfl rfl)
theorem dX1_codesMany_60 : decode cX1_codesMany 60 = .ok (.istore_n 1, 1) := dk_60 (dk_at dksX1_codesMany_2 14 rfl rfl)
theorem dX1_codesMany_61 : decode cX1_codesMany 61 = .ok (.iinc 2 1, 3) := dk_132 2 1 (dk_at dksX1_codesMany_2 15 rfl rfl)
theorem dX1_codesMany_64 : decode cX1_codesMany 64 = .ok (.goto (-60), 3) := dk_167 255 196 (dk_at dksX1_codesMany_2 18 rfl rfl)
theorem dX1_codesMany_67 : decode cX1_codesMany 67 = .ok (.iload_n 1, 1) := dk_27 (dk_at dksX1_codesMany_2 21 rfl rfl)
theorem dX1_codesMany_68 : decode cX1_codesMany 68 = .ok (.ireturn, 1) := dk_172 (dk_at dksX1_codesMany_2 22 rfl rfl)
abbrev cX1_mostTelling : ByteArray := prog_7_method_39_code
def yX1_mostTelling : MethodName := ⟨RX1, "mostTelling", "()I"⟩
def dkwX1_mostTelling_1 : List UInt8 := [167, 0, 4, 27, 60, 132, 2, 1, 167, 255, 228, 27, 172]
abbrev dktX1_mostTelling_1 : List UInt8 := dkwX1_mostTelling_1 ++ []
def dkwX1_mostTelling_0 : List UInt8 := [2, 60, 3, 61, 28, 42, 180, 0, 109, 162, 0, 26, 42, 28, 182, 0, 166, 62, 29, 27, 164, 0, 7, 29]
abbrev dktX1_mostTelling_0 : List UInt8 := dkwX1_mostTelling_0 ++ dktX1_mostTelling_1
theorem dksX1_mostTelling_0 : cX1_mostTelling.data.toList.drop 0 = dktX1_mostTelling_0 := by decide +kernel
theorem dksX1_mostTelling_1 : cX1_mostTelling.data.toList.drop 24 = dktX1_mostTelling_1 := dk_seg dksX1_mostTelling_0 24 rfl rfl
theorem dX1_mostTelling_0 : decode cX1_mostTelling 0 = .ok (.iconst (-1), 1) := dk_2 (dk_at dksX1_mostTelling_0 0 rfl rfl)
theorem dX1_mostTelling_1 : decode cX1_mostTelling 1 = .ok (.istore_n 1, 1) := dk_60 (dk_at dksX1_mostTelling_0 1 rfl rfl)
theorem dX1_mostTelling_2 : decode cX1_mostTelling 2 = .ok (.iconst 0, 1) := dk_3 (dk_at dksX1_mostTelling_0 2 rfl rfl)
theorem dX1_mostTelling_3 : decode cX1_mostTelling 3 = .ok (.istore_n 2, 1) := dk_61 (dk_at dksX1_mostTelling_0 3 rfl rfl)
theorem dX1_mostTelling_4 : decode cX1_mostTelling 4 = .ok (.iload_n 2, 1) := dk_28 (dk_at dksX1_mostTelling_0 4 rfl rfl)
theorem dX1_mostTelling_5 : decode cX1_mostTelling 5 = .ok (.aload_n 0, 1) := dk_42 (dk_at dksX1_mostTelling_0 5 rfl rfl)
theorem dX1_mostTelling_6 : decode cX1_mostTelling 6 = .ok (.getfield 109, 3) := dk_180 0 109 (dk_at dksX1_mostTelling_0 6 rfl rfl)
theorem dX1_mostTelling_9 : decode cX1_mostTelling 9 = .ok (.if_icmp .ge 26, 3) := dk_162 0 26 (dk_at dksX1_mostTelling_0 9 rfl rfl)
theorem dX1_mostTelling_12 : decode cX1_mostTelling 12 = .ok (.aload_n 0, 1) := dk_42 (dk_at dksX1_mostTelling_0 12 rfl rfl)
theorem dX1_mostTelling_13 : decode cX1_mostTelling 13 = .ok (.iload_n 2, 1) := dk_28 (dk_at dksX1_mostTelling_0 13 rfl rfl)
theorem dX1_mostTelling_14 : decode cX1_mostTelling 14 = .ok (.invokevirtual 166, 3) := dk_182 0 166 (dk_at dksX1_mostTelling_0 14 rfl rfl)
theorem dX1_mostTelling_17 : decode cX1_mostTelling 17 = .ok (.istore_n 3, 1) := dk_62 (dk_at dksX1_mostTelling_0 17 rfl rfl)
theorem dX1_mostTelling_18 : decode cX1_mostTelling 18 = .ok (.iload_n 3, 1) := dk_29 (dk_at dksX1_mostTelling_0 18 rfl rfl)
theorem dX1_mostTelling_19 : decode cX1_mostTelling 19 = .ok (.iload_n 1, 1) := dk_27 (dk_at dksX1_mostTelling_0 19 rfl rfl)
theorem dX1_mostTelling_20 : decode cX1_mostTelling 20 = .ok (.if_icmp .le 7, 3) := dk_164 0 7 (dk_at dksX1_mostTelling_0 20 rfl rfl)
theorem dX1_mostTelling_23 : decode cX1_mostTelling 23 = .ok (.iload_n 3, 1) := dk_29 (dk_at dksX1_mostTelling_0 23 rfl rfl)
theorem dX1_mostTelling_24 : decode cX1_mostTelling 24 = .ok (.goto 4, 3) := dk_167 0 4 (dk_at dksX1_mostTelling_1 0 rfl rfl)
theorem dX1_mostTelling_27 : decode cX1_mostTelling 27 = .ok (.iload_n 1, 1) := dk_27 (dk_at dksX1_mostTelling_1 3 rfl rfl)
theorem dX1_mostTelling_28 : decode cX1_mostTelling 28 = .ok (.istore_n 1, 1) := dk_60 (dk_at dksX1_mostTelling_1 4 rfl rfl)
theorem dX1_mostTelling_29 : decode cX1_mostTelling 29 = .ok (.iinc 2 1, 3) := dk_132 2 1 (dk_at dksX1_mostTelling_1 5 rfl rfl)
theorem dX1_mostTelling_32 : decode cX1_mostTelling 32 = .ok (.goto (-28), 3) := dk_167 255 228 (dk_at dksX1_mostTelling_1 8 rfl rfl)
theorem dX1_mostTelling_35 : decode cX1_mostTelling 35 = .ok (.iload_n 1, 1) := dk_27 (dk_at dksX1_mostTelling_1 11 rfl rfl)
theorem dX1_mostTelling_36 : decode cX1_mostTelling 36 = .ok (.ireturn, 1) := dk_172 (dk_at dksX1_mostTelling_1 12 rfl rfl)
abbrev cX1_pressesAll : ByteArray := prog_7_method_40_code
def yX1_pressesAll : MethodName := ⟨RX1, "pressesAll", "()I"⟩
def dkwX1_pressesAll_1 : List UInt8 := [104, 96, 60, 132, 2, 1, 167, 255, 230, 27, 172]
abbrev dktX1_pressesAll_1 : List UInt8 := dkwX1_pressesAll_1 ++ []
def dkwX1_pressesAll_0 : List UInt8 := [3, 60, 3, 61, 28, 42, 180, 0, 109, 162, 0, 24, 27, 42, 180, 0, 19, 28, 46, 42, 28, 182, 0, 169]
abbrev dktX1_pressesAll_0 : List UInt8 := dkwX1_pressesAll_0 ++ dktX1_pressesAll_1
theorem dksX1_pressesAll_0 : cX1_pressesAll.data.toList.drop 0 = dktX1_pressesAll_0 := by decide +kernel
theorem dksX1_pressesAll_1 : cX1_pressesAll.data.toList.drop 24 = dktX1_pressesAll_1 := dk_seg dksX1_pressesAll_0 24 rfl rfl
theorem dX1_pressesAll_0 : decode cX1_pressesAll 0 = .ok (.iconst 0, 1) := dk_3 (dk_at dksX1_pressesAll_0 0 rfl rfl)
theorem dX1_pressesAll_1 : decode cX1_pressesAll 1 = .ok (.istore_n 1, 1) := dk_60 (dk_at dksX1_pressesAll_0 1 rfl rfl)
theorem dX1_pressesAll_2 : decode cX1_pressesAll 2 = .ok (.iconst 0, 1) := dk_3 (dk_at dksX1_pressesAll_0 2 rfl rfl)
theorem dX1_pressesAll_3 : decode cX1_pressesAll 3 = .ok (.istore_n 2, 1) := dk_61 (dk_at dksX1_pressesAll_0 3 rfl rfl)
theorem dX1_pressesAll_4 : decode cX1_pressesAll 4 = .ok (.iload_n 2, 1) := dk_28 (dk_at dksX1_pressesAll_0 4 rfl rfl)
theorem dX1_pressesAll_5 : decode cX1_pressesAll 5 = .ok (.aload_n 0, 1) := dk_42 (dk_at dksX1_pressesAll_0 5 rfl rfl)
theorem dX1_pressesAll_6 : decode cX1_pressesAll 6 = .ok (.getfield 109, 3) := dk_180 0 109 (dk_at dksX1_pressesAll_0 6 rfl rfl)
theorem dX1_pressesAll_9 : decode cX1_pressesAll 9 = .ok (.if_icmp .ge 24, 3) := dk_162 0 24 (dk_at dksX1_pressesAll_0 9 rfl rfl)
theorem dX1_pressesAll_12 : decode cX1_pressesAll 12 = .ok (.iload_n 1, 1) := dk_27 (dk_at dksX1_pressesAll_0 12 rfl rfl)
theorem dX1_pressesAll_13 : decode cX1_pressesAll 13 = .ok (.aload_n 0, 1) := dk_42 (dk_at dksX1_pressesAll_0 13 rfl rfl)
theorem dX1_pressesAll_14 : decode cX1_pressesAll 14 = .ok (.getfield 19, 3) := dk_180 0 19 (dk_at dksX1_pressesAll_0 14 rfl rfl)
theorem dX1_pressesAll_17 : decode cX1_pressesAll 17 = .ok (.iload_n 2, 1) := dk_28 (dk_at dksX1_pressesAll_0 17 rfl rfl)
theorem dX1_pressesAll_18 : decode cX1_pressesAll 18 = .ok (.iaload, 1) := dk_46 (dk_at dksX1_pressesAll_0 18 rfl rfl)
theorem dX1_pressesAll_19 : decode cX1_pressesAll 19 = .ok (.aload_n 0, 1) := dk_42 (dk_at dksX1_pressesAll_0 19 rfl rfl)
theorem dX1_pressesAll_20 : decode cX1_pressesAll 20 = .ok (.iload_n 2, 1) := dk_28 (dk_at dksX1_pressesAll_0 20 rfl rfl)
theorem dX1_pressesAll_21 : decode cX1_pressesAll 21 = .ok (.invokevirtual 169, 3) := dk_182 0 169 (dk_at dksX1_pressesAll_0 21 rfl rfl)
theorem dX1_pressesAll_24 : decode cX1_pressesAll 24 = .ok (.imul, 1) := dk_104 (dk_at dksX1_pressesAll_1 0 rfl rfl)
theorem dX1_pressesAll_25 : decode cX1_pressesAll 25 = .ok (.iadd, 1) := dk_96 (dk_at dksX1_pressesAll_1 1 rfl rfl)
theorem dX1_pressesAll_26 : decode cX1_pressesAll 26 = .ok (.istore_n 1, 1) := dk_60 (dk_at dksX1_pressesAll_1 2 rfl rfl)
theorem dX1_pressesAll_27 : decode cX1_pressesAll 27 = .ok (.iinc 2 1, 3) := dk_132 2 1 (dk_at dksX1_pressesAll_1 3 rfl rfl)
theorem dX1_pressesAll_30 : decode cX1_pressesAll 30 = .ok (.goto (-26), 3) := dk_167 255 230 (dk_at dksX1_pressesAll_1 6 rfl rfl)
theorem dX1_pressesAll_33 : decode cX1_pressesAll 33 = .ok (.iload_n 1, 1) := dk_27 (dk_at dksX1_pressesAll_1 9 rfl rfl)
theorem dX1_pressesAll_34 : decode cX1_pressesAll 34 = .ok (.ireturn, 1) := dk_172 (dk_at dksX1_pressesAll_1 10 rfl rfl)
abbrev cX1_digitsAll : ByteArray := prog_7_method_41_code
def yX1_digitsAll : MethodName := ⟨RX1, "digitsAll", "()I"⟩
def dkwX1_digitsAll_1 : List UInt8 := [46, 104, 96, 60, 132, 2, 1, 167, 255, 229, 27, 172]
abbrev dktX1_digitsAll_1 : List UInt8 := dkwX1_digitsAll_1 ++ []
def dkwX1_digitsAll_0 : List UInt8 := [3, 60, 3, 61, 28, 42, 180, 0, 109, 162, 0, 25, 27, 42, 180, 0, 19, 28, 46, 42, 180, 0, 13, 28]
abbrev dktX1_digitsAll_0 : List UInt8 := dkwX1_digitsAll_0 ++ dktX1_digitsAll_1
theorem dksX1_digitsAll_0 : cX1_digitsAll.data.toList.drop 0 = dktX1_digitsAll_0 := by decide +kernel
theorem dksX1_digitsAll_1 : cX1_digitsAll.data.toList.drop 24 = dktX1_digitsAll_1 := dk_seg dksX1_digitsAll_0 24 rfl rfl
theorem dX1_digitsAll_0 : decode cX1_digitsAll 0 = .ok (.iconst 0, 1) := dk_3 (dk_at dksX1_digitsAll_0 0 rfl rfl)
theorem dX1_digitsAll_1 : decode cX1_digitsAll 1 = .ok (.istore_n 1, 1) := dk_60 (dk_at dksX1_digitsAll_0 1 rfl rfl)
theorem dX1_digitsAll_2 : decode cX1_digitsAll 2 = .ok (.iconst 0, 1) := dk_3 (dk_at dksX1_digitsAll_0 2 rfl rfl)
theorem dX1_digitsAll_3 : decode cX1_digitsAll 3 = .ok (.istore_n 2, 1) := dk_61 (dk_at dksX1_digitsAll_0 3 rfl rfl)
theorem dX1_digitsAll_4 : decode cX1_digitsAll 4 = .ok (.iload_n 2, 1) := dk_28 (dk_at dksX1_digitsAll_0 4 rfl rfl)
theorem dX1_digitsAll_5 : decode cX1_digitsAll 5 = .ok (.aload_n 0, 1) := dk_42 (dk_at dksX1_digitsAll_0 5 rfl rfl)
theorem dX1_digitsAll_6 : decode cX1_digitsAll 6 = .ok (.getfield 109, 3) := dk_180 0 109 (dk_at dksX1_digitsAll_0 6 rfl rfl)
theorem dX1_digitsAll_9 : decode cX1_digitsAll 9 = .ok (.if_icmp .ge 25, 3) := dk_162 0 25 (dk_at dksX1_digitsAll_0 9 rfl rfl)
theorem dX1_digitsAll_12 : decode cX1_digitsAll 12 = .ok (.iload_n 1, 1) := dk_27 (dk_at dksX1_digitsAll_0 12 rfl rfl)
theorem dX1_digitsAll_13 : decode cX1_digitsAll 13 = .ok (.aload_n 0, 1) := dk_42 (dk_at dksX1_digitsAll_0 13 rfl rfl)
theorem dX1_digitsAll_14 : decode cX1_digitsAll 14 = .ok (.getfield 19, 3) := dk_180 0 19 (dk_at dksX1_digitsAll_0 14 rfl rfl)
theorem dX1_digitsAll_17 : decode cX1_digitsAll 17 = .ok (.iload_n 2, 1) := dk_28 (dk_at dksX1_digitsAll_0 17 rfl rfl)
theorem dX1_digitsAll_18 : decode cX1_digitsAll 18 = .ok (.iaload, 1) := dk_46 (dk_at dksX1_digitsAll_0 18 rfl rfl)
theorem dX1_digitsAll_19 : decode cX1_digitsAll 19 = .ok (.aload_n 0, 1) := dk_42 (dk_at dksX1_digitsAll_0 19 rfl rfl)
theorem dX1_digitsAll_20 : decode cX1_digitsAll 20 = .ok (.getfield 13, 3) := dk_180 0 13 (dk_at dksX1_digitsAll_0 20 rfl rfl)
theorem dX1_digitsAll_23 : decode cX1_digitsAll 23 = .ok (.iload_n 2, 1) := dk_28 (dk_at dksX1_digitsAll_0 23 rfl rfl)
theorem dX1_digitsAll_24 : decode cX1_digitsAll 24 = .ok (.iaload, 1) := dk_46 (dk_at dksX1_digitsAll_1 0 rfl rfl)
theorem dX1_digitsAll_25 : decode cX1_digitsAll 25 = .ok (.imul, 1) := dk_104 (dk_at dksX1_digitsAll_1 1 rfl rfl)
theorem dX1_digitsAll_26 : decode cX1_digitsAll 26 = .ok (.iadd, 1) := dk_96 (dk_at dksX1_digitsAll_1 2 rfl rfl)
theorem dX1_digitsAll_27 : decode cX1_digitsAll 27 = .ok (.istore_n 1, 1) := dk_60 (dk_at dksX1_digitsAll_1 3 rfl rfl)
theorem dX1_digitsAll_28 : decode cX1_digitsAll 28 = .ok (.iinc 2 1, 3) := dk_132 2 1 (dk_at dksX1_digitsAll_1 4 rfl rfl)
theorem dX1_digitsAll_31 : decode cX1_digitsAll 31 = .ok (.goto (-27), 3) := dk_167 255 229 (dk_at dksX1_digitsAll_1 7 rfl rfl)
theorem dX1_digitsAll_34 : decode cX1_digitsAll 34 = .ok (.iload_n 1, 1) := dk_27 (dk_at dksX1_digitsAll_1 10 rfl rfl)
theorem dX1_digitsAll_35 : decode cX1_digitsAll 35 = .ok (.ireturn, 1) := dk_172 (dk_at dksX1_digitsAll_1 11 rfl rfl)
abbrev cX1_press : ByteArray := prog_7_method_44_code
def yX1_press : MethodName := ⟨RX1, "press", "(I)I"⟩
def dkwX1_press_2 : List UInt8 := [180, 0, 199, 172]
abbrev dktX1_press_2 : List UInt8 := dkwX1_press_2 ++ []
def dkwX1_press_1 : List UInt8 := [172, 42, 180, 0, 25, 42, 180, 0, 199, 27, 79, 42, 89, 180, 0, 199, 4, 96, 181, 0, 199, 42]
abbrev dktX1_press_1 : List UInt8 := dkwX1_press_1 ++ dktX1_press_2
def dkwX1_press_0 : List UInt8 := [27, 5, 16, 9, 184, 0, 73, 154, 0, 6, 16, 154, 172, 42, 180, 0, 199, 16, 10, 160, 0, 6, 16, 152]
abbrev dktX1_press_0 : List UInt8 := dkwX1_press_0 ++ dktX1_press_1
theorem dksX1_press_0 : cX1_press.data.toList.drop 0 = dktX1_press_0 := by decide +kernel
theorem dksX1_press_1 : cX1_press.data.toList.drop 24 = dktX1_press_1 := dk_seg dksX1_press_0 24 rfl rfl
theorem dksX1_press_2 : cX1_press.data.toList.drop 46 = dktX1_press_2 := dk_seg dksX1_press_1 22 rfl rfl
theorem dX1_press_0 : decode cX1_press 0 = .ok (.iload_n 1, 1) := dk_27 (dk_at dksX1_press_0 0 rfl rfl)
theorem dX1_press_1 : decode cX1_press 1 = .ok (.iconst 2, 1) := dk_5 (dk_at dksX1_press_0 1 rfl rfl)
theorem dX1_press_2 : decode cX1_press 2 = .ok (.bipush 9, 2) := dk_16 9 (dk_at dksX1_press_0 2 rfl rfl)
theorem dX1_press_4 : decode cX1_press 4 = .ok (.invokestatic 73, 3) := dk_184 0 73 (dk_at dksX1_press_0 4 rfl rfl)
theorem dX1_press_7 : decode cX1_press 7 = .ok (.ifCond .ne 6, 3) := dk_154 0 6 (dk_at dksX1_press_0 7 rfl rfl)
theorem dX1_press_10 : decode cX1_press 10 = .ok (.bipush (-102), 2) := dk_16 154 (dk_at dksX1_press_0 10 rfl rfl)
theorem dX1_press_12 : decode cX1_press 12 = .ok (.ireturn, 1) := dk_172 (dk_at dksX1_press_0 12 rfl rfl)
theorem dX1_press_13 : decode cX1_press 13 = .ok (.aload_n 0, 1) := dk_42 (dk_at dksX1_press_0 13 rfl rfl)
theorem dX1_press_14 : decode cX1_press 14 = .ok (.getfield 199, 3) := dk_180 0 199 (dk_at dksX1_press_0 14 rfl rfl)
theorem dX1_press_17 : decode cX1_press 17 = .ok (.bipush 10, 2) := dk_16 10 (dk_at dksX1_press_0 17 rfl rfl)
theorem dX1_press_19 : decode cX1_press 19 = .ok (.if_icmp .ne 6, 3) := dk_160 0 6 (dk_at dksX1_press_0 19 rfl rfl)
theorem dX1_press_22 : decode cX1_press 22 = .ok (.bipush (-104), 2) := dk_16 152 (dk_at dksX1_press_0 22 rfl rfl)
theorem dX1_press_24 : decode cX1_press 24 = .ok (.ireturn, 1) := dk_172 (dk_at dksX1_press_1 0 rfl rfl)
theorem dX1_press_25 : decode cX1_press 25 = .ok (.aload_n 0, 1) := dk_42 (dk_at dksX1_press_1 1 rfl rfl)
theorem dX1_press_26 : decode cX1_press 26 = .ok (.getfield 25, 3) := dk_180 0 25 (dk_at dksX1_press_1 2 rfl rfl)
theorem dX1_press_29 : decode cX1_press 29 = .ok (.aload_n 0, 1) := dk_42 (dk_at dksX1_press_1 5 rfl rfl)
theorem dX1_press_30 : decode cX1_press 30 = .ok (.getfield 199, 3) := dk_180 0 199 (dk_at dksX1_press_1 6 rfl rfl)
theorem dX1_press_33 : decode cX1_press 33 = .ok (.iload_n 1, 1) := dk_27 (dk_at dksX1_press_1 9 rfl rfl)
theorem dX1_press_34 : decode cX1_press 34 = .ok (.iastore, 1) := dk_79 (dk_at dksX1_press_1 10 rfl rfl)
theorem dX1_press_35 : decode cX1_press 35 = .ok (.aload_n 0, 1) := dk_42 (dk_at dksX1_press_1 11 rfl rfl)
theorem dX1_press_36 : decode cX1_press 36 = .ok (.dup, 1) := dk_89 (dk_at dksX1_press_1 12 rfl rfl)
theorem dX1_press_37 : decode cX1_press 37 = .ok (.getfield 199, 3) := dk_180 0 199 (dk_at dksX1_press_1 13 rfl rfl)
theorem dX1_press_40 : decode cX1_press 40 = .ok (.iconst 1, 1) := dk_4 (dk_at dksX1_press_1 16 rfl rfl)
theorem dX1_press_41 : decode cX1_press 41 = .ok (.iadd, 1) := dk_96 (dk_at dksX1_press_1 17 rfl rfl)
theorem dX1_press_42 : decode cX1_press 42 = .ok (.putfield 199, 3) := dk_181 0 199 (dk_at dksX1_press_1 18 rfl rfl)
theorem dX1_press_45 : decode cX1_press 45 = .ok (.aload_n 0, 1) := dk_42 (dk_at dksX1_press_1 21 rfl rfl)
theorem dX1_press_46 : decode cX1_press 46 = .ok (.getfield 199, 3) := dk_180 0 199 (dk_at dksX1_press_2 0 rfl rfl)
theorem dX1_press_49 : decode cX1_press 49 = .ok (.ireturn, 1) := dk_172 (dk_at dksX1_press_2 3 rfl rfl)
abbrev cX1_back : ByteArray := prog_7_method_45_code
def yX1_back : MethodName := ⟨RX1, "back", "()I"⟩
def dkwX1_back_1 : List UInt8 := [172]
abbrev dktX1_back_1 : List UInt8 := dkwX1_back_1 ++ []
def dkwX1_back_0 : List UInt8 := [42, 180, 0, 199, 154, 0, 6, 16, 153, 172, 42, 89, 180, 0, 199, 4, 100, 181, 0, 199, 42, 180, 0, 199]
abbrev dktX1_back_0 : List UInt8 := dkwX1_back_0 ++ dktX1_back_1
theorem dksX1_back_0 : cX1_back.data.toList.drop 0 = dktX1_back_0 := by decide +kernel
theorem dksX1_back_1 : cX1_back.data.toList.drop 24 = dktX1_back_1 := dk_seg dksX1_back_0 24 rfl rfl
theorem dX1_back_0 : decode cX1_back 0 = .ok (.aload_n 0, 1) := dk_42 (dk_at dksX1_back_0 0 rfl rfl)
theorem dX1_back_1 : decode cX1_back 1 = .ok (.getfield 199, 3) := dk_180 0 199 (dk_at dksX1_back_0 1 rfl rfl)
theorem dX1_back_4 : decode cX1_back 4 = .ok (.ifCond .ne 6, 3) := dk_154 0 6 (dk_at dksX1_back_0 4 rfl rfl)
theorem dX1_back_7 : decode cX1_back 7 = .ok (.bipush (-103), 2) := dk_16 153 (dk_at dksX1_back_0 7 rfl rfl)
theorem dX1_back_9 : decode cX1_back 9 = .ok (.ireturn, 1) := dk_172 (dk_at dksX1_back_0 9 rfl rfl)
theorem dX1_back_10 : decode cX1_back 10 = .ok (.aload_n 0, 1) := dk_42 (dk_at dksX1_back_0 10 rfl rfl)
theorem dX1_back_11 : decode cX1_back 11 = .ok (.dup, 1) := dk_89 (dk_at dksX1_back_0 11 rfl rfl)
theorem dX1_back_12 : decode cX1_back 12 = .ok (.getfield 199, 3) := dk_180 0 199 (dk_at dksX1_back_0 12 rfl rfl)
theorem dX1_back_15 : decode cX1_back 15 = .ok (.iconst 1, 1) := dk_4 (dk_at dksX1_back_0 15 rfl rfl)
theorem dX1_back_16 : decode cX1_back 16 = .ok (.isub, 1) := dk_100 (dk_at dksX1_back_0 16 rfl rfl)
theorem dX1_back_17 : decode cX1_back 17 = .ok (.putfield 199, 3) := dk_181 0 199 (dk_at dksX1_back_0 17 rfl rfl)
theorem dX1_back_20 : decode cX1_back 20 = .ok (.aload_n 0, 1) := dk_42 (dk_at dksX1_back_0 20 rfl rfl)
theorem dX1_back_21 : decode cX1_back 21 = .ok (.getfield 199, 3) := dk_180 0 199 (dk_at dksX1_back_0 21 rfl rfl)
theorem dX1_back_24 : decode cX1_back 24 = .ok (.ireturn, 1) := dk_172 (dk_at dksX1_back_1 0 rfl rfl)
abbrev cX1_wipe : ByteArray := prog_7_method_46_code
def yX1_wipe : MethodName := ⟨RX1, "wipe", "()I"⟩
def dkwX1_wipe_0 : List UInt8 := [42, 180, 0, 199, 60, 42, 3, 181, 0, 199, 27, 172]
abbrev dktX1_wipe_0 : List UInt8 := dkwX1_wipe_0 ++ []
theorem dksX1_wipe_0 : cX1_wipe.data.toList.drop 0 = dktX1_wipe_0 := by decide +kernel
theorem dX1_wipe_0 : decode cX1_wipe 0 = .ok (.aload_n 0, 1) := dk_42 (dk_at dksX1_wipe_0 0 rfl rfl)
theorem dX1_wipe_1 : decode cX1_wipe 1 = .ok (.getfield 199, 3) := dk_180 0 199 (dk_at dksX1_wipe_0 1 rfl rfl)
theorem dX1_wipe_4 : decode cX1_wipe 4 = .ok (.istore_n 1, 1) := dk_60 (dk_at dksX1_wipe_0 4 rfl rfl)
theorem dX1_wipe_5 : decode cX1_wipe 5 = .ok (.aload_n 0, 1) := dk_42 (dk_at dksX1_wipe_0 5 rfl rfl)
theorem dX1_wipe_6 : decode cX1_wipe 6 = .ok (.iconst 0, 1) := dk_3 (dk_at dksX1_wipe_0 6 rfl rfl)
theorem dX1_wipe_7 : decode cX1_wipe 7 = .ok (.putfield 199, 3) := dk_181 0 199 (dk_at dksX1_wipe_0 7 rfl rfl)
theorem dX1_wipe_10 : decode cX1_wipe 10 = .ok (.iload_n 1, 1) := dk_27 (dk_at dksX1_wipe_0 10 rfl rfl)
theorem dX1_wipe_11 : decode cX1_wipe 11 = .ok (.ireturn, 1) := dk_172 (dk_at dksX1_wipe_0 11 rfl rfl)
abbrev cX1_typed : ByteArray := prog_7_method_47_code
def yX1_typed : MethodName := ⟨RX1, "typed", "(I)I"⟩
def dkwX1_typed_1 : List UInt8 := [16, 155, 172]
abbrev dktX1_typed_1 : List UInt8 := dkwX1_typed_1 ++ []
def dkwX1_typed_0 : List UInt8 := [27, 3, 42, 180, 0, 199, 4, 100, 184, 0, 73, 153, 0, 12, 42, 180, 0, 25, 27, 46, 167, 0, 5]
abbrev dktX1_typed_0 : List UInt8 := dkwX1_typed_0 ++ dktX1_typed_1
theorem dksX1_typed_0 : cX1_typed.data.toList.drop 0 = dktX1_typed_0 := by decide +kernel
theorem dksX1_typed_1 : cX1_typed.data.toList.drop 23 = dktX1_typed_1 := dk_seg dksX1_typed_0 23 rfl rfl
theorem dX1_typed_0 : decode cX1_typed 0 = .ok (.iload_n 1, 1) := dk_27 (dk_at dksX1_typed_0 0 rfl rfl)
theorem dX1_typed_1 : decode cX1_typed 1 = .ok (.iconst 0, 1) := dk_3 (dk_at dksX1_typed_0 1 rfl rfl)
theorem dX1_typed_2 : decode cX1_typed 2 = .ok (.aload_n 0, 1) := dk_42 (dk_at dksX1_typed_0 2 rfl rfl)
theorem dX1_typed_3 : decode cX1_typed 3 = .ok (.getfield 199, 3) := dk_180 0 199 (dk_at dksX1_typed_0 3 rfl rfl)
theorem dX1_typed_6 : decode cX1_typed 6 = .ok (.iconst 1, 1) := dk_4 (dk_at dksX1_typed_0 6 rfl rfl)
theorem dX1_typed_7 : decode cX1_typed 7 = .ok (.isub, 1) := dk_100 (dk_at dksX1_typed_0 7 rfl rfl)
theorem dX1_typed_8 : decode cX1_typed 8 = .ok (.invokestatic 73, 3) := dk_184 0 73 (dk_at dksX1_typed_0 8 rfl rfl)
theorem dX1_typed_11 : decode cX1_typed 11 = .ok (.ifCond .eq 12, 3) := dk_153 0 12 (dk_at dksX1_typed_0 11 rfl rfl)
theorem dX1_typed_14 : decode cX1_typed 14 = .ok (.aload_n 0, 1) := dk_42 (dk_at dksX1_typed_0 14 rfl rfl)
theorem dX1_typed_15 : decode cX1_typed 15 = .ok (.getfield 25, 3) := dk_180 0 25 (dk_at dksX1_typed_0 15 rfl rfl)
theorem dX1_typed_18 : decode cX1_typed 18 = .ok (.iload_n 1, 1) := dk_27 (dk_at dksX1_typed_0 18 rfl rfl)
theorem dX1_typed_19 : decode cX1_typed 19 = .ok (.iaload, 1) := dk_46 (dk_at dksX1_typed_0 19 rfl rfl)
theorem dX1_typed_20 : decode cX1_typed 20 = .ok (.goto 5, 3) := dk_167 0 5 (dk_at dksX1_typed_0 20 rfl rfl)
theorem dX1_typed_23 : decode cX1_typed 23 = .ok (.bipush (-101), 2) := dk_16 155 (dk_at dksX1_typed_1 0 rfl rfl)
theorem dX1_typed_25 : decode cX1_typed 25 = .ok (.ireturn, 1) := dk_172 (dk_at dksX1_typed_1 2 rfl rfl)
abbrev cX1_choice : ByteArray := prog_7_method_50_code
def yX1_choice : MethodName := ⟨RX1, "choice", "(I)I"⟩
def dkwX1_choice_1 : List UInt8 := [160, 0, 5, 28, 172, 132, 2, 1, 167, 255, 226, 16, 155, 172]
abbrev dktX1_choice_1 : List UInt8 := dkwX1_choice_1 ++ []
def dkwX1_choice_0 : List UInt8 := [3, 61, 28, 42, 180, 0, 109, 162, 0, 28, 42, 28, 182, 0, 202, 153, 0, 14, 42, 28, 182, 0, 205, 27]
abbrev dktX1_choice_0 : List UInt8 := dkwX1_choice_0 ++ dktX1_choice_1
theorem dksX1_choice_0 : cX1_choice.data.toList.drop 0 = dktX1_choice_0 := by decide +kernel
theorem dksX1_choice_1 : cX1_choice.data.toList.drop 24 = dktX1_choice_1 := dk_seg dksX1_choice_0 24 rfl rfl
theorem dX1_choice_0 : decode cX1_choice 0 = .ok (.iconst 0, 1) := dk_3 (dk_at dksX1_choice_0 0 rfl rfl)
theorem dX1_choice_1 : decode cX1_choice 1 = .ok (.istore_n 2, 1) := dk_61 (dk_at dksX1_choice_0 1 rfl rfl)
theorem dX1_choice_2 : decode cX1_choice 2 = .ok (.iload_n 2, 1) := dk_28 (dk_at dksX1_choice_0 2 rfl rfl)
theorem dX1_choice_3 : decode cX1_choice 3 = .ok (.aload_n 0, 1) := dk_42 (dk_at dksX1_choice_0 3 rfl rfl)
theorem dX1_choice_4 : decode cX1_choice 4 = .ok (.getfield 109, 3) := dk_180 0 109 (dk_at dksX1_choice_0 4 rfl rfl)
theorem dX1_choice_7 : decode cX1_choice 7 = .ok (.if_icmp .ge 28, 3) := dk_162 0 28 (dk_at dksX1_choice_0 7 rfl rfl)
theorem dX1_choice_10 : decode cX1_choice 10 = .ok (.aload_n 0, 1) := dk_42 (dk_at dksX1_choice_0 10 rfl rfl)
theorem dX1_choice_11 : decode cX1_choice 11 = .ok (.iload_n 2, 1) := dk_28 (dk_at dksX1_choice_0 11 rfl rfl)
theorem dX1_choice_12 : decode cX1_choice 12 = .ok (.invokevirtual 202, 3) := dk_182 0 202 (dk_at dksX1_choice_0 12 rfl rfl)
theorem dX1_choice_15 : decode cX1_choice 15 = .ok (.ifCond .eq 14, 3) := dk_153 0 14 (dk_at dksX1_choice_0 15 rfl rfl)
theorem dX1_choice_18 : decode cX1_choice 18 = .ok (.aload_n 0, 1) := dk_42 (dk_at dksX1_choice_0 18 rfl rfl)
theorem dX1_choice_19 : decode cX1_choice 19 = .ok (.iload_n 2, 1) := dk_28 (dk_at dksX1_choice_0 19 rfl rfl)
theorem dX1_choice_20 : decode cX1_choice 20 = .ok (.invokevirtual 205, 3) := dk_182 0 205 (dk_at dksX1_choice_0 20 rfl rfl)
theorem dX1_choice_23 : decode cX1_choice 23 = .ok (.iload_n 1, 1) := dk_27 (dk_at dksX1_choice_0 23 rfl rfl)
theorem dX1_choice_24 : decode cX1_choice 24 = .ok (.if_icmp .ne 5, 3) := dk_160 0 5 (dk_at dksX1_choice_1 0 rfl rfl)
theorem dX1_choice_27 : decode cX1_choice 27 = .ok (.iload_n 2, 1) := dk_28 (dk_at dksX1_choice_1 3 rfl rfl)
theorem dX1_choice_28 : decode cX1_choice 28 = .ok (.ireturn, 1) := dk_172 (dk_at dksX1_choice_1 4 rfl rfl)
theorem dX1_choice_29 : decode cX1_choice 29 = .ok (.iinc 2 1, 3) := dk_132 2 1 (dk_at dksX1_choice_1 5 rfl rfl)
theorem dX1_choice_32 : decode cX1_choice 32 = .ok (.goto (-30), 3) := dk_167 255 226 (dk_at dksX1_choice_1 8 rfl rfl)
theorem dX1_choice_35 : decode cX1_choice 35 = .ok (.bipush (-101), 2) := dk_16 155 (dk_at dksX1_choice_1 11 rfl rfl)
theorem dX1_choice_37 : decode cX1_choice 37 = .ok (.ireturn, 1) := dk_172 (dk_at dksX1_choice_1 13 rfl rfl)
abbrev cX1_isChosen : ByteArray := prog_7_method_48_code
def yX1_isChosen : MethodName := ⟨RX1, "isChosen", "(I)Z"⟩
def dkwX1_isChosen_2 : List UInt8 := [160, 0, 7, 4, 167, 0, 4, 3, 61, 132, 3, 1, 167, 255, 220, 28, 172]
abbrev dktX1_isChosen_2 : List UInt8 := dkwX1_isChosen_2 ++ []
def dkwX1_isChosen_1 : List UInt8 := [180, 0, 199, 162, 0, 34, 28, 153, 0, 30, 42, 27, 29, 182, 0, 145, 42, 180, 0, 25, 29, 46]
abbrev dktX1_isChosen_1 : List UInt8 := dkwX1_isChosen_1 ++ dktX1_isChosen_2
def dkwX1_isChosen_0 : List UInt8 := [42, 180, 0, 199, 42, 180, 0, 13, 27, 46, 163, 0, 7, 4, 167, 0, 4, 3, 61, 3, 62, 29, 42]
abbrev dktX1_isChosen_0 : List UInt8 := dkwX1_isChosen_0 ++ dktX1_isChosen_1
theorem dksX1_isChosen_0 : cX1_isChosen.data.toList.drop 0 = dktX1_isChosen_0 := by decide +kernel
theorem dksX1_isChosen_1 : cX1_isChosen.data.toList.drop 23 = dktX1_isChosen_1 := dk_seg dksX1_isChosen_0 23 rfl rfl
theorem dksX1_isChosen_2 : cX1_isChosen.data.toList.drop 45 = dktX1_isChosen_2 := dk_seg dksX1_isChosen_1 22 rfl rfl
theorem dX1_isChosen_0 : decode cX1_isChosen 0 = .ok (.aload_n 0, 1) := dk_42 (dk_at dksX1_isChosen_0 0 rfl rfl)
theorem dX1_isChosen_1 : decode cX1_isChosen 1 = .ok (.getfield 199, 3) := dk_180 0 199 (dk_at dksX1_isChosen_0 1 rfl rfl)
theorem dX1_isChosen_4 : decode cX1_isChosen 4 = .ok (.aload_n 0, 1) := dk_42 (dk_at dksX1_isChosen_0 4 rfl rfl)
theorem dX1_isChosen_5 : decode cX1_isChosen 5 = .ok (.getfield 13, 3) := dk_180 0 13 (dk_at dksX1_isChosen_0 5 rfl rfl)
theorem dX1_isChosen_8 : decode cX1_isChosen 8 = .ok (.iload_n 1, 1) := dk_27 (dk_at dksX1_isChosen_0 8 rfl rfl)
theorem dX1_isChosen_9 : decode cX1_isChosen 9 = .ok (.iaload, 1) := dk_46 (dk_at dksX1_isChosen_0 9 rfl rfl)
theorem dX1_isChosen_10 : decode cX1_isChosen 10 = .ok (.if_icmp .gt 7, 3) := dk_163 0 7 (dk_at dksX1_isChosen_0 10 rfl rfl)
theorem dX1_isChosen_13 : decode cX1_isChosen 13 = .ok (.iconst 1, 1) := dk_4 (dk_at dksX1_isChosen_0 13 rfl rfl)
theorem dX1_isChosen_14 : decode cX1_isChosen 14 = .ok (.goto 4, 3) := dk_167 0 4 (dk_at dksX1_isChosen_0 14 rfl rfl)
theorem dX1_isChosen_17 : decode cX1_isChosen 17 = .ok (.iconst 0, 1) := dk_3 (dk_at dksX1_isChosen_0 17 rfl rfl)
theorem dX1_isChosen_18 : decode cX1_isChosen 18 = .ok (.istore_n 2, 1) := dk_61 (dk_at dksX1_isChosen_0 18 rfl rfl)
theorem dX1_isChosen_19 : decode cX1_isChosen 19 = .ok (.iconst 0, 1) := dk_3 (dk_at dksX1_isChosen_0 19 rfl rfl)
theorem dX1_isChosen_20 : decode cX1_isChosen 20 = .ok (.istore_n 3, 1) := dk_62 (dk_at dksX1_isChosen_0 20 rfl rfl)
theorem dX1_isChosen_21 : decode cX1_isChosen 21 = .ok (.iload_n 3, 1) := dk_29 (dk_at dksX1_isChosen_0 21 rfl rfl)
theorem dX1_isChosen_22 : decode cX1_isChosen 22 = .ok (.aload_n 0, 1) := dk_42 (dk_at dksX1_isChosen_0 22 rfl rfl)
theorem dX1_isChosen_23 : decode cX1_isChosen 23 = .ok (.getfield 199, 3) := dk_180 0 199 (dk_at dksX1_isChosen_1 0 rfl rfl)
theorem dX1_isChosen_26 : decode cX1_isChosen 26 = .ok (.if_icmp .ge 34, 3) := dk_162 0 34 (dk_at dksX1_isChosen_1 3 rfl rfl)
theorem dX1_isChosen_29 : decode cX1_isChosen 29 = .ok (.iload_n 2, 1) := dk_28 (dk_at dksX1_isChosen_1 6 rfl rfl)
theorem dX1_isChosen_30 : decode cX1_isChosen 30 = .ok (.ifCond .eq 30, 3) := dk_153 0 30 (dk_at dksX1_isChosen_1 7 rfl rfl)
theorem dX1_isChosen_33 : decode cX1_isChosen 33 = .ok (.aload_n 0, 1) := dk_42 (dk_at dksX1_isChosen_1 10 rfl rfl)
theorem dX1_isChosen_34 : decode cX1_isChosen 34 = .ok (.iload_n 1, 1) := dk_27 (dk_at dksX1_isChosen_1 11 rfl rfl)
theorem dX1_isChosen_35 : decode cX1_isChosen 35 = .ok (.iload_n 3, 1) := dk_29 (dk_at dksX1_isChosen_1 12 rfl rfl)
theorem dX1_isChosen_36 : decode cX1_isChosen 36 = .ok (.invokevirtual 145, 3) := dk_182 0 145 (dk_at dksX1_isChosen_1 13 rfl rfl)
theorem dX1_isChosen_39 : decode cX1_isChosen 39 = .ok (.aload_n 0, 1) := dk_42 (dk_at dksX1_isChosen_1 16 rfl rfl)
theorem dX1_isChosen_40 : decode cX1_isChosen 40 = .ok (.getfield 25, 3) := dk_180 0 25 (dk_at dksX1_isChosen_1 17 rfl rfl)
theorem dX1_isChosen_43 : decode cX1_isChosen 43 = .ok (.iload_n 3, 1) := dk_29 (dk_at dksX1_isChosen_1 20 rfl rfl)
theorem dX1_isChosen_44 : decode cX1_isChosen 44 = .ok (.iaload, 1) := dk_46 (dk_at dksX1_isChosen_1 21 rfl rfl)
theorem dX1_isChosen_45 : decode cX1_isChosen 45 = .ok (.if_icmp .ne 7, 3) := dk_160 0 7 (dk_at dksX1_isChosen_2 0 rfl rfl)
theorem dX1_isChosen_48 : decode cX1_isChosen 48 = .ok (.iconst 1, 1) := dk_4 (dk_at dksX1_isChosen_2 3 rfl rfl)
theorem dX1_isChosen_49 : decode cX1_isChosen 49 = .ok (.goto 4, 3) := dk_167 0 4 (dk_at dksX1_isChosen_2 4 rfl rfl)
theorem dX1_isChosen_52 : decode cX1_isChosen 52 = .ok (.iconst 0, 1) := dk_3 (dk_at dksX1_isChosen_2 7 rfl rfl)
theorem dX1_isChosen_53 : decode cX1_isChosen 53 = .ok (.istore_n 2, 1) := dk_61 (dk_at dksX1_isChosen_2 8 rfl rfl)
theorem dX1_isChosen_54 : decode cX1_isChosen 54 = .ok (.iinc 3 1, 3) := dk_132 3 1 (dk_at dksX1_isChosen_2 9 rfl rfl)
theorem dX1_isChosen_57 : decode cX1_isChosen 57 = .ok (.goto (-36), 3) := dk_167 255 220 (dk_at dksX1_isChosen_2 12 rfl rfl)
theorem dX1_isChosen_60 : decode cX1_isChosen 60 = .ok (.iload_n 2, 1) := dk_28 (dk_at dksX1_isChosen_2 15 rfl rfl)
theorem dX1_isChosen_61 : decode cX1_isChosen 61 = .ok (.ireturn, 1) := dk_172 (dk_at dksX1_isChosen_2 16 rfl rfl)
abbrev cX1_chosenAhead : ByteArray := prog_7_method_49_code
def yX1_chosenAhead : MethodName := ⟨RX1, "chosenAhead", "(I)I"⟩
def dkwX1_chosenAhead_1 : List UInt8 := [182, 0, 155, 153, 0, 7, 4, 167, 0, 4, 3, 96, 61, 132, 3, 1, 167, 255, 220, 28, 172]
abbrev dktX1_chosenAhead_1 : List UInt8 := dkwX1_chosenAhead_1 ++ []
def dkwX1_chosenAhead_0 : List UInt8 := [3, 61, 3, 62, 29, 42, 180, 0, 109, 162, 0, 34, 28, 42, 29, 182, 0, 202, 153, 0, 16, 42, 29, 27]
abbrev dktX1_chosenAhead_0 : List UInt8 := dkwX1_chosenAhead_0 ++ dktX1_chosenAhead_1
theorem dksX1_chosenAhead_0 : cX1_chosenAhead.data.toList.drop 0 = dktX1_chosenAhead_0 := by decide +kernel
theorem dksX1_chosenAhead_1 : cX1_chosenAhead.data.toList.drop 24 = dktX1_chosenAhead_1 := dk_seg dksX1_chosenAhead_0 24 rfl rfl
theorem dX1_chosenAhead_0 : decode cX1_chosenAhead 0 = .ok (.iconst 0, 1) := dk_3 (dk_at dksX1_chosenAhead_0 0 rfl rfl)
theorem dX1_chosenAhead_1 : decode cX1_chosenAhead 1 = .ok (.istore_n 2, 1) := dk_61 (dk_at dksX1_chosenAhead_0 1 rfl rfl)
theorem dX1_chosenAhead_2 : decode cX1_chosenAhead 2 = .ok (.iconst 0, 1) := dk_3 (dk_at dksX1_chosenAhead_0 2 rfl rfl)
theorem dX1_chosenAhead_3 : decode cX1_chosenAhead 3 = .ok (.istore_n 3, 1) := dk_62 (dk_at dksX1_chosenAhead_0 3 rfl rfl)
theorem dX1_chosenAhead_4 : decode cX1_chosenAhead 4 = .ok (.iload_n 3, 1) := dk_29 (dk_at dksX1_chosenAhead_0 4 rfl rfl)
theorem dX1_chosenAhead_5 : decode cX1_chosenAhead 5 = .ok (.aload_n 0, 1) := dk_42 (dk_at dksX1_chosenAhead_0 5 rfl rfl)
theorem dX1_chosenAhead_6 : decode cX1_chosenAhead 6 = .ok (.getfield 109, 3) := dk_180 0 109 (dk_at dksX1_chosenAhead_0 6 rfl rfl)
theorem dX1_chosenAhead_9 : decode cX1_chosenAhead 9 = .ok (.if_icmp .ge 34, 3) := dk_162 0 34 (dk_at dksX1_chosenAhead_0 9 rfl rfl)
theorem dX1_chosenAhead_12 : decode cX1_chosenAhead 12 = .ok (.iload_n 2, 1) := dk_28 (dk_at dksX1_chosenAhead_0 12 rfl rfl)
theorem dX1_chosenAhead_13 : decode cX1_chosenAhead 13 = .ok (.aload_n 0, 1) := dk_42 (dk_at dksX1_chosenAhead_0 13 rfl rfl)
theorem dX1_chosenAhead_14 : decode cX1_chosenAhead 14 = .ok (.iload_n 3, 1) := dk_29 (dk_at dksX1_chosenAhead_0 14 rfl rfl)
theorem dX1_chosenAhead_15 : decode cX1_chosenAhead 15 = .ok (.invokevirtual 202, 3) := dk_182 0 202 (dk_at dksX1_chosenAhead_0 15 rfl rfl)
theorem dX1_chosenAhead_18 : decode cX1_chosenAhead 18 = .ok (.ifCond .eq 16, 3) := dk_153 0 16 (dk_at dksX1_chosenAhead_0 18 rfl rfl)
theorem dX1_chosenAhead_21 : decode cX1_chosenAhead 21 = .ok (.aload_n 0, 1) := dk_42 (dk_at dksX1_chosenAhead_0 21 rfl rfl)
theorem dX1_chosenAhead_22 : decode cX1_chosenAhead 22 = .ok (.iload_n 3, 1) := dk_29 (dk_at dksX1_chosenAhead_0 22 rfl rfl)
theorem dX1_chosenAhead_23 : decode cX1_chosenAhead 23 = .ok (.iload_n 1, 1) := dk_27 (dk_at dksX1_chosenAhead_0 23 rfl rfl)
theorem dX1_chosenAhead_24 : decode cX1_chosenAhead 24 = .ok (.invokevirtual 155, 3) := dk_182 0 155 (dk_at dksX1_chosenAhead_1 0 rfl rfl)
theorem dX1_chosenAhead_27 : decode cX1_chosenAhead 27 = .ok (.ifCond .eq 7, 3) := dk_153 0 7 (dk_at dksX1_chosenAhead_1 3 rfl rfl)
theorem dX1_chosenAhead_30 : decode cX1_chosenAhead 30 = .ok (.iconst 1, 1) := dk_4 (dk_at dksX1_chosenAhead_1 6 rfl rfl)
theorem dX1_chosenAhead_31 : decode cX1_chosenAhead 31 = .ok (.goto 4, 3) := dk_167 0 4 (dk_at dksX1_chosenAhead_1 7 rfl rfl)
theorem dX1_chosenAhead_34 : decode cX1_chosenAhead 34 = .ok (.iconst 0, 1) := dk_3 (dk_at dksX1_chosenAhead_1 10 rfl rfl)
theorem dX1_chosenAhead_35 : decode cX1_chosenAhead 35 = .ok (.iadd, 1) := dk_96 (dk_at dksX1_chosenAhead_1 11 rfl rfl)
theorem dX1_chosenAhead_36 : decode cX1_chosenAhead 36 = .ok (.istore_n 2, 1) := dk_61 (dk_at dksX1_chosenAhead_1 12 rfl rfl)
theorem dX1_chosenAhead_37 : decode cX1_chosenAhead 37 = .ok (.iinc 3 1, 3) := dk_132 3 1 (dk_at dksX1_chosenAhead_1 13 rfl rfl)
theorem dX1_chosenAhead_40 : decode cX1_chosenAhead 40 = .ok (.goto (-36), 3) := dk_167 255 220 (dk_at dksX1_chosenAhead_1 16 rfl rfl)
theorem dX1_chosenAhead_43 : decode cX1_chosenAhead 43 = .ok (.iload_n 2, 1) := dk_28 (dk_at dksX1_chosenAhead_1 19 rfl rfl)
theorem dX1_chosenAhead_44 : decode cX1_chosenAhead 44 = .ok (.ireturn, 1) := dk_172 (dk_at dksX1_chosenAhead_1 20 rfl rfl)
abbrev cX1_spelling : ByteArray := prog_7_method_55_code
def yX1_spelling : MethodName := ⟨RX1, "spelling", "(I)I"⟩
def dkwX1_spelling_0 : List UInt8 := [27, 3, 6, 184, 0, 73, 153, 0, 11, 42, 27, 182, 0, 219, 167, 0, 5, 16, 154, 172]
abbrev dktX1_spelling_0 : List UInt8 := dkwX1_spelling_0 ++ []
theorem dksX1_spelling_0 : cX1_spelling.data.toList.drop 0 = dktX1_spelling_0 := by decide +kernel
theorem dX1_spelling_0 : decode cX1_spelling 0 = .ok (.iload_n 1, 1) := dk_27 (dk_at dksX1_spelling_0 0 rfl rfl)
theorem dX1_spelling_1 : decode cX1_spelling 1 = .ok (.iconst 0, 1) := dk_3 (dk_at dksX1_spelling_0 1 rfl rfl)
theorem dX1_spelling_2 : decode cX1_spelling 2 = .ok (.iconst 3, 1) := dk_6 (dk_at dksX1_spelling_0 2 rfl rfl)
theorem dX1_spelling_3 : decode cX1_spelling 3 = .ok (.invokestatic 73, 3) := dk_184 0 73 (dk_at dksX1_spelling_0 3 rfl rfl)
theorem dX1_spelling_6 : decode cX1_spelling 6 = .ok (.ifCond .eq 11, 3) := dk_153 0 11 (dk_at dksX1_spelling_0 6 rfl rfl)
theorem dX1_spelling_9 : decode cX1_spelling 9 = .ok (.aload_n 0, 1) := dk_42 (dk_at dksX1_spelling_0 9 rfl rfl)
theorem dX1_spelling_10 : decode cX1_spelling 10 = .ok (.iload_n 1, 1) := dk_27 (dk_at dksX1_spelling_0 10 rfl rfl)
theorem dX1_spelling_11 : decode cX1_spelling 11 = .ok (.invokevirtual 219, 3) := dk_182 0 219 (dk_at dksX1_spelling_0 11 rfl rfl)
theorem dX1_spelling_14 : decode cX1_spelling 14 = .ok (.goto 5, 3) := dk_167 0 5 (dk_at dksX1_spelling_0 14 rfl rfl)
theorem dX1_spelling_17 : decode cX1_spelling 17 = .ok (.bipush (-102), 2) := dk_16 154 (dk_at dksX1_spelling_0 17 rfl rfl)
theorem dX1_spelling_19 : decode cX1_spelling 19 = .ok (.ireturn, 1) := dk_172 (dk_at dksX1_spelling_0 19 rfl rfl)
abbrev cX1_spellingNow : ByteArray := prog_7_method_54_code
def yX1_spellingNow : MethodName := ⟨RX1, "spellingNow", "(I)I"⟩
def dkwX1_spellingNow_3 : List UInt8 := [180, 0, 55, 3, 46, 172]
abbrev dktX1_spellingNow_3 : List UInt8 := dkwX1_spellingNow_3 ++ []
def dkwX1_spellingNow_2 : List UInt8 := [42, 180, 0, 46, 3, 46, 172, 42, 180, 0, 49, 3, 46, 172, 42, 180, 0, 52, 3, 46, 172, 42]
abbrev dktX1_spellingNow_2 : List UInt8 := dkwX1_spellingNow_2 ++ dktX1_spellingNow_3
def dkwX1_spellingNow_1 : List UInt8 := [170, 0, 0, 0, 0, 0, 48, 0, 0, 0, 0, 0, 0, 0, 2, 0, 0, 0, 27, 0, 0, 0, 34, 0, 0, 0, 41]
abbrev dktX1_spellingNow_1 : List UInt8 := dkwX1_spellingNow_1 ++ dktX1_spellingNow_2
def dkwX1_spellingNow_0 : List UInt8 := [42, 182, 0, 216, 27]
abbrev dktX1_spellingNow_0 : List UInt8 := dkwX1_spellingNow_0 ++ dktX1_spellingNow_1
theorem dksX1_spellingNow_0 : cX1_spellingNow.data.toList.drop 0 = dktX1_spellingNow_0 := by decide +kernel
theorem dksX1_spellingNow_1 : cX1_spellingNow.data.toList.drop 5 = dktX1_spellingNow_1 := dk_seg dksX1_spellingNow_0 5 rfl rfl
theorem dksX1_spellingNow_2 : cX1_spellingNow.data.toList.drop 32 = dktX1_spellingNow_2 := dk_seg dksX1_spellingNow_1 27 rfl rfl
theorem dksX1_spellingNow_3 : cX1_spellingNow.data.toList.drop 54 = dktX1_spellingNow_3 := dk_seg dksX1_spellingNow_2 22 rfl rfl
theorem dX1_spellingNow_0 : decode cX1_spellingNow 0 = .ok (.aload_n 0, 1) := dk_42 (dk_at dksX1_spellingNow_0 0 rfl rfl)
theorem dX1_spellingNow_1 : decode cX1_spellingNow 1 = .ok (.invokevirtual 216, 3) := dk_182 0 216 (dk_at dksX1_spellingNow_0 1 rfl rfl)
theorem dX1_spellingNow_4 : decode cX1_spellingNow 4 = .ok (.iload_n 1, 1) := dk_27 (dk_at dksX1_spellingNow_0 4 rfl rfl)
theorem dX1_spellingNow_5 : decode cX1_spellingNow 5 = .ok (.tableswitch 48 0 2 #[27, 34, 41], 27) := by decide +kernel
theorem dX1_spellingNow_32 : decode cX1_spellingNow 32 = .ok (.aload_n 0, 1) := dk_42 (dk_at dksX1_spellingNow_2 0 rfl rfl)
theorem dX1_spellingNow_33 : decode cX1_spellingNow 33 = .ok (.getfield 46, 3) := dk_180 0 46 (dk_at dksX1_spellingNow_2 1 rfl rfl)
theorem dX1_spellingNow_36 : decode cX1_spellingNow 36 = .ok (.iconst 0, 1) := dk_3 (dk_at dksX1_spellingNow_2 4 rfl rfl)
theorem dX1_spellingNow_37 : decode cX1_spellingNow 37 = .ok (.iaload, 1) := dk_46 (dk_at dksX1_spellingNow_2 5 rfl rfl)
theorem dX1_spellingNow_38 : decode cX1_spellingNow 38 = .ok (.ireturn, 1) := dk_172 (dk_at dksX1_spellingNow_2 6 rfl rfl)
theorem dX1_spellingNow_39 : decode cX1_spellingNow 39 = .ok (.aload_n 0, 1) := dk_42 (dk_at dksX1_spellingNow_2 7 rfl rfl)
theorem dX1_spellingNow_40 : decode cX1_spellingNow 40 = .ok (.getfield 49, 3) := dk_180 0 49 (dk_at dksX1_spellingNow_2 8 rfl rfl)
theorem dX1_spellingNow_43 : decode cX1_spellingNow 43 = .ok (.iconst 0, 1) := dk_3 (dk_at dksX1_spellingNow_2 11 rfl rfl)
theorem dX1_spellingNow_44 : decode cX1_spellingNow 44 = .ok (.iaload, 1) := dk_46 (dk_at dksX1_spellingNow_2 12 rfl rfl)
theorem dX1_spellingNow_45 : decode cX1_spellingNow 45 = .ok (.ireturn, 1) := dk_172 (dk_at dksX1_spellingNow_2 13 rfl rfl)
theorem dX1_spellingNow_46 : decode cX1_spellingNow 46 = .ok (.aload_n 0, 1) := dk_42 (dk_at dksX1_spellingNow_2 14 rfl rfl)
theorem dX1_spellingNow_47 : decode cX1_spellingNow 47 = .ok (.getfield 52, 3) := dk_180 0 52 (dk_at dksX1_spellingNow_2 15 rfl rfl)
theorem dX1_spellingNow_50 : decode cX1_spellingNow 50 = .ok (.iconst 0, 1) := dk_3 (dk_at dksX1_spellingNow_2 18 rfl rfl)
theorem dX1_spellingNow_51 : decode cX1_spellingNow 51 = .ok (.iaload, 1) := dk_46 (dk_at dksX1_spellingNow_2 19 rfl rfl)
theorem dX1_spellingNow_52 : decode cX1_spellingNow 52 = .ok (.ireturn, 1) := dk_172 (dk_at dksX1_spellingNow_2 20 rfl rfl)
theorem dX1_spellingNow_53 : decode cX1_spellingNow 53 = .ok (.aload_n 0, 1) := dk_42 (dk_at dksX1_spellingNow_2 21 rfl rfl)
theorem dX1_spellingNow_54 : decode cX1_spellingNow 54 = .ok (.getfield 55, 3) := dk_180 0 55 (dk_at dksX1_spellingNow_3 0 rfl rfl)
theorem dX1_spellingNow_57 : decode cX1_spellingNow 57 = .ok (.iconst 0, 1) := dk_3 (dk_at dksX1_spellingNow_3 3 rfl rfl)
theorem dX1_spellingNow_58 : decode cX1_spellingNow 58 = .ok (.iaload, 1) := dk_46 (dk_at dksX1_spellingNow_3 4 rfl rfl)
theorem dX1_spellingNow_59 : decode cX1_spellingNow 59 = .ok (.ireturn, 1) := dk_172 (dk_at dksX1_spellingNow_3 5 rfl rfl)
abbrev cX1_laySpellings : ByteArray := prog_7_method_53_code
def yX1_laySpellings : MethodName := ⟨RX1, "laySpellings", "()V"⟩
def dkwX1_laySpellings_5 : List UInt8 := [96, 3, 182, 0, 209, 132, 2, 1, 167, 255, 222, 132, 1, 255, 167, 255, 171, 177]
abbrev dktX1_laySpellings_5 : List UInt8 := dkwX1_laySpellings_5 ++ []
def dkwX1_laySpellings_4 : List UInt8 := [180, 0, 109, 162, 0, 32, 42, 28, 27, 182, 0, 213, 153, 0, 17, 42, 27, 27, 42, 180, 0, 13, 28, 46]
abbrev dktX1_laySpellings_4 : List UInt8 := dkwX1_laySpellings_4 ++ dktX1_laySpellings_5
def dkwX1_laySpellings_3 : List UInt8 := [18, 158, 79, 42, 180, 0, 55, 27, 3, 79, 42, 27, 27, 4, 96, 4, 182, 0, 209, 3, 61, 28, 42]
abbrev dktX1_laySpellings_3 : List UInt8 := dkwX1_laySpellings_3 ++ dktX1_laySpellings_4
def dkwX1_laySpellings_2 : List UInt8 := [155, 0, 87, 42, 180, 0, 46, 27, 3, 79, 42, 180, 0, 49, 27, 18, 158, 79, 42, 180, 0, 52, 27]
abbrev dktX1_laySpellings_2 : List UInt8 := dkwX1_laySpellings_2 ++ dktX1_laySpellings_3
def dkwX1_laySpellings_1 : List UInt8 := [42, 180, 0, 199, 3, 79, 42, 180, 0, 55, 42, 180, 0, 199, 4, 79, 42, 180, 0, 199, 4, 100, 60, 27]
abbrev dktX1_laySpellings_1 : List UInt8 := dkwX1_laySpellings_1 ++ dktX1_laySpellings_2
def dkwX1_laySpellings_0 : List UInt8 := [42, 180, 0, 46, 42, 180, 0, 199, 4, 79, 42, 180, 0, 49, 42, 180, 0, 199, 3, 79, 42, 180, 0, 52]
abbrev dktX1_laySpellings_0 : List UInt8 := dkwX1_laySpellings_0 ++ dktX1_laySpellings_1
theorem dksX1_laySpellings_0 : cX1_laySpellings.data.toList.drop 0 = dktX1_laySpellings_0 := by decide +kernel
theorem dksX1_laySpellings_1 : cX1_laySpellings.data.toList.drop 24 = dktX1_laySpellings_1 := dk_seg dksX1_laySpellings_0 24 rfl rfl
theorem dksX1_laySpellings_2 : cX1_laySpellings.data.toList.drop 48 = dktX1_laySpellings_2 := dk_seg dksX1_laySpellings_1 24 rfl rfl
theorem dksX1_laySpellings_3 : cX1_laySpellings.data.toList.drop 71 = dktX1_laySpellings_3 := dk_seg dksX1_laySpellings_2 23 rfl rfl
theorem dksX1_laySpellings_4 : cX1_laySpellings.data.toList.drop 94 = dktX1_laySpellings_4 := dk_seg dksX1_laySpellings_3 23 rfl rfl
theorem dksX1_laySpellings_5 : cX1_laySpellings.data.toList.drop 118 = dktX1_laySpellings_5 := dk_seg dksX1_laySpellings_4 24 rfl rfl
theorem dX1_laySpellings_0 : decode cX1_laySpellings 0 = .ok (.aload_n 0, 1) := dk_42 (dk_at dksX1_laySpellings_0 0 rfl rfl)
theorem dX1_laySpellings_1 : decode cX1_laySpellings 1 = .ok (.getfield 46, 3) := dk_180 0 46 (dk_at dksX1_laySpellings_0 1 rfl rfl)
theorem dX1_laySpellings_4 : decode cX1_laySpellings 4 = .ok (.aload_n 0, 1) := dk_42 (dk_at dksX1_laySpellings_0 4 rfl rfl)
theorem dX1_laySpellings_5 : decode cX1_laySpellings 5 = .ok (.getfield 199, 3) := dk_180 0 199 (dk_at dksX1_laySpellings_0 5 rfl rfl)
theorem dX1_laySpellings_8 : decode cX1_laySpellings 8 = .ok (.iconst 1, 1) := dk_4 (dk_at dksX1_laySpellings_0 8 rfl rfl)
theorem dX1_laySpellings_9 : decode cX1_laySpellings 9 = .ok (.iastore, 1) := dk_79 (dk_at dksX1_laySpellings_0 9 rfl rfl)
theorem dX1_laySpellings_10 : decode cX1_laySpellings 10 = .ok (.aload_n 0, 1) := dk_42 (dk_at dksX1_laySpellings_0 10 rfl rfl)
theorem dX1_laySpellings_11 : decode cX1_laySpellings 11 = .ok (.getfield 49, 3) := dk_180 0 49 (dk_at dksX1_laySpellings_0 11 rfl rfl)
theorem dX1_laySpellings_14 : decode cX1_laySpellings 14 = .ok (.aload_n 0, 1) := dk_42 (dk_at dksX1_laySpellings_0 14 rfl rfl)
theorem dX1_laySpellings_15 : decode cX1_laySpellings 15 = .ok (.getfield 199, 3) := dk_180 0 199 (dk_at dksX1_laySpellings_0 15 rfl rfl)
theorem dX1_laySpellings_18 : decode cX1_laySpellings 18 = .ok (.iconst 0, 1) := dk_3 (dk_at dksX1_laySpellings_0 18 rfl rfl)
theorem dX1_laySpellings_19 : decode cX1_laySpellings 19 = .ok (.iastore, 1) := dk_79 (dk_at dksX1_laySpellings_0 19 rfl rfl)
theorem dX1_laySpellings_20 : decode cX1_laySpellings 20 = .ok (.aload_n 0, 1) := dk_42 (dk_at dksX1_laySpellings_0 20 rfl rfl)
theorem dX1_laySpellings_21 : decode cX1_laySpellings 21 = .ok (.getfield 52, 3) := dk_180 0 52 (dk_at dksX1_laySpellings_0 21 rfl rfl)
theorem dX1_laySpellings_24 : decode cX1_laySpellings 24 = .ok (.aload_n 0, 1) := dk_42 (dk_at dksX1_laySpellings_1 0 rfl rfl)
theorem dX1_laySpellings_25 : decode cX1_laySpellings 25 = .ok (.getfield 199, 3) := dk_180 0 199 (dk_at dksX1_laySpellings_1 1 rfl rfl)
theorem dX1_laySpellings_28 : decode cX1_laySpellings 28 = .ok (.iconst 0, 1) := dk_3 (dk_at dksX1_laySpellings_1 4 rfl rfl)
theorem dX1_laySpellings_29 : decode cX1_laySpellings 29 = .ok (.iastore, 1) := dk_79 (dk_at dksX1_laySpellings_1 5 rfl rfl)
theorem dX1_laySpellings_30 : decode cX1_laySpellings 30 = .ok (.aload_n 0, 1) := dk_42 (dk_at dksX1_laySpellings_1 6 rfl rfl)
theorem dX1_laySpellings_31 : decode cX1_laySpellings 31 = .ok (.getfield 55, 3) := dk_180 0 55 (dk_at dksX1_laySpellings_1 7 rfl rfl)
theorem dX1_laySpellings_34 : decode cX1_laySpellings 34 = .ok (.aload_n 0, 1) := dk_42 (dk_at dksX1_laySpellings_1 10 rfl rfl)
theorem dX1_laySpellings_35 : decode cX1_laySpellings 35 = .ok (.getfield 199, 3) := dk_180 0 199 (dk_at dksX1_laySpellings_1 11 rfl rfl)
theorem dX1_laySpellings_38 : decode cX1_laySpellings 38 = .ok (.iconst 1, 1) := dk_4 (dk_at dksX1_laySpellings_1 14 rfl rfl)
theorem dX1_laySpellings_39 : decode cX1_laySpellings 39 = .ok (.iastore, 1) := dk_79 (dk_at dksX1_laySpellings_1 15 rfl rfl)
theorem dX1_laySpellings_40 : decode cX1_laySpellings 40 = .ok (.aload_n 0, 1) := dk_42 (dk_at dksX1_laySpellings_1 16 rfl rfl)
theorem dX1_laySpellings_41 : decode cX1_laySpellings 41 = .ok (.getfield 199, 3) := dk_180 0 199 (dk_at dksX1_laySpellings_1 17 rfl rfl)
theorem dX1_laySpellings_44 : decode cX1_laySpellings 44 = .ok (.iconst 1, 1) := dk_4 (dk_at dksX1_laySpellings_1 20 rfl rfl)
theorem dX1_laySpellings_45 : decode cX1_laySpellings 45 = .ok (.isub, 1) := dk_100 (dk_at dksX1_laySpellings_1 21 rfl rfl)
theorem dX1_laySpellings_46 : decode cX1_laySpellings 46 = .ok (.istore_n 1, 1) := dk_60 (dk_at dksX1_laySpellings_1 22 rfl rfl)
theorem dX1_laySpellings_47 : decode cX1_laySpellings 47 = .ok (.iload_n 1, 1) := dk_27 (dk_at dksX1_laySpellings_1 23 rfl rfl)
theorem dX1_laySpellings_48 : decode cX1_laySpellings 48 = .ok (.ifCond .lt 87, 3) := dk_155 0 87 (dk_at dksX1_laySpellings_2 0 rfl rfl)
theorem dX1_laySpellings_51 : decode cX1_laySpellings 51 = .ok (.aload_n 0, 1) := dk_42 (dk_at dksX1_laySpellings_2 3 rfl rfl)
theorem dX1_laySpellings_52 : decode cX1_laySpellings 52 = .ok (.getfield 46, 3) := dk_180 0 46 (dk_at dksX1_laySpellings_2 4 rfl rfl)
theorem dX1_laySpellings_55 : decode cX1_laySpellings 55 = .ok (.iload_n 1, 1) := dk_27 (dk_at dksX1_laySpellings_2 7 rfl rfl)
theorem dX1_laySpellings_56 : decode cX1_laySpellings 56 = .ok (.iconst 0, 1) := dk_3 (dk_at dksX1_laySpellings_2 8 rfl rfl)
theorem dX1_laySpellings_57 : decode cX1_laySpellings 57 = .ok (.iastore, 1) := dk_79 (dk_at dksX1_laySpellings_2 9 rfl rfl)
theorem dX1_laySpellings_58 : decode cX1_laySpellings 58 = .ok (.aload_n 0, 1) := dk_42 (dk_at dksX1_laySpellings_2 10 rfl rfl)
theorem dX1_laySpellings_59 : decode cX1_laySpellings 59 = .ok (.getfield 49, 3) := dk_180 0 49 (dk_at dksX1_laySpellings_2 11 rfl rfl)
theorem dX1_laySpellings_62 : decode cX1_laySpellings 62 = .ok (.iload_n 1, 1) := dk_27 (dk_at dksX1_laySpellings_2 14 rfl rfl)
theorem dX1_laySpellings_63 : decode cX1_laySpellings 63 = .ok (.ldc 158, 2) := dk_18 158 (dk_at dksX1_laySpellings_2 15 rfl rfl)
theorem dX1_laySpellings_65 : decode cX1_laySpellings 65 = .ok (.iastore, 1) := dk_79 (dk_at dksX1_laySpellings_2 17 rfl rfl)
theorem dX1_laySpellings_66 : decode cX1_laySpellings 66 = .ok (.aload_n 0, 1) := dk_42 (dk_at dksX1_laySpellings_2 18 rfl rfl)
theorem dX1_laySpellings_67 : decode cX1_laySpellings 67 = .ok (.getfield 52, 3) := dk_180 0 52 (dk_at dksX1_laySpellings_2 19 rfl rfl)
theorem dX1_laySpellings_70 : decode cX1_laySpellings 70 = .ok (.iload_n 1, 1) := dk_27 (dk_at dksX1_laySpellings_2 22 rfl rfl)
theorem dX1_laySpellings_71 : decode cX1_laySpellings 71 = .ok (.ldc 158, 2) := dk_18 158 (dk_at dksX1_laySpellings_3 0 rfl rfl)
theorem dX1_laySpellings_73 : decode cX1_laySpellings 73 = .ok (.iastore, 1) := dk_79 (dk_at dksX1_laySpellings_3 2 rfl rfl)
theorem dX1_laySpellings_74 : decode cX1_laySpellings 74 = .ok (.aload_n 0, 1) := dk_42 (dk_at dksX1_laySpellings_3 3 rfl rfl)
theorem dX1_laySpellings_75 : decode cX1_laySpellings 75 = .ok (.getfield 55, 3) := dk_180 0 55 (dk_at dksX1_laySpellings_3 4 rfl rfl)
theorem dX1_laySpellings_78 : decode cX1_laySpellings 78 = .ok (.iload_n 1, 1) := dk_27 (dk_at dksX1_laySpellings_3 7 rfl rfl)
theorem dX1_laySpellings_79 : decode cX1_laySpellings 79 = .ok (.iconst 0, 1) := dk_3 (dk_at dksX1_laySpellings_3 8 rfl rfl)
theorem dX1_laySpellings_80 : decode cX1_laySpellings 80 = .ok (.iastore, 1) := dk_79 (dk_at dksX1_laySpellings_3 9 rfl rfl)
theorem dX1_laySpellings_81 : decode cX1_laySpellings 81 = .ok (.aload_n 0, 1) := dk_42 (dk_at dksX1_laySpellings_3 10 rfl rfl)
theorem dX1_laySpellings_82 : decode cX1_laySpellings 82 = .ok (.iload_n 1, 1) := dk_27 (dk_at dksX1_laySpellings_3 11 rfl rfl)
theorem dX1_laySpellings_83 : decode cX1_laySpellings 83 = .ok (.iload_n 1, 1) := dk_27 (dk_at dksX1_laySpellings_3 12 rfl rfl)
theorem dX1_laySpellings_84 : decode cX1_laySpellings 84 = .ok (.iconst 1, 1) := dk_4 (dk_at dksX1_laySpellings_3 13 rfl rfl)
theorem dX1_laySpellings_85 : decode cX1_laySpellings 85 = .ok (.iadd, 1) := dk_96 (dk_at dksX1_laySpellings_3 14 rfl rfl)
theorem dX1_laySpellings_86 : decode cX1_laySpellings 86 = .ok (.iconst 1, 1) := dk_4 (dk_at dksX1_laySpellings_3 15 rfl rfl)
theorem dX1_laySpellings_87 : decode cX1_laySpellings 87 = .ok (.invokevirtual 209, 3) := dk_182 0 209 (dk_at dksX1_laySpellings_3 16 rfl rfl)
theorem dX1_laySpellings_90 : decode cX1_laySpellings 90 = .ok (.iconst 0, 1) := dk_3 (dk_at dksX1_laySpellings_3 19 rfl rfl)
theorem dX1_laySpellings_91 : decode cX1_laySpellings 91 = .ok (.istore_n 2, 1) := dk_61 (dk_at dksX1_laySpellings_3 20 rfl rfl)
theorem dX1_laySpellings_92 : decode cX1_laySpellings 92 = .ok (.iload_n 2, 1) := dk_28 (dk_at dksX1_laySpellings_3 21 rfl rfl)
theorem dX1_laySpellings_93 : decode cX1_laySpellings 93 = .ok (.aload_n 0, 1) := dk_42 (dk_at dksX1_laySpellings_3 22 rfl rfl)
theorem dX1_laySpellings_94 : decode cX1_laySpellings 94 = .ok (.getfield 109, 3) := dk_180 0 109 (dk_at dksX1_laySpellings_4 0 rfl rfl)
theorem dX1_laySpellings_97 : decode cX1_laySpellings 97 = .ok (.if_icmp .ge 32, 3) := dk_162 0 32 (dk_at dksX1_laySpellings_4 3 rfl rfl)
theorem dX1_laySpellings_100 : decode cX1_laySpellings 100 = .ok (.aload_n 0, 1) := dk_42 (dk_at dksX1_laySpellings_4 6 rfl rfl)
theorem dX1_laySpellings_101 : decode cX1_laySpellings 101 = .ok (.iload_n 2, 1) := dk_28 (dk_at dksX1_laySpellings_4 7 rfl rfl)
theorem dX1_laySpellings_102 : decode cX1_laySpellings 102 = .ok (.iload_n 1, 1) := dk_27 (dk_at dksX1_laySpellings_4 8 rfl rfl)
theorem dX1_laySpellings_103 : decode cX1_laySpellings 103 = .ok (.invokevirtual 213, 3) := dk_182 0 213 (dk_at dksX1_laySpellings_4 9 rfl rfl)
theorem dX1_laySpellings_106 : decode cX1_laySpellings 106 = .ok (.ifCond .eq 17, 3) := dk_153 0 17 (dk_at dksX1_laySpellings_4 12 rfl rfl)
theorem dX1_laySpellings_109 : decode cX1_laySpellings 109 = .ok (.aload_n 0, 1) := dk_42 (dk_at dksX1_laySpellings_4 15 rfl rfl)
theorem dX1_laySpellings_110 : decode cX1_laySpellings 110 = .ok (.iload_n 1, 1) := dk_27 (dk_at dksX1_laySpellings_4 16 rfl rfl)
theorem dX1_laySpellings_111 : decode cX1_laySpellings 111 = .ok (.iload_n 1, 1) := dk_27 (dk_at dksX1_laySpellings_4 17 rfl rfl)
theorem dX1_laySpellings_112 : decode cX1_laySpellings 112 = .ok (.aload_n 0, 1) := dk_42 (dk_at dksX1_laySpellings_4 18 rfl rfl)
theorem dX1_laySpellings_113 : decode cX1_laySpellings 113 = .ok (.getfield 13, 3) := dk_180 0 13 (dk_at dksX1_laySpellings_4 19 rfl rfl)
theorem dX1_laySpellings_116 : decode cX1_laySpellings 116 = .ok (.iload_n 2, 1) := dk_28 (dk_at dksX1_laySpellings_4 22 rfl rfl)
theorem dX1_laySpellings_117 : decode cX1_laySpellings 117 = .ok (.iaload, 1) := dk_46 (dk_at dksX1_laySpellings_4 23 rfl rfl)
theorem dX1_laySpellings_118 : decode cX1_laySpellings 118 = .ok (.iadd, 1) := dk_96 (dk_at dksX1_laySpellings_5 0 rfl rfl)
theorem dX1_laySpellings_119 : decode cX1_laySpellings 119 = .ok (.iconst 0, 1) := dk_3 (dk_at dksX1_laySpellings_5 1 rfl rfl)
theorem dX1_laySpellings_120 : decode cX1_laySpellings 120 = .ok (.invokevirtual 209, 3) := dk_182 0 209 (dk_at dksX1_laySpellings_5 2 rfl rfl)
theorem dX1_laySpellings_123 : decode cX1_laySpellings 123 = .ok (.iinc 2 1, 3) := dk_132 2 1 (dk_at dksX1_laySpellings_5 5 rfl rfl)
theorem dX1_laySpellings_126 : decode cX1_laySpellings 126 = .ok (.goto (-34), 3) := dk_167 255 222 (dk_at dksX1_laySpellings_5 8 rfl rfl)
theorem dX1_laySpellings_129 : decode cX1_laySpellings 129 = .ok (.iinc 1 (-1), 3) := dk_132 1 255 (dk_at dksX1_laySpellings_5 11 rfl rfl)
theorem dX1_laySpellings_132 : decode cX1_laySpellings 132 = .ok (.goto (-85), 3) := dk_167 255 171 (dk_at dksX1_laySpellings_5 14 rfl rfl)
theorem dX1_laySpellings_135 : decode cX1_laySpellings 135 = .ok (.return_, 1) := dk_177 (dk_at dksX1_laySpellings_5 17 rfl rfl)
abbrev cX1_takesPiece : ByteArray := prog_7_method_52_code
def yX1_takesPiece : MethodName := ⟨RX1, "takesPiece", "(III)V"⟩
def dkwX1_takesPiece_6 : List UInt8 := [177]
abbrev dktX1_takesPiece_6 : List UInt8 := dkwX1_takesPiece_6 ++ []
def dkwX1_takesPiece_5 : List UInt8 := [46, 79, 42, 180, 0, 55, 27, 42, 180, 0, 55, 27, 46, 42, 180, 0, 55, 28, 46, 96, 18, 208, 112, 79]
abbrev dktX1_takesPiece_5 : List UInt8 := dkwX1_takesPiece_5 ++ dktX1_takesPiece_6
def dkwX1_takesPiece_4 : List UInt8 := [180, 0, 52, 27, 46, 162, 0, 14, 42, 180, 0, 52, 28, 46, 4, 96, 167, 0, 9, 42, 180, 0, 52, 27]
abbrev dktX1_takesPiece_4 : List UInt8 := dkwX1_takesPiece_4 ++ dktX1_takesPiece_5
def dkwX1_takesPiece_3 : List UInt8 := [180, 0, 49, 27, 46, 160, 0, 65, 42, 180, 0, 52, 27, 42, 180, 0, 52, 28, 46, 4, 96, 42]
abbrev dktX1_takesPiece_3 : List UInt8 := dkwX1_takesPiece_3 ++ dktX1_takesPiece_4
def dkwX1_takesPiece_2 : List UInt8 := [27, 21, 4, 79, 42, 180, 0, 52, 27, 18, 158, 79, 42, 180, 0, 55, 27, 3, 79, 21, 4, 42]
abbrev dktX1_takesPiece_2 : List UInt8 := dkwX1_takesPiece_2 ++ dktX1_takesPiece_3
def dkwX1_takesPiece_1 : List UInt8 := [180, 0, 49, 28, 46, 29, 96, 54, 4, 21, 4, 42, 180, 0, 49, 27, 46, 162, 0, 26, 42, 180, 0, 49]
abbrev dktX1_takesPiece_1 : List UInt8 := dkwX1_takesPiece_1 ++ dktX1_takesPiece_2
def dkwX1_takesPiece_0 : List UInt8 := [42, 180, 0, 46, 27, 42, 180, 0, 46, 27, 46, 42, 180, 0, 46, 28, 46, 96, 18, 208, 112, 79, 42]
abbrev dktX1_takesPiece_0 : List UInt8 := dkwX1_takesPiece_0 ++ dktX1_takesPiece_1
theorem dksX1_takesPiece_0 : cX1_takesPiece.data.toList.drop 0 = dktX1_takesPiece_0 := by decide +kernel
theorem dksX1_takesPiece_1 : cX1_takesPiece.data.toList.drop 23 = dktX1_takesPiece_1 := dk_seg dksX1_takesPiece_0 23 rfl rfl
theorem dksX1_takesPiece_2 : cX1_takesPiece.data.toList.drop 47 = dktX1_takesPiece_2 := dk_seg dksX1_takesPiece_1 24 rfl rfl
theorem dksX1_takesPiece_3 : cX1_takesPiece.data.toList.drop 69 = dktX1_takesPiece_3 := dk_seg dksX1_takesPiece_2 22 rfl rfl
theorem dksX1_takesPiece_4 : cX1_takesPiece.data.toList.drop 91 = dktX1_takesPiece_4 := dk_seg dksX1_takesPiece_3 22 rfl rfl
theorem dksX1_takesPiece_5 : cX1_takesPiece.data.toList.drop 115 = dktX1_takesPiece_5 := dk_seg dksX1_takesPiece_4 24 rfl rfl
theorem dksX1_takesPiece_6 : cX1_takesPiece.data.toList.drop 139 = dktX1_takesPiece_6 := dk_seg dksX1_takesPiece_5 24 rfl rfl
theorem dX1_takesPiece_0 : decode cX1_takesPiece 0 = .ok (.aload_n 0, 1) := dk_42 (dk_at dksX1_takesPiece_0 0 rfl rfl)
theorem dX1_takesPiece_1 : decode cX1_takesPiece 1 = .ok (.getfield 46, 3) := dk_180 0 46 (dk_at dksX1_takesPiece_0 1 rfl rfl)
theorem dX1_takesPiece_4 : decode cX1_takesPiece 4 = .ok (.iload_n 1, 1) := dk_27 (dk_at dksX1_takesPiece_0 4 rfl rfl)
theorem dX1_takesPiece_5 : decode cX1_takesPiece 5 = .ok (.aload_n 0, 1) := dk_42 (dk_at dksX1_takesPiece_0 5 rfl rfl)
theorem dX1_takesPiece_6 : decode cX1_takesPiece 6 = .ok (.getfield 46, 3) := dk_180 0 46 (dk_at dksX1_takesPiece_0 6 rfl rfl)
theorem dX1_takesPiece_9 : decode cX1_takesPiece 9 = .ok (.iload_n 1, 1) := dk_27 (dk_at dksX1_takesPiece_0 9 rfl rfl)
theorem dX1_takesPiece_10 : decode cX1_takesPiece 10 = .ok (.iaload, 1) := dk_46 (dk_at dksX1_takesPiece_0 10 rfl rfl)
theorem dX1_takesPiece_11 : decode cX1_takesPiece 11 = .ok (.aload_n 0, 1) := dk_42 (dk_at dksX1_takesPiece_0 11 rfl rfl)
theorem dX1_takesPiece_12 : decode cX1_takesPiece 12 = .ok (.getfield 46, 3) := dk_180 0 46 (dk_at dksX1_takesPiece_0 12 rfl rfl)
theorem dX1_takesPiece_15 : decode cX1_takesPiece 15 = .ok (.iload_n 2, 1) := dk_28 (dk_at dksX1_takesPiece_0 15 rfl rfl)
theorem dX1_takesPiece_16 : decode cX1_takesPiece 16 = .ok (.iaload, 1) := dk_46 (dk_at dksX1_takesPiece_0 16 rfl rfl)
theorem dX1_takesPiece_17 : decode cX1_takesPiece 17 = .ok (.iadd, 1) := dk_96 (dk_at dksX1_takesPiece_0 17 rfl rfl)
theorem dX1_takesPiece_18 : decode cX1_takesPiece 18 = .ok (.ldc 208, 2) := dk_18 208 (dk_at dksX1_takesPiece_0 18 rfl rfl)
theorem dX1_takesPiece_20 : decode cX1_takesPiece 20 = .ok (.irem, 1) := dk_112 (dk_at dksX1_takesPiece_0 20 rfl rfl)
theorem dX1_takesPiece_21 : decode cX1_takesPiece 21 = .ok (.iastore, 1) := dk_79 (dk_at dksX1_takesPiece_0 21 rfl rfl)
theorem dX1_takesPiece_22 : decode cX1_takesPiece 22 = .ok (.aload_n 0, 1) := dk_42 (dk_at dksX1_takesPiece_0 22 rfl rfl)
theorem dX1_takesPiece_23 : decode cX1_takesPiece 23 = .ok (.getfield 49, 3) := dk_180 0 49 (dk_at dksX1_takesPiece_1 0 rfl rfl)
theorem dX1_takesPiece_26 : decode cX1_takesPiece 26 = .ok (.iload_n 2, 1) := dk_28 (dk_at dksX1_takesPiece_1 3 rfl rfl)
theorem dX1_takesPiece_27 : decode cX1_takesPiece 27 = .ok (.iaload, 1) := dk_46 (dk_at dksX1_takesPiece_1 4 rfl rfl)
theorem dX1_takesPiece_28 : decode cX1_takesPiece 28 = .ok (.iload_n 3, 1) := dk_29 (dk_at dksX1_takesPiece_1 5 rfl rfl)
theorem dX1_takesPiece_29 : decode cX1_takesPiece 29 = .ok (.iadd, 1) := dk_96 (dk_at dksX1_takesPiece_1 6 rfl rfl)
theorem dX1_takesPiece_30 : decode cX1_takesPiece 30 = .ok (.istore 4, 2) := dk_54 4 (dk_at dksX1_takesPiece_1 7 rfl rfl)
theorem dX1_takesPiece_32 : decode cX1_takesPiece 32 = .ok (.iload 4, 2) := dk_21 4 (dk_at dksX1_takesPiece_1 9 rfl rfl)
theorem dX1_takesPiece_34 : decode cX1_takesPiece 34 = .ok (.aload_n 0, 1) := dk_42 (dk_at dksX1_takesPiece_1 11 rfl rfl)
theorem dX1_takesPiece_35 : decode cX1_takesPiece 35 = .ok (.getfield 49, 3) := dk_180 0 49 (dk_at dksX1_takesPiece_1 12 rfl rfl)
theorem dX1_takesPiece_38 : decode cX1_takesPiece 38 = .ok (.iload_n 1, 1) := dk_27 (dk_at dksX1_takesPiece_1 15 rfl rfl)
theorem dX1_takesPiece_39 : decode cX1_takesPiece 39 = .ok (.iaload, 1) := dk_46 (dk_at dksX1_takesPiece_1 16 rfl rfl)
theorem dX1_takesPiece_40 : decode cX1_takesPiece 40 = .ok (.if_icmp .ge 26, 3) := dk_162 0 26 (dk_at dksX1_takesPiece_1 17 rfl rfl)
theorem dX1_takesPiece_43 : decode cX1_takesPiece 43 = .ok (.aload_n 0, 1) := dk_42 (dk_at dksX1_takesPiece_1 20 rfl rfl)
theorem dX1_takesPiece_44 : decode cX1_takesPiece 44 = .ok (.getfield 49, 3) := dk_180 0 49 (dk_at dksX1_takesPiece_1 21 rfl rfl)
theorem dX1_takesPiece_47 : decode cX1_takesPiece 47 = .ok (.iload_n 1, 1) := dk_27 (dk_at dksX1_takesPiece_2 0 rfl rfl)
theorem dX1_takesPiece_48 : decode cX1_takesPiece 48 = .ok (.iload 4, 2) := dk_21 4 (dk_at dksX1_takesPiece_2 1 rfl rfl)
theorem dX1_takesPiece_50 : decode cX1_takesPiece 50 = .ok (.iastore, 1) := dk_79 (dk_at dksX1_takesPiece_2 3 rfl rfl)
theorem dX1_takesPiece_51 : decode cX1_takesPiece 51 = .ok (.aload_n 0, 1) := dk_42 (dk_at dksX1_takesPiece_2 4 rfl rfl)
theorem dX1_takesPiece_52 : decode cX1_takesPiece 52 = .ok (.getfield 52, 3) := dk_180 0 52 (dk_at dksX1_takesPiece_2 5 rfl rfl)
theorem dX1_takesPiece_55 : decode cX1_takesPiece 55 = .ok (.iload_n 1, 1) := dk_27 (dk_at dksX1_takesPiece_2 8 rfl rfl)
theorem dX1_takesPiece_56 : decode cX1_takesPiece 56 = .ok (.ldc 158, 2) := dk_18 158 (dk_at dksX1_takesPiece_2 9 rfl rfl)
theorem dX1_takesPiece_58 : decode cX1_takesPiece 58 = .ok (.iastore, 1) := dk_79 (dk_at dksX1_takesPiece_2 11 rfl rfl)
theorem dX1_takesPiece_59 : decode cX1_takesPiece 59 = .ok (.aload_n 0, 1) := dk_42 (dk_at dksX1_takesPiece_2 12 rfl rfl)
theorem dX1_takesPiece_60 : decode cX1_takesPiece 60 = .ok (.getfield 55, 3) := dk_180 0 55 (dk_at dksX1_takesPiece_2 13 rfl rfl)
theorem dX1_takesPiece_63 : decode cX1_takesPiece 63 = .ok (.iload_n 1, 1) := dk_27 (dk_at dksX1_takesPiece_2 16 rfl rfl)
theorem dX1_takesPiece_64 : decode cX1_takesPiece 64 = .ok (.iconst 0, 1) := dk_3 (dk_at dksX1_takesPiece_2 17 rfl rfl)
theorem dX1_takesPiece_65 : decode cX1_takesPiece 65 = .ok (.iastore, 1) := dk_79 (dk_at dksX1_takesPiece_2 18 rfl rfl)
theorem dX1_takesPiece_66 : decode cX1_takesPiece 66 = .ok (.iload 4, 2) := dk_21 4 (dk_at dksX1_takesPiece_2 19 rfl rfl)
theorem dX1_takesPiece_68 : decode cX1_takesPiece 68 = .ok (.aload_n 0, 1) := dk_42 (dk_at dksX1_takesPiece_2 21 rfl rfl)
theorem dX1_takesPiece_69 : decode cX1_takesPiece 69 = .ok (.getfield 49, 3) := dk_180 0 49 (dk_at dksX1_takesPiece_3 0 rfl rfl)
theorem dX1_takesPiece_72 : decode cX1_takesPiece 72 = .ok (.iload_n 1, 1) := dk_27 (dk_at dksX1_takesPiece_3 3 rfl rfl)
theorem dX1_takesPiece_73 : decode cX1_takesPiece 73 = .ok (.iaload, 1) := dk_46 (dk_at dksX1_takesPiece_3 4 rfl rfl)
theorem dX1_takesPiece_74 : decode cX1_takesPiece 74 = .ok (.if_icmp .ne 65, 3) := dk_160 0 65 (dk_at dksX1_takesPiece_3 5 rfl rfl)
theorem dX1_takesPiece_77 : decode cX1_takesPiece 77 = .ok (.aload_n 0, 1) := dk_42 (dk_at dksX1_takesPiece_3 8 rfl rfl)
theorem dX1_takesPiece_78 : decode cX1_takesPiece 78 = .ok (.getfield 52, 3) := dk_180 0 52 (dk_at dksX1_takesPiece_3 9 rfl rfl)
theorem dX1_takesPiece_81 : decode cX1_takesPiece 81 = .ok (.iload_n 1, 1) := dk_27 (dk_at dksX1_takesPiece_3 12 rfl rfl)
theorem dX1_takesPiece_82 : decode cX1_takesPiece 82 = .ok (.aload_n 0, 1) := dk_42 (dk_at dksX1_takesPiece_3 13 rfl rfl)
theorem dX1_takesPiece_83 : decode cX1_takesPiece 83 = .ok (.getfield 52, 3) := dk_180 0 52 (dk_at dksX1_takesPiece_3 14 rfl rfl)
theorem dX1_takesPiece_86 : decode cX1_takesPiece 86 = .ok (.iload_n 2, 1) := dk_28 (dk_at dksX1_takesPiece_3 17 rfl rfl)
theorem dX1_takesPiece_87 : decode cX1_takesPiece 87 = .ok (.iaload, 1) := dk_46 (dk_at dksX1_takesPiece_3 18 rfl rfl)
theorem dX1_takesPiece_88 : decode cX1_takesPiece 88 = .ok (.iconst 1, 1) := dk_4 (dk_at dksX1_takesPiece_3 19 rfl rfl)
theorem dX1_takesPiece_89 : decode cX1_takesPiece 89 = .ok (.iadd, 1) := dk_96 (dk_at dksX1_takesPiece_3 20 rfl rfl)
theorem dX1_takesPiece_90 : decode cX1_takesPiece 90 = .ok (.aload_n 0, 1) := dk_42 (dk_at dksX1_takesPiece_3 21 rfl rfl)
theorem dX1_takesPiece_91 : decode cX1_takesPiece 91 = .ok (.getfield 52, 3) := dk_180 0 52 (dk_at dksX1_takesPiece_4 0 rfl rfl)
theorem dX1_takesPiece_94 : decode cX1_takesPiece 94 = .ok (.iload_n 1, 1) := dk_27 (dk_at dksX1_takesPiece_4 3 rfl rfl)
theorem dX1_takesPiece_95 : decode cX1_takesPiece 95 = .ok (.iaload, 1) := dk_46 (dk_at dksX1_takesPiece_4 4 rfl rfl)
theorem dX1_takesPiece_96 : decode cX1_takesPiece 96 = .ok (.if_icmp .ge 14, 3) := dk_162 0 14 (dk_at dksX1_takesPiece_4 5 rfl rfl)
theorem dX1_takesPiece_99 : decode cX1_takesPiece 99 = .ok (.aload_n 0, 1) := dk_42 (dk_at dksX1_takesPiece_4 8 rfl rfl)
theorem dX1_takesPiece_100 : decode cX1_takesPiece 100 = .ok (.getfield 52, 3) := dk_180 0 52 (dk_at dksX1_takesPiece_4 9 rfl rfl)
theorem dX1_takesPiece_103 : decode cX1_takesPiece 103 = .ok (.iload_n 2, 1) := dk_28 (dk_at dksX1_takesPiece_4 12 rfl rfl)
theorem dX1_takesPiece_104 : decode cX1_takesPiece 104 = .ok (.iaload, 1) := dk_46 (dk_at dksX1_takesPiece_4 13 rfl rfl)
theorem dX1_takesPiece_105 : decode cX1_takesPiece 105 = .ok (.iconst 1, 1) := dk_4 (dk_at dksX1_takesPiece_4 14 rfl rfl)
theorem dX1_takesPiece_106 : decode cX1_takesPiece 106 = .ok (.iadd, 1) := dk_96 (dk_at dksX1_takesPiece_4 15 rfl rfl)
theorem dX1_takesPiece_107 : decode cX1_takesPiece 107 = .ok (.goto 9, 3) := dk_167 0 9 (dk_at dksX1_takesPiece_4 16 rfl rfl)
theorem dX1_takesPiece_110 : decode cX1_takesPiece 110 = .ok (.aload_n 0, 1) := dk_42 (dk_at dksX1_takesPiece_4 19 rfl rfl)
theorem dX1_takesPiece_111 : decode cX1_takesPiece 111 = .ok (.getfield 52, 3) := dk_180 0 52 (dk_at dksX1_takesPiece_4 20 rfl rfl)
theorem dX1_takesPiece_114 : decode cX1_takesPiece 114 = .ok (.iload_n 1, 1) := dk_27 (dk_at dksX1_takesPiece_4 23 rfl rfl)
theorem dX1_takesPiece_115 : decode cX1_takesPiece 115 = .ok (.iaload, 1) := dk_46 (dk_at dksX1_takesPiece_5 0 rfl rfl)
theorem dX1_takesPiece_116 : decode cX1_takesPiece 116 = .ok (.iastore, 1) := dk_79 (dk_at dksX1_takesPiece_5 1 rfl rfl)
theorem dX1_takesPiece_117 : decode cX1_takesPiece 117 = .ok (.aload_n 0, 1) := dk_42 (dk_at dksX1_takesPiece_5 2 rfl rfl)
theorem dX1_takesPiece_118 : decode cX1_takesPiece 118 = .ok (.getfield 55, 3) := dk_180 0 55 (dk_at dksX1_takesPiece_5 3 rfl rfl)
theorem dX1_takesPiece_121 : decode cX1_takesPiece 121 = .ok (.iload_n 1, 1) := dk_27 (dk_at dksX1_takesPiece_5 6 rfl rfl)
theorem dX1_takesPiece_122 : decode cX1_takesPiece 122 = .ok (.aload_n 0, 1) := dk_42 (dk_at dksX1_takesPiece_5 7 rfl rfl)
theorem dX1_takesPiece_123 : decode cX1_takesPiece 123 = .ok (.getfield 55, 3) := dk_180 0 55 (dk_at dksX1_takesPiece_5 8 rfl rfl)
theorem dX1_takesPiece_126 : decode cX1_takesPiece 126 = .ok (.iload_n 1, 1) := dk_27 (dk_at dksX1_takesPiece_5 11 rfl rfl)
theorem dX1_takesPiece_127 : decode cX1_takesPiece 127 = .ok (.iaload, 1) := dk_46 (dk_at dksX1_takesPiece_5 12 rfl rfl)
theorem dX1_takesPiece_128 : decode cX1_takesPiece 128 = .ok (.aload_n 0, 1) := dk_42 (dk_at dksX1_takesPiece_5 13 rfl rfl)
theorem dX1_takesPiece_129 : decode cX1_takesPiece 129 = .ok (.getfield 55, 3) := dk_180 0 55 (dk_at dksX1_takesPiece_5 14 rfl rfl)
theorem dX1_takesPiece_132 : decode cX1_takesPiece 132 = .ok (.iload_n 2, 1) := dk_28 (dk_at dksX1_takesPiece_5 17 rfl rfl)
theorem dX1_takesPiece_133 : decode cX1_takesPiece 133 = .ok (.iaload, 1) := dk_46 (dk_at dksX1_takesPiece_5 18 rfl rfl)
theorem dX1_takesPiece_134 : decode cX1_takesPiece 134 = .ok (.iadd, 1) := dk_96 (dk_at dksX1_takesPiece_5 19 rfl rfl)
theorem dX1_takesPiece_135 : decode cX1_takesPiece 135 = .ok (.ldc 208, 2) := dk_18 208 (dk_at dksX1_takesPiece_5 20 rfl rfl)
theorem dX1_takesPiece_137 : decode cX1_takesPiece 137 = .ok (.irem, 1) := dk_112 (dk_at dksX1_takesPiece_5 22 rfl rfl)
theorem dX1_takesPiece_138 : decode cX1_takesPiece 138 = .ok (.iastore, 1) := dk_79 (dk_at dksX1_takesPiece_5 23 rfl rfl)
theorem dX1_takesPiece_139 : decode cX1_takesPiece 139 = .ok (.return_, 1) := dk_177 (dk_at dksX1_takesPiece_6 0 rfl rfl)
abbrev cX1_fitsAt : ByteArray := prog_7_method_51_code
def yX1_fitsAt : MethodName := ⟨RX1, "fitsAt", "(II)Z"⟩
def dkwX1_fitsAt_3 : List UInt8 := [172]
abbrev dktX1_fitsAt_3 : List UInt8 := dkwX1_fitsAt_3 ++ []
def dkwX1_fitsAt_2 : List UInt8 := [180, 0, 25, 28, 21, 4, 96, 46, 160, 0, 7, 4, 167, 0, 4, 3, 62, 132, 4, 1, 167, 255, 213, 29]
abbrev dktX1_fitsAt_2 : List UInt8 := dkwX1_fitsAt_2 ++ dktX1_fitsAt_3
def dkwX1_fitsAt_1 : List UInt8 := [21, 4, 42, 180, 0, 13, 27, 46, 162, 0, 38, 29, 153, 0, 34, 42, 27, 21, 4, 182, 0, 145, 42]
abbrev dktX1_fitsAt_1 : List UInt8 := dkwX1_fitsAt_1 ++ dktX1_fitsAt_2
def dkwX1_fitsAt_0 : List UInt8 := [28, 42, 180, 0, 13, 27, 46, 96, 42, 180, 0, 199, 163, 0, 7, 4, 167, 0, 4, 3, 62, 3, 54, 4]
abbrev dktX1_fitsAt_0 : List UInt8 := dkwX1_fitsAt_0 ++ dktX1_fitsAt_1
theorem dksX1_fitsAt_0 : cX1_fitsAt.data.toList.drop 0 = dktX1_fitsAt_0 := by decide +kernel
theorem dksX1_fitsAt_1 : cX1_fitsAt.data.toList.drop 24 = dktX1_fitsAt_1 := dk_seg dksX1_fitsAt_0 24 rfl rfl
theorem dksX1_fitsAt_2 : cX1_fitsAt.data.toList.drop 47 = dktX1_fitsAt_2 := dk_seg dksX1_fitsAt_1 23 rfl rfl
theorem dksX1_fitsAt_3 : cX1_fitsAt.data.toList.drop 71 = dktX1_fitsAt_3 := dk_seg dksX1_fitsAt_2 24 rfl rfl
theorem dX1_fitsAt_0 : decode cX1_fitsAt 0 = .ok (.iload_n 2, 1) := dk_28 (dk_at dksX1_fitsAt_0 0 rfl rfl)
theorem dX1_fitsAt_1 : decode cX1_fitsAt 1 = .ok (.aload_n 0, 1) := dk_42 (dk_at dksX1_fitsAt_0 1 rfl rfl)
theorem dX1_fitsAt_2 : decode cX1_fitsAt 2 = .ok (.getfield 13, 3) := dk_180 0 13 (dk_at dksX1_fitsAt_0 2 rfl rfl)
theorem dX1_fitsAt_5 : decode cX1_fitsAt 5 = .ok (.iload_n 1, 1) := dk_27 (dk_at dksX1_fitsAt_0 5 rfl rfl)
theorem dX1_fitsAt_6 : decode cX1_fitsAt 6 = .ok (.iaload, 1) := dk_46 (dk_at dksX1_fitsAt_0 6 rfl rfl)
theorem dX1_fitsAt_7 : decode cX1_fitsAt 7 = .ok (.iadd, 1) := dk_96 (dk_at dksX1_fitsAt_0 7 rfl rfl)
theorem dX1_fitsAt_8 : decode cX1_fitsAt 8 = .ok (.aload_n 0, 1) := dk_42 (dk_at dksX1_fitsAt_0 8 rfl rfl)
theorem dX1_fitsAt_9 : decode cX1_fitsAt 9 = .ok (.getfield 199, 3) := dk_180 0 199 (dk_at dksX1_fitsAt_0 9 rfl rfl)
theorem dX1_fitsAt_12 : decode cX1_fitsAt 12 = .ok (.if_icmp .gt 7, 3) := dk_163 0 7 (dk_at dksX1_fitsAt_0 12 rfl rfl)
theorem dX1_fitsAt_15 : decode cX1_fitsAt 15 = .ok (.iconst 1, 1) := dk_4 (dk_at dksX1_fitsAt_0 15 rfl rfl)
theorem dX1_fitsAt_16 : decode cX1_fitsAt 16 = .ok (.goto 4, 3) := dk_167 0 4 (dk_at dksX1_fitsAt_0 16 rfl rfl)
theorem dX1_fitsAt_19 : decode cX1_fitsAt 19 = .ok (.iconst 0, 1) := dk_3 (dk_at dksX1_fitsAt_0 19 rfl rfl)
theorem dX1_fitsAt_20 : decode cX1_fitsAt 20 = .ok (.istore_n 3, 1) := dk_62 (dk_at dksX1_fitsAt_0 20 rfl rfl)
theorem dX1_fitsAt_21 : decode cX1_fitsAt 21 = .ok (.iconst 0, 1) := dk_3 (dk_at dksX1_fitsAt_0 21 rfl rfl)
theorem dX1_fitsAt_22 : decode cX1_fitsAt 22 = .ok (.istore 4, 2) := dk_54 4 (dk_at dksX1_fitsAt_0 22 rfl rfl)
theorem dX1_fitsAt_24 : decode cX1_fitsAt 24 = .ok (.iload 4, 2) := dk_21 4 (dk_at dksX1_fitsAt_1 0 rfl rfl)
theorem dX1_fitsAt_26 : decode cX1_fitsAt 26 = .ok (.aload_n 0, 1) := dk_42 (dk_at dksX1_fitsAt_1 2 rfl rfl)
theorem dX1_fitsAt_27 : decode cX1_fitsAt 27 = .ok (.getfield 13, 3) := dk_180 0 13 (dk_at dksX1_fitsAt_1 3 rfl rfl)
theorem dX1_fitsAt_30 : decode cX1_fitsAt 30 = .ok (.iload_n 1, 1) := dk_27 (dk_at dksX1_fitsAt_1 6 rfl rfl)
theorem dX1_fitsAt_31 : decode cX1_fitsAt 31 = .ok (.iaload, 1) := dk_46 (dk_at dksX1_fitsAt_1 7 rfl rfl)
theorem dX1_fitsAt_32 : decode cX1_fitsAt 32 = .ok (.if_icmp .ge 38, 3) := dk_162 0 38 (dk_at dksX1_fitsAt_1 8 rfl rfl)
theorem dX1_fitsAt_35 : decode cX1_fitsAt 35 = .ok (.iload_n 3, 1) := dk_29 (dk_at dksX1_fitsAt_1 11 rfl rfl)
theorem dX1_fitsAt_36 : decode cX1_fitsAt 36 = .ok (.ifCond .eq 34, 3) := dk_153 0 34 (dk_at dksX1_fitsAt_1 12 rfl rfl)
theorem dX1_fitsAt_39 : decode cX1_fitsAt 39 = .ok (.aload_n 0, 1) := dk_42 (dk_at dksX1_fitsAt_1 15 rfl rfl)
theorem dX1_fitsAt_40 : decode cX1_fitsAt 40 = .ok (.iload_n 1, 1) := dk_27 (dk_at dksX1_fitsAt_1 16 rfl rfl)
theorem dX1_fitsAt_41 : decode cX1_fitsAt 41 = .ok (.iload 4, 2) := dk_21 4 (dk_at dksX1_fitsAt_1 17 rfl rfl)
theorem dX1_fitsAt_43 : decode cX1_fitsAt 43 = .ok (.invokevirtual 145, 3) := dk_182 0 145 (dk_at dksX1_fitsAt_1 19 rfl rfl)
theorem dX1_fitsAt_46 : decode cX1_fitsAt 46 = .ok (.aload_n 0, 1) := dk_42 (dk_at dksX1_fitsAt_1 22 rfl rfl)
theorem dX1_fitsAt_47 : decode cX1_fitsAt 47 = .ok (.getfield 25, 3) := dk_180 0 25 (dk_at dksX1_fitsAt_2 0 rfl rfl)
theorem dX1_fitsAt_50 : decode cX1_fitsAt 50 = .ok (.iload_n 2, 1) := dk_28 (dk_at dksX1_fitsAt_2 3 rfl rfl)
theorem dX1_fitsAt_51 : decode cX1_fitsAt 51 = .ok (.iload 4, 2) := dk_21 4 (dk_at dksX1_fitsAt_2 4 rfl rfl)
theorem dX1_fitsAt_53 : decode cX1_fitsAt 53 = .ok (.iadd, 1) := dk_96 (dk_at dksX1_fitsAt_2 6 rfl rfl)
theorem dX1_fitsAt_54 : decode cX1_fitsAt 54 = .ok (.iaload, 1) := dk_46 (dk_at dksX1_fitsAt_2 7 rfl rfl)
theorem dX1_fitsAt_55 : decode cX1_fitsAt 55 = .ok (.if_icmp .ne 7, 3) := dk_160 0 7 (dk_at dksX1_fitsAt_2 8 rfl rfl)
theorem dX1_fitsAt_58 : decode cX1_fitsAt 58 = .ok (.iconst 1, 1) := dk_4 (dk_at dksX1_fitsAt_2 11 rfl rfl)
theorem dX1_fitsAt_59 : decode cX1_fitsAt 59 = .ok (.goto 4, 3) := dk_167 0 4 (dk_at dksX1_fitsAt_2 12 rfl rfl)
theorem dX1_fitsAt_62 : decode cX1_fitsAt 62 = .ok (.iconst 0, 1) := dk_3 (dk_at dksX1_fitsAt_2 15 rfl rfl)
theorem dX1_fitsAt_63 : decode cX1_fitsAt 63 = .ok (.istore_n 3, 1) := dk_62 (dk_at dksX1_fitsAt_2 16 rfl rfl)
theorem dX1_fitsAt_64 : decode cX1_fitsAt 64 = .ok (.iinc 4 1, 3) := dk_132 4 1 (dk_at dksX1_fitsAt_2 17 rfl rfl)
theorem dX1_fitsAt_67 : decode cX1_fitsAt 67 = .ok (.goto (-43), 3) := dk_167 255 213 (dk_at dksX1_fitsAt_2 20 rfl rfl)
theorem dX1_fitsAt_70 : decode cX1_fitsAt 70 = .ok (.iload_n 3, 1) := dk_29 (dk_at dksX1_fitsAt_2 23 rfl rfl)
theorem dX1_fitsAt_71 : decode cX1_fitsAt 71 = .ok (.ireturn, 1) := dk_172 (dk_at dksX1_fitsAt_3 0 rfl rfl)
abbrev cX1_piece : ByteArray := prog_7_method_58_code
def yX1_piece : MethodName := ⟨RX1, "piece", "(I)I"⟩
def dkwX1_piece_0 : List UInt8 := [42, 27, 182, 0, 225, 172]
abbrev dktX1_piece_0 : List UInt8 := dkwX1_piece_0 ++ []
theorem dksX1_piece_0 : cX1_piece.data.toList.drop 0 = dktX1_piece_0 := by decide +kernel
theorem dX1_piece_0 : decode cX1_piece 0 = .ok (.aload_n 0, 1) := dk_42 (dk_at dksX1_piece_0 0 rfl rfl)
theorem dX1_piece_1 : decode cX1_piece 1 = .ok (.iload_n 1, 1) := dk_27 (dk_at dksX1_piece_0 1 rfl rfl)
theorem dX1_piece_2 : decode cX1_piece 2 = .ok (.invokevirtual 225, 3) := dk_182 0 225 (dk_at dksX1_piece_0 2 rfl rfl)
theorem dX1_piece_5 : decode cX1_piece 5 = .ok (.ireturn, 1) := dk_172 (dk_at dksX1_piece_0 5 rfl rfl)
abbrev cX1_pieceNow : ByteArray := prog_7_method_57_code
def yX1_pieceNow : MethodName := ⟨RX1, "pieceNow", "(I)I"⟩
def dkwX1_pieceNow_3 : List UInt8 := [167, 255, 192, 16, 155, 172]
abbrev dktX1_pieceNow_3 : List UInt8 := dkwX1_pieceNow_3 ++ []
def dkwX1_pieceNow_2 : List UInt8 := [172, 28, 21, 4, 2, 160, 0, 7, 4, 167, 0, 10, 42, 180, 0, 13, 21, 4, 46, 96, 61, 132, 3, 1]
abbrev dktX1_pieceNow_2 : List UInt8 := dkwX1_pieceNow_2 ++ dktX1_pieceNow_3
def dkwX1_pieceNow_1 : List UInt8 := [27, 160, 0, 24, 21, 4, 2, 160, 0, 15, 16, 254, 42, 180, 0, 25, 28, 46, 100, 167, 0, 5, 21, 4]
abbrev dktX1_pieceNow_1 : List UInt8 := dkwX1_pieceNow_1 ++ dktX1_pieceNow_2
def dkwX1_pieceNow_0 : List UInt8 := [42, 182, 0, 216, 3, 61, 3, 62, 28, 42, 180, 0, 199, 162, 0, 62, 42, 28, 182, 0, 222, 54, 4, 29]
abbrev dktX1_pieceNow_0 : List UInt8 := dkwX1_pieceNow_0 ++ dktX1_pieceNow_1
theorem dksX1_pieceNow_0 : cX1_pieceNow.data.toList.drop 0 = dktX1_pieceNow_0 := by decide +kernel
theorem dksX1_pieceNow_1 : cX1_pieceNow.data.toList.drop 24 = dktX1_pieceNow_1 := dk_seg dksX1_pieceNow_0 24 rfl rfl
theorem dksX1_pieceNow_2 : cX1_pieceNow.data.toList.drop 48 = dktX1_pieceNow_2 := dk_seg dksX1_pieceNow_1 24 rfl rfl
theorem dksX1_pieceNow_3 : cX1_pieceNow.data.toList.drop 72 = dktX1_pieceNow_3 := dk_seg dksX1_pieceNow_2 24 rfl rfl
theorem dX1_pieceNow_0 : decode cX1_pieceNow 0 = .ok (.aload_n 0, 1) := dk_42 (dk_at dksX1_pieceNow_0 0 rfl rfl)
theorem dX1_pieceNow_1 : decode cX1_pieceNow 1 = .ok (.invokevirtual 216, 3) := dk_182 0 216 (dk_at dksX1_pieceNow_0 1 rfl rfl)
theorem dX1_pieceNow_4 : decode cX1_pieceNow 4 = .ok (.iconst 0, 1) := dk_3 (dk_at dksX1_pieceNow_0 4 rfl rfl)
theorem dX1_pieceNow_5 : decode cX1_pieceNow 5 = .ok (.istore_n 2, 1) := dk_61 (dk_at dksX1_pieceNow_0 5 rfl rfl)
theorem dX1_pieceNow_6 : decode cX1_pieceNow 6 = .ok (.iconst 0, 1) := dk_3 (dk_at dksX1_pieceNow_0 6 rfl rfl)
theorem dX1_pieceNow_7 : decode cX1_pieceNow 7 = .ok (.istore_n 3, 1) := dk_62 (dk_at dksX1_pieceNow_0 7 rfl rfl)
theorem dX1_pieceNow_8 : decode cX1_pieceNow 8 = .ok (.iload_n 2, 1) := dk_28 (dk_at dksX1_pieceNow_0 8 rfl rfl)
theorem dX1_pieceNow_9 : decode cX1_pieceNow 9 = .ok (.aload_n 0, 1) := dk_42 (dk_at dksX1_pieceNow_0 9 rfl rfl)
theorem dX1_pieceNow_10 : decode cX1_pieceNow 10 = .ok (.getfield 199, 3) := dk_180 0 199 (dk_at dksX1_pieceNow_0 10 rfl rfl)
theorem dX1_pieceNow_13 : decode cX1_pieceNow 13 = .ok (.if_icmp .ge 62, 3) := dk_162 0 62 (dk_at dksX1_pieceNow_0 13 rfl rfl)
theorem dX1_pieceNow_16 : decode cX1_pieceNow 16 = .ok (.aload_n 0, 1) := dk_42 (dk_at dksX1_pieceNow_0 16 rfl rfl)
theorem dX1_pieceNow_17 : decode cX1_pieceNow 17 = .ok (.iload_n 2, 1) := dk_28 (dk_at dksX1_pieceNow_0 17 rfl rfl)
theorem dX1_pieceNow_18 : decode cX1_pieceNow 18 = .ok (.invokevirtual 222, 3) := dk_182 0 222 (dk_at dksX1_pieceNow_0 18 rfl rfl)
theorem dX1_pieceNow_21 : decode cX1_pieceNow 21 = .ok (.istore 4, 2) := dk_54 4 (dk_at dksX1_pieceNow_0 21 rfl rfl)
theorem dX1_pieceNow_23 : decode cX1_pieceNow 23 = .ok (.iload_n 3, 1) := dk_29 (dk_at dksX1_pieceNow_0 23 rfl rfl)
theorem dX1_pieceNow_24 : decode cX1_pieceNow 24 = .ok (.iload_n 1, 1) := dk_27 (dk_at dksX1_pieceNow_1 0 rfl rfl)
theorem dX1_pieceNow_25 : decode cX1_pieceNow 25 = .ok (.if_icmp .ne 24, 3) := dk_160 0 24 (dk_at dksX1_pieceNow_1 1 rfl rfl)
theorem dX1_pieceNow_28 : decode cX1_pieceNow 28 = .ok (.iload 4, 2) := dk_21 4 (dk_at dksX1_pieceNow_1 4 rfl rfl)
theorem dX1_pieceNow_30 : decode cX1_pieceNow 30 = .ok (.iconst (-1), 1) := dk_2 (dk_at dksX1_pieceNow_1 6 rfl rfl)
theorem dX1_pieceNow_31 : decode cX1_pieceNow 31 = .ok (.if_icmp .ne 15, 3) := dk_160 0 15 (dk_at dksX1_pieceNow_1 7 rfl rfl)
theorem dX1_pieceNow_34 : decode cX1_pieceNow 34 = .ok (.bipush (-2), 2) := dk_16 254 (dk_at dksX1_pieceNow_1 10 rfl rfl)
theorem dX1_pieceNow_36 : decode cX1_pieceNow 36 = .ok (.aload_n 0, 1) := dk_42 (dk_at dksX1_pieceNow_1 12 rfl rfl)
theorem dX1_pieceNow_37 : decode cX1_pieceNow 37 = .ok (.getfield 25, 3) := dk_180 0 25 (dk_at dksX1_pieceNow_1 13 rfl rfl)
theorem dX1_pieceNow_40 : decode cX1_pieceNow 40 = .ok (.iload_n 2, 1) := dk_28 (dk_at dksX1_pieceNow_1 16 rfl rfl)
theorem dX1_pieceNow_41 : decode cX1_pieceNow 41 = .ok (.iaload, 1) := dk_46 (dk_at dksX1_pieceNow_1 17 rfl rfl)
theorem dX1_pieceNow_42 : decode cX1_pieceNow 42 = .ok (.isub, 1) := dk_100 (dk_at dksX1_pieceNow_1 18 rfl rfl)
theorem dX1_pieceNow_43 : decode cX1_pieceNow 43 = .ok (.goto 5, 3) := dk_167 0 5 (dk_at dksX1_pieceNow_1 19 rfl rfl)
theorem dX1_pieceNow_46 : decode cX1_pieceNow 46 = .ok (.iload 4, 2) := dk_21 4 (dk_at dksX1_pieceNow_1 22 rfl rfl)
theorem dX1_pieceNow_48 : decode cX1_pieceNow 48 = .ok (.ireturn, 1) := dk_172 (dk_at dksX1_pieceNow_2 0 rfl rfl)
theorem dX1_pieceNow_49 : decode cX1_pieceNow 49 = .ok (.iload_n 2, 1) := dk_28 (dk_at dksX1_pieceNow_2 1 rfl rfl)
theorem dX1_pieceNow_50 : decode cX1_pieceNow 50 = .ok (.iload 4, 2) := dk_21 4 (dk_at dksX1_pieceNow_2 2 rfl rfl)
theorem dX1_pieceNow_52 : decode cX1_pieceNow 52 = .ok (.iconst (-1), 1) := dk_2 (dk_at dksX1_pieceNow_2 4 rfl rfl)
theorem dX1_pieceNow_53 : decode cX1_pieceNow 53 = .ok (.if_icmp .ne 7, 3) := dk_160 0 7 (dk_at dksX1_pieceNow_2 5 rfl rfl)
theorem dX1_pieceNow_56 : decode cX1_pieceNow 56 = .ok (.iconst 1, 1) := dk_4 (dk_at dksX1_pieceNow_2 8 rfl rfl)
theorem dX1_pieceNow_57 : decode cX1_pieceNow 57 = .ok (.goto 10, 3) := dk_167 0 10 (dk_at dksX1_pieceNow_2 9 rfl rfl)
theorem dX1_pieceNow_60 : decode cX1_pieceNow 60 = .ok (.aload_n 0, 1) := dk_42 (dk_at dksX1_pieceNow_2 12 rfl rfl)
theorem dX1_pieceNow_61 : decode cX1_pieceNow 61 = .ok (.getfield 13, 3) := dk_180 0 13 (dk_at dksX1_pieceNow_2 13 rfl rfl)
theorem dX1_pieceNow_64 : decode cX1_pieceNow 64 = .ok (.iload 4, 2) := dk_21 4 (dk_at dksX1_pieceNow_2 16 rfl rfl)
theorem dX1_pieceNow_66 : decode cX1_pieceNow 66 = .ok (.iaload, 1) := dk_46 (dk_at dksX1_pieceNow_2 18 rfl rfl)
theorem dX1_pieceNow_67 : decode cX1_pieceNow 67 = .ok (.iadd, 1) := dk_96 (dk_at dksX1_pieceNow_2 19 rfl rfl)
theorem dX1_pieceNow_68 : decode cX1_pieceNow 68 = .ok (.istore_n 2, 1) := dk_61 (dk_at dksX1_pieceNow_2 20 rfl rfl)
theorem dX1_pieceNow_69 : decode cX1_pieceNow 69 = .ok (.iinc 3 1, 3) := dk_132 3 1 (dk_at dksX1_pieceNow_2 21 rfl rfl)
theorem dX1_pieceNow_72 : decode cX1_pieceNow 72 = .ok (.goto (-64), 3) := dk_167 255 192 (dk_at dksX1_pieceNow_3 0 rfl rfl)
theorem dX1_pieceNow_75 : decode cX1_pieceNow 75 = .ok (.bipush (-101), 2) := dk_16 155 (dk_at dksX1_pieceNow_3 3 rfl rfl)
theorem dX1_pieceNow_77 : decode cX1_pieceNow 77 = .ok (.ireturn, 1) := dk_172 (dk_at dksX1_pieceNow_3 5 rfl rfl)
abbrev cX1_bestName : ByteArray := prog_7_method_56_code
def yX1_bestName : MethodName := ⟨RX1, "bestName", "(I)I"⟩
def dkwX1_bestName_3 : List UInt8 := [167, 255, 188, 2, 172]
abbrev dktX1_bestName_3 : List UInt8 := dkwX1_bestName_3 ++ []
def dkwX1_bestName_2 : List UInt8 := [180, 0, 13, 28, 46, 96, 46, 4, 96, 42, 180, 0, 52, 27, 46, 160, 0, 5, 28, 172, 132, 2, 1]
abbrev dktX1_bestName_2 : List UInt8 := dkwX1_bestName_2 ++ dktX1_bestName_3
def dkwX1_bestName_1 : List UInt8 := [42, 180, 0, 13, 28, 46, 96, 46, 42, 180, 0, 49, 27, 46, 160, 0, 29, 42, 180, 0, 52, 27, 42]
abbrev dktX1_bestName_1 : List UInt8 := dkwX1_bestName_1 ++ dktX1_bestName_2
def dkwX1_bestName_0 : List UInt8 := [3, 61, 28, 42, 180, 0, 109, 162, 0, 66, 42, 28, 27, 182, 0, 213, 153, 0, 51, 42, 180, 0, 49, 27]
abbrev dktX1_bestName_0 : List UInt8 := dkwX1_bestName_0 ++ dktX1_bestName_1
theorem dksX1_bestName_0 : cX1_bestName.data.toList.drop 0 = dktX1_bestName_0 := by decide +kernel
theorem dksX1_bestName_1 : cX1_bestName.data.toList.drop 24 = dktX1_bestName_1 := dk_seg dksX1_bestName_0 24 rfl rfl
theorem dksX1_bestName_2 : cX1_bestName.data.toList.drop 47 = dktX1_bestName_2 := dk_seg dksX1_bestName_1 23 rfl rfl
theorem dksX1_bestName_3 : cX1_bestName.data.toList.drop 70 = dktX1_bestName_3 := dk_seg dksX1_bestName_2 23 rfl rfl
theorem dX1_bestName_0 : decode cX1_bestName 0 = .ok (.iconst 0, 1) := dk_3 (dk_at dksX1_bestName_0 0 rfl rfl)
theorem dX1_bestName_1 : decode cX1_bestName 1 = .ok (.istore_n 2, 1) := dk_61 (dk_at dksX1_bestName_0 1 rfl rfl)
theorem dX1_bestName_2 : decode cX1_bestName 2 = .ok (.iload_n 2, 1) := dk_28 (dk_at dksX1_bestName_0 2 rfl rfl)
theorem dX1_bestName_3 : decode cX1_bestName 3 = .ok (.aload_n 0, 1) := dk_42 (dk_at dksX1_bestName_0 3 rfl rfl)
theorem dX1_bestName_4 : decode cX1_bestName 4 = .ok (.getfield 109, 3) := dk_180 0 109 (dk_at dksX1_bestName_0 4 rfl rfl)
theorem dX1_bestName_7 : decode cX1_bestName 7 = .ok (.if_icmp .ge 66, 3) := dk_162 0 66 (dk_at dksX1_bestName_0 7 rfl rfl)
theorem dX1_bestName_10 : decode cX1_bestName 10 = .ok (.aload_n 0, 1) := dk_42 (dk_at dksX1_bestName_0 10 rfl rfl)
theorem dX1_bestName_11 : decode cX1_bestName 11 = .ok (.iload_n 2, 1) := dk_28 (dk_at dksX1_bestName_0 11 rfl rfl)
theorem dX1_bestName_12 : decode cX1_bestName 12 = .ok (.iload_n 1, 1) := dk_27 (dk_at dksX1_bestName_0 12 rfl rfl)
theorem dX1_bestName_13 : decode cX1_bestName 13 = .ok (.invokevirtual 213, 3) := dk_182 0 213 (dk_at dksX1_bestName_0 13 rfl rfl)
theorem dX1_bestName_16 : decode cX1_bestName 16 = .ok (.ifCond .eq 51, 3) := dk_153 0 51 (dk_at dksX1_bestName_0 16 rfl rfl)
theorem dX1_bestName_19 : decode cX1_bestName 19 = .ok (.aload_n 0, 1) := dk_42 (dk_at dksX1_bestName_0 19 rfl rfl)
theorem dX1_bestName_20 : decode cX1_bestName 20 = .ok (.getfield 49, 3) := dk_180 0 49 (dk_at dksX1_bestName_0 20 rfl rfl)
theorem dX1_bestName_23 : decode cX1_bestName 23 = .ok (.iload_n 1, 1) := dk_27 (dk_at dksX1_bestName_0 23 rfl rfl)
theorem dX1_bestName_24 : decode cX1_bestName 24 = .ok (.aload_n 0, 1) := dk_42 (dk_at dksX1_bestName_1 0 rfl rfl)
theorem dX1_bestName_25 : decode cX1_bestName 25 = .ok (.getfield 13, 3) := dk_180 0 13 (dk_at dksX1_bestName_1 1 rfl rfl)
theorem dX1_bestName_28 : decode cX1_bestName 28 = .ok (.iload_n 2, 1) := dk_28 (dk_at dksX1_bestName_1 4 rfl rfl)
theorem dX1_bestName_29 : decode cX1_bestName 29 = .ok (.iaload, 1) := dk_46 (dk_at dksX1_bestName_1 5 rfl rfl)
theorem dX1_bestName_30 : decode cX1_bestName 30 = .ok (.iadd, 1) := dk_96 (dk_at dksX1_bestName_1 6 rfl rfl)
theorem dX1_bestName_31 : decode cX1_bestName 31 = .ok (.iaload, 1) := dk_46 (dk_at dksX1_bestName_1 7 rfl rfl)
theorem dX1_bestName_32 : decode cX1_bestName 32 = .ok (.aload_n 0, 1) := dk_42 (dk_at dksX1_bestName_1 8 rfl rfl)
theorem dX1_bestName_33 : decode cX1_bestName 33 = .ok (.getfield 49, 3) := dk_180 0 49 (dk_at dksX1_bestName_1 9 rfl rfl)
theorem dX1_bestName_36 : decode cX1_bestName 36 = .ok (.iload_n 1, 1) := dk_27 (dk_at dksX1_bestName_1 12 rfl rfl)
theorem dX1_bestName_37 : decode cX1_bestName 37 = .ok (.iaload, 1) := dk_46 (dk_at dksX1_bestName_1 13 rfl rfl)
theorem dX1_bestName_38 : decode cX1_bestName 38 = .ok (.if_icmp .ne 29, 3) := dk_160 0 29 (dk_at dksX1_bestName_1 14 rfl rfl)
theorem dX1_bestName_41 : decode cX1_bestName 41 = .ok (.aload_n 0, 1) := dk_42 (dk_at dksX1_bestName_1 17 rfl rfl)
theorem dX1_bestName_42 : decode cX1_bestName 42 = .ok (.getfield 52, 3) := dk_180 0 52 (dk_at dksX1_bestName_1 18 rfl rfl)
theorem dX1_bestName_45 : decode cX1_bestName 45 = .ok (.iload_n 1, 1) := dk_27 (dk_at dksX1_bestName_1 21 rfl rfl)
theorem dX1_bestName_46 : decode cX1_bestName 46 = .ok (.aload_n 0, 1) := dk_42 (dk_at dksX1_bestName_1 22 rfl rfl)
theorem dX1_bestName_47 : decode cX1_bestName 47 = .ok (.getfield 13, 3) := dk_180 0 13 (dk_at dksX1_bestName_2 0 rfl rfl)
theorem dX1_bestName_50 : decode cX1_bestName 50 = .ok (.iload_n 2, 1) := dk_28 (dk_at dksX1_bestName_2 3 rfl rfl)
theorem dX1_bestName_51 : decode cX1_bestName 51 = .ok (.iaload, 1) := dk_46 (dk_at dksX1_bestName_2 4 rfl rfl)
theorem dX1_bestName_52 : decode cX1_bestName 52 = .ok (.iadd, 1) := dk_96 (dk_at dksX1_bestName_2 5 rfl rfl)
theorem dX1_bestName_53 : decode cX1_bestName 53 = .ok (.iaload, 1) := dk_46 (dk_at dksX1_bestName_2 6 rfl rfl)
theorem dX1_bestName_54 : decode cX1_bestName 54 = .ok (.iconst 1, 1) := dk_4 (dk_at dksX1_bestName_2 7 rfl rfl)
theorem dX1_bestName_55 : decode cX1_bestName 55 = .ok (.iadd, 1) := dk_96 (dk_at dksX1_bestName_2 8 rfl rfl)
theorem dX1_bestName_56 : decode cX1_bestName 56 = .ok (.aload_n 0, 1) := dk_42 (dk_at dksX1_bestName_2 9 rfl rfl)
theorem dX1_bestName_57 : decode cX1_bestName 57 = .ok (.getfield 52, 3) := dk_180 0 52 (dk_at dksX1_bestName_2 10 rfl rfl)
theorem dX1_bestName_60 : decode cX1_bestName 60 = .ok (.iload_n 1, 1) := dk_27 (dk_at dksX1_bestName_2 13 rfl rfl)
theorem dX1_bestName_61 : decode cX1_bestName 61 = .ok (.iaload, 1) := dk_46 (dk_at dksX1_bestName_2 14 rfl rfl)
theorem dX1_bestName_62 : decode cX1_bestName 62 = .ok (.if_icmp .ne 5, 3) := dk_160 0 5 (dk_at dksX1_bestName_2 15 rfl rfl)
theorem dX1_bestName_65 : decode cX1_bestName 65 = .ok (.iload_n 2, 1) := dk_28 (dk_at dksX1_bestName_2 18 rfl rfl)
theorem dX1_bestName_66 : decode cX1_bestName 66 = .ok (.ireturn, 1) := dk_172 (dk_at dksX1_bestName_2 19 rfl rfl)
theorem dX1_bestName_67 : decode cX1_bestName 67 = .ok (.iinc 2 1, 3) := dk_132 2 1 (dk_at dksX1_bestName_2 20 rfl rfl)
theorem dX1_bestName_70 : decode cX1_bestName 70 = .ok (.goto (-68), 3) := dk_167 255 188 (dk_at dksX1_bestName_3 0 rfl rfl)
theorem dX1_bestName_73 : decode cX1_bestName 73 = .ok (.iconst (-1), 1) := dk_2 (dk_at dksX1_bestName_3 3 rfl rfl)
theorem dX1_bestName_74 : decode cX1_bestName 74 = .ok (.ireturn, 1) := dk_172 (dk_at dksX1_bestName_3 4 rfl rfl)
abbrev cX1_build : ByteArray := prog_7_method_73_code
def yX1_build : MethodName := ⟨RX1, "build", "(I)I"⟩
def dkwX1_build_1 : List UInt8 := [182, 0, 172, 42, 27, 182, 1, 6, 87, 42, 182, 1, 9, 172]
abbrev dktX1_build_1 : List UInt8 := dkwX1_build_1 ++ []
def dkwX1_build_0 : List UInt8 := [27, 5, 7, 184, 0, 73, 154, 0, 6, 16, 154, 172, 42, 180, 0, 109, 154, 0, 6, 16, 153, 172, 42, 27]
abbrev dktX1_build_0 : List UInt8 := dkwX1_build_0 ++ dktX1_build_1
theorem dksX1_build_0 : cX1_build.data.toList.drop 0 = dktX1_build_0 := by decide +kernel
theorem dksX1_build_1 : cX1_build.data.toList.drop 24 = dktX1_build_1 := dk_seg dksX1_build_0 24 rfl rfl
theorem dX1_build_0 : decode cX1_build 0 = .ok (.iload_n 1, 1) := dk_27 (dk_at dksX1_build_0 0 rfl rfl)
theorem dX1_build_1 : decode cX1_build 1 = .ok (.iconst 2, 1) := dk_5 (dk_at dksX1_build_0 1 rfl rfl)
theorem dX1_build_2 : decode cX1_build 2 = .ok (.iconst 4, 1) := dk_7 (dk_at dksX1_build_0 2 rfl rfl)
theorem dX1_build_3 : decode cX1_build 3 = .ok (.invokestatic 73, 3) := dk_184 0 73 (dk_at dksX1_build_0 3 rfl rfl)
theorem dX1_build_6 : decode cX1_build 6 = .ok (.ifCond .ne 6, 3) := dk_154 0 6 (dk_at dksX1_build_0 6 rfl rfl)
theorem dX1_build_9 : decode cX1_build 9 = .ok (.bipush (-102), 2) := dk_16 154 (dk_at dksX1_build_0 9 rfl rfl)
theorem dX1_build_11 : decode cX1_build 11 = .ok (.ireturn, 1) := dk_172 (dk_at dksX1_build_0 11 rfl rfl)
theorem dX1_build_12 : decode cX1_build 12 = .ok (.aload_n 0, 1) := dk_42 (dk_at dksX1_build_0 12 rfl rfl)
theorem dX1_build_13 : decode cX1_build 13 = .ok (.getfield 109, 3) := dk_180 0 109 (dk_at dksX1_build_0 13 rfl rfl)
theorem dX1_build_16 : decode cX1_build 16 = .ok (.ifCond .ne 6, 3) := dk_154 0 6 (dk_at dksX1_build_0 16 rfl rfl)
theorem dX1_build_19 : decode cX1_build 19 = .ok (.bipush (-103), 2) := dk_16 153 (dk_at dksX1_build_0 19 rfl rfl)
theorem dX1_build_21 : decode cX1_build 21 = .ok (.ireturn, 1) := dk_172 (dk_at dksX1_build_0 21 rfl rfl)
theorem dX1_build_22 : decode cX1_build 22 = .ok (.aload_n 0, 1) := dk_42 (dk_at dksX1_build_0 22 rfl rfl)
theorem dX1_build_23 : decode cX1_build 23 = .ok (.iload_n 1, 1) := dk_27 (dk_at dksX1_build_0 23 rfl rfl)
theorem dX1_build_24 : decode cX1_build 24 = .ok (.invokevirtual 172, 3) := dk_182 0 172 (dk_at dksX1_build_1 0 rfl rfl)
theorem dX1_build_27 : decode cX1_build 27 = .ok (.aload_n 0, 1) := dk_42 (dk_at dksX1_build_1 3 rfl rfl)
theorem dX1_build_28 : decode cX1_build 28 = .ok (.iload_n 1, 1) := dk_27 (dk_at dksX1_build_1 4 rfl rfl)
theorem dX1_build_29 : decode cX1_build 29 = .ok (.invokevirtual 262, 3) := dk_182 1 6 (dk_at dksX1_build_1 5 rfl rfl)
theorem dX1_build_32 : decode cX1_build 32 = .ok (.pop, 1) := dk_87 (dk_at dksX1_build_1 8 rfl rfl)
theorem dX1_build_33 : decode cX1_build 33 = .ok (.aload_n 0, 1) := dk_42 (dk_at dksX1_build_1 9 rfl rfl)
theorem dX1_build_34 : decode cX1_build 34 = .ok (.invokevirtual 265, 3) := dk_182 1 9 (dk_at dksX1_build_1 10 rfl rfl)
theorem dX1_build_37 : decode cX1_build 37 = .ok (.ireturn, 1) := dk_172 (dk_at dksX1_build_1 13 rfl rfl)
abbrev cX1_takeMenu : ByteArray := prog_7_method_70_code
def yX1_takeMenu : MethodName := ⟨RX1, "takeMenu", "(I)I"⟩
def dkwX1_takeMenu_4 : List UInt8 := [181, 0, 130, 42, 89, 180, 1, 3, 4, 96, 181, 1, 3, 28, 172]
abbrev dktX1_takeMenu_4 : List UInt8 := dkwX1_takeMenu_4 ++ []
def dkwX1_takeMenu_3 : List UInt8 := [162, 0, 21, 42, 180, 0, 31, 29, 42, 180, 0, 67, 29, 46, 79, 132, 3, 1, 167, 255, 234, 42, 27]
abbrev dktX1_takeMenu_3 : List UInt8 := dkwX1_takeMenu_3 ++ dktX1_takeMenu_4
def dkwX1_takeMenu_2 : List UInt8 := [180, 0, 28, 29, 42, 180, 0, 64, 29, 46, 79, 132, 3, 1, 167, 255, 233, 3, 62, 29, 17, 0, 196]
abbrev dktX1_takeMenu_2 : List UInt8 := dkwX1_takeMenu_2 ++ dktX1_takeMenu_3
def dkwX1_takeMenu_1 : List UInt8 := [167, 0, 4, 3, 96, 61, 132, 3, 1, 167, 255, 229, 3, 62, 29, 42, 180, 0, 109, 162, 0, 21, 42]
abbrev dktX1_takeMenu_1 : List UInt8 := dkwX1_takeMenu_1 ++ dktX1_takeMenu_2
def dkwX1_takeMenu_0 : List UInt8 := [3, 61, 3, 62, 29, 42, 180, 0, 109, 162, 0, 25, 28, 42, 29, 182, 1, 0, 153, 0, 7, 4]
abbrev dktX1_takeMenu_0 : List UInt8 := dkwX1_takeMenu_0 ++ dktX1_takeMenu_1
theorem dksX1_takeMenu_0 : cX1_takeMenu.data.toList.drop 0 = dktX1_takeMenu_0 := by decide +kernel
theorem dksX1_takeMenu_1 : cX1_takeMenu.data.toList.drop 22 = dktX1_takeMenu_1 := dk_seg dksX1_takeMenu_0 22 rfl rfl
theorem dksX1_takeMenu_2 : cX1_takeMenu.data.toList.drop 45 = dktX1_takeMenu_2 := dk_seg dksX1_takeMenu_1 23 rfl rfl
theorem dksX1_takeMenu_3 : cX1_takeMenu.data.toList.drop 68 = dktX1_takeMenu_3 := dk_seg dksX1_takeMenu_2 23 rfl rfl
theorem dksX1_takeMenu_4 : cX1_takeMenu.data.toList.drop 91 = dktX1_takeMenu_4 := dk_seg dksX1_takeMenu_3 23 rfl rfl
theorem dX1_takeMenu_0 : decode cX1_takeMenu 0 = .ok (.iconst 0, 1) := dk_3 (dk_at dksX1_takeMenu_0 0 rfl rfl)
theorem dX1_takeMenu_1 : decode cX1_takeMenu 1 = .ok (.istore_n 2, 1) := dk_61 (dk_at dksX1_takeMenu_0 1 rfl rfl)
theorem dX1_takeMenu_2 : decode cX1_takeMenu 2 = .ok (.iconst 0, 1) := dk_3 (dk_at dksX1_takeMenu_0 2 rfl rfl)
theorem dX1_takeMenu_3 : decode cX1_takeMenu 3 = .ok (.istore_n 3, 1) := dk_62 (dk_at dksX1_takeMenu_0 3 rfl rfl)
theorem dX1_takeMenu_4 : decode cX1_takeMenu 4 = .ok (.iload_n 3, 1) := dk_29 (dk_at dksX1_takeMenu_0 4 rfl rfl)
theorem dX1_takeMenu_5 : decode cX1_takeMenu 5 = .ok (.aload_n 0, 1) := dk_42 (dk_at dksX1_takeMenu_0 5 rfl rfl)
theorem dX1_takeMenu_6 : decode cX1_takeMenu 6 = .ok (.getfield 109, 3) := dk_180 0 109 (dk_at dksX1_takeMenu_0 6 rfl rfl)
theorem dX1_takeMenu_9 : decode cX1_takeMenu 9 = .ok (.if_icmp .ge 25, 3) := dk_162 0 25 (dk_at dksX1_takeMenu_0 9 rfl rfl)
theorem dX1_takeMenu_12 : decode cX1_takeMenu 12 = .ok (.iload_n 2, 1) := dk_28 (dk_at dksX1_takeMenu_0 12 rfl rfl)
theorem dX1_takeMenu_13 : decode cX1_takeMenu 13 = .ok (.aload_n 0, 1) := dk_42 (dk_at dksX1_takeMenu_0 13 rfl rfl)
theorem dX1_takeMenu_14 : decode cX1_takeMenu 14 = .ok (.iload_n 3, 1) := dk_29 (dk_at dksX1_takeMenu_0 14 rfl rfl)
theorem dX1_takeMenu_15 : decode cX1_takeMenu 15 = .ok (.invokevirtual 256, 3) := dk_182 1 0 (dk_at dksX1_takeMenu_0 15 rfl rfl)
theorem dX1_takeMenu_18 : decode cX1_takeMenu 18 = .ok (.ifCond .eq 7, 3) := dk_153 0 7 (dk_at dksX1_takeMenu_0 18 rfl rfl)
theorem dX1_takeMenu_21 : decode cX1_takeMenu 21 = .ok (.iconst 1, 1) := dk_4 (dk_at dksX1_takeMenu_0 21 rfl rfl)
theorem dX1_takeMenu_22 : decode cX1_takeMenu 22 = .ok (.goto 4, 3) := dk_167 0 4 (dk_at dksX1_takeMenu_1 0 rfl rfl)
theorem dX1_takeMenu_25 : decode cX1_takeMenu 25 = .ok (.iconst 0, 1) := dk_3 (dk_at dksX1_takeMenu_1 3 rfl rfl)
theorem dX1_takeMenu_26 : decode cX1_takeMenu 26 = .ok (.iadd, 1) := dk_96 (dk_at dksX1_takeMenu_1 4 rfl rfl)
theorem dX1_takeMenu_27 : decode cX1_takeMenu 27 = .ok (.istore_n 2, 1) := dk_61 (dk_at dksX1_takeMenu_1 5 rfl rfl)
theorem dX1_takeMenu_28 : decode cX1_takeMenu 28 = .ok (.iinc 3 1, 3) := dk_132 3 1 (dk_at dksX1_takeMenu_1 6 rfl rfl)
theorem dX1_takeMenu_31 : decode cX1_takeMenu 31 = .ok (.goto (-27), 3) := dk_167 255 229 (dk_at dksX1_takeMenu_1 9 rfl rfl)
theorem dX1_takeMenu_34 : decode cX1_takeMenu 34 = .ok (.iconst 0, 1) := dk_3 (dk_at dksX1_takeMenu_1 12 rfl rfl)
theorem dX1_takeMenu_35 : decode cX1_takeMenu 35 = .ok (.istore_n 3, 1) := dk_62 (dk_at dksX1_takeMenu_1 13 rfl rfl)
theorem dX1_takeMenu_36 : decode cX1_takeMenu 36 = .ok (.iload_n 3, 1) := dk_29 (dk_at dksX1_takeMenu_1 14 rfl rfl)
theorem dX1_takeMenu_37 : decode cX1_takeMenu 37 = .ok (.aload_n 0, 1) := dk_42 (dk_at dksX1_takeMenu_1 15 rfl rfl)
theorem dX1_takeMenu_38 : decode cX1_takeMenu 38 = .ok (.getfield 109, 3) := dk_180 0 109 (dk_at dksX1_takeMenu_1 16 rfl rfl)
theorem dX1_takeMenu_41 : decode cX1_takeMenu 41 = .ok (.if_icmp .ge 21, 3) := dk_162 0 21 (dk_at dksX1_takeMenu_1 19 rfl rfl)
theorem dX1_takeMenu_44 : decode cX1_takeMenu 44 = .ok (.aload_n 0, 1) := dk_42 (dk_at dksX1_takeMenu_1 22 rfl rfl)
theorem dX1_takeMenu_45 : decode cX1_takeMenu 45 = .ok (.getfield 28, 3) := dk_180 0 28 (dk_at dksX1_takeMenu_2 0 rfl rfl)
theorem dX1_takeMenu_48 : decode cX1_takeMenu 48 = .ok (.iload_n 3, 1) := dk_29 (dk_at dksX1_takeMenu_2 3 rfl rfl)
theorem dX1_takeMenu_49 : decode cX1_takeMenu 49 = .ok (.aload_n 0, 1) := dk_42 (dk_at dksX1_takeMenu_2 4 rfl rfl)
theorem dX1_takeMenu_50 : decode cX1_takeMenu 50 = .ok (.getfield 64, 3) := dk_180 0 64 (dk_at dksX1_takeMenu_2 5 rfl rfl)
theorem dX1_takeMenu_53 : decode cX1_takeMenu 53 = .ok (.iload_n 3, 1) := dk_29 (dk_at dksX1_takeMenu_2 8 rfl rfl)
theorem dX1_takeMenu_54 : decode cX1_takeMenu 54 = .ok (.iaload, 1) := dk_46 (dk_at dksX1_takeMenu_2 9 rfl rfl)
theorem dX1_takeMenu_55 : decode cX1_takeMenu 55 = .ok (.iastore, 1) := dk_79 (dk_at dksX1_takeMenu_2 10 rfl rfl)
theorem dX1_takeMenu_56 : decode cX1_takeMenu 56 = .ok (.iinc 3 1, 3) := dk_132 3 1 (dk_at dksX1_takeMenu_2 11 rfl rfl)
theorem dX1_takeMenu_59 : decode cX1_takeMenu 59 = .ok (.goto (-23), 3) := dk_167 255 233 (dk_at dksX1_takeMenu_2 14 rfl rfl)
theorem dX1_takeMenu_62 : decode cX1_takeMenu 62 = .ok (.iconst 0, 1) := dk_3 (dk_at dksX1_takeMenu_2 17 rfl rfl)
theorem dX1_takeMenu_63 : decode cX1_takeMenu 63 = .ok (.istore_n 3, 1) := dk_62 (dk_at dksX1_takeMenu_2 18 rfl rfl)
theorem dX1_takeMenu_64 : decode cX1_takeMenu 64 = .ok (.iload_n 3, 1) := dk_29 (dk_at dksX1_takeMenu_2 19 rfl rfl)
theorem dX1_takeMenu_65 : decode cX1_takeMenu 65 = .ok (.sipush 196, 3) := dk_17 0 196 (dk_at dksX1_takeMenu_2 20 rfl rfl)
theorem dX1_takeMenu_68 : decode cX1_takeMenu 68 = .ok (.if_icmp .ge 21, 3) := dk_162 0 21 (dk_at dksX1_takeMenu_3 0 rfl rfl)
theorem dX1_takeMenu_71 : decode cX1_takeMenu 71 = .ok (.aload_n 0, 1) := dk_42 (dk_at dksX1_takeMenu_3 3 rfl rfl)
theorem dX1_takeMenu_72 : decode cX1_takeMenu 72 = .ok (.getfield 31, 3) := dk_180 0 31 (dk_at dksX1_takeMenu_3 4 rfl rfl)
theorem dX1_takeMenu_75 : decode cX1_takeMenu 75 = .ok (.iload_n 3, 1) := dk_29 (dk_at dksX1_takeMenu_3 7 rfl rfl)
theorem dX1_takeMenu_76 : decode cX1_takeMenu 76 = .ok (.aload_n 0, 1) := dk_42 (dk_at dksX1_takeMenu_3 8 rfl rfl)
theorem dX1_takeMenu_77 : decode cX1_takeMenu 77 = .ok (.getfield 67, 3) := dk_180 0 67 (dk_at dksX1_takeMenu_3 9 rfl rfl)
theorem dX1_takeMenu_80 : decode cX1_takeMenu 80 = .ok (.iload_n 3, 1) := dk_29 (dk_at dksX1_takeMenu_3 12 rfl rfl)
theorem dX1_takeMenu_81 : decode cX1_takeMenu 81 = .ok (.iaload, 1) := dk_46 (dk_at dksX1_takeMenu_3 13 rfl rfl)
theorem dX1_takeMenu_82 : decode cX1_takeMenu 82 = .ok (.iastore, 1) := dk_79 (dk_at dksX1_takeMenu_3 14 rfl rfl)
theorem dX1_takeMenu_83 : decode cX1_takeMenu 83 = .ok (.iinc 3 1, 3) := dk_132 3 1 (dk_at dksX1_takeMenu_3 15 rfl rfl)
theorem dX1_takeMenu_86 : decode cX1_takeMenu 86 = .ok (.goto (-22), 3) := dk_167 255 234 (dk_at dksX1_takeMenu_3 18 rfl rfl)
theorem dX1_takeMenu_89 : decode cX1_takeMenu 89 = .ok (.aload_n 0, 1) := dk_42 (dk_at dksX1_takeMenu_3 21 rfl rfl)
theorem dX1_takeMenu_90 : decode cX1_takeMenu 90 = .ok (.iload_n 1, 1) := dk_27 (dk_at dksX1_takeMenu_3 22 rfl rfl)
theorem dX1_takeMenu_91 : decode cX1_takeMenu 91 = .ok (.putfield 130, 3) := dk_181 0 130 (dk_at dksX1_takeMenu_4 0 rfl rfl)
theorem dX1_takeMenu_94 : decode cX1_takeMenu 94 = .ok (.aload_n 0, 1) := dk_42 (dk_at dksX1_takeMenu_4 3 rfl rfl)
theorem dX1_takeMenu_95 : decode cX1_takeMenu 95 = .ok (.dup, 1) := dk_89 (dk_at dksX1_takeMenu_4 4 rfl rfl)
theorem dX1_takeMenu_96 : decode cX1_takeMenu 96 = .ok (.getfield 259, 3) := dk_180 1 3 (dk_at dksX1_takeMenu_4 5 rfl rfl)
theorem dX1_takeMenu_99 : decode cX1_takeMenu 99 = .ok (.iconst 1, 1) := dk_4 (dk_at dksX1_takeMenu_4 8 rfl rfl)
theorem dX1_takeMenu_100 : decode cX1_takeMenu 100 = .ok (.iadd, 1) := dk_96 (dk_at dksX1_takeMenu_4 9 rfl rfl)
theorem dX1_takeMenu_101 : decode cX1_takeMenu 101 = .ok (.putfield 259, 3) := dk_181 1 3 (dk_at dksX1_takeMenu_4 10 rfl rfl)
theorem dX1_takeMenu_104 : decode cX1_takeMenu 104 = .ok (.iload_n 2, 1) := dk_28 (dk_at dksX1_takeMenu_4 13 rfl rfl)
theorem dX1_takeMenu_105 : decode cX1_takeMenu 105 = .ok (.ireturn, 1) := dk_172 (dk_at dksX1_takeMenu_4 14 rfl rfl)
abbrev cX1_isPathChanged : ByteArray := prog_7_method_69_code
def yX1_isPathChanged : MethodName := ⟨RX1, "isPathChanged", "(I)Z"⟩
def dkwX1_isPathChanged_3 : List UInt8 := [167, 255, 208, 28, 172]
abbrev dktX1_isPathChanged_3 : List UInt8 := dkwX1_isPathChanged_3 ++ []
def dkwX1_isPathChanged_2 : List UInt8 := [42, 180, 0, 67, 16, 14, 27, 104, 29, 96, 46, 159, 0, 7, 4, 167, 0, 4, 3, 61, 132, 3, 1]
abbrev dktX1_isPathChanged_2 : List UInt8 := dkwX1_isPathChanged_2 ++ dktX1_isPathChanged_3
def dkwX1_isPathChanged_1 : List UInt8 := [42, 180, 0, 28, 27, 46, 162, 0, 44, 28, 154, 0, 40, 42, 180, 0, 31, 16, 14, 27, 104, 29, 96, 46]
abbrev dktX1_isPathChanged_1 : List UInt8 := dkwX1_isPathChanged_1 ++ dktX1_isPathChanged_2
def dkwX1_isPathChanged_0 : List UInt8 := [42, 180, 0, 28, 27, 46, 42, 180, 0, 64, 27, 46, 159, 0, 7, 4, 167, 0, 4, 3, 61, 3, 62, 29]
abbrev dktX1_isPathChanged_0 : List UInt8 := dkwX1_isPathChanged_0 ++ dktX1_isPathChanged_1
theorem dksX1_isPathChanged_0 : cX1_isPathChanged.data.toList.drop 0 = dktX1_isPathChanged_0 := by decide +kernel
theorem dksX1_isPathChanged_1 : cX1_isPathChanged.data.toList.drop 24 = dktX1_isPathChanged_1 := dk_seg dksX1_isPathChanged_0 24 rfl rfl
theorem dksX1_isPathChanged_2 : cX1_isPathChanged.data.toList.drop 48 = dktX1_isPathChanged_2 := dk_seg dksX1_isPathChanged_1 24 rfl rfl
theorem dksX1_isPathChanged_3 : cX1_isPathChanged.data.toList.drop 71 = dktX1_isPathChanged_3 := dk_seg dksX1_isPathChanged_2 23 rfl rfl
theorem dX1_isPathChanged_0 : decode cX1_isPathChanged 0 = .ok (.aload_n 0, 1) := dk_42 (dk_at dksX1_isPathChanged_0 0 rfl rfl)
theorem dX1_isPathChanged_1 : decode cX1_isPathChanged 1 = .ok (.getfield 28, 3) := dk_180 0 28 (dk_at dksX1_isPathChanged_0 1 rfl rfl)
theorem dX1_isPathChanged_4 : decode cX1_isPathChanged 4 = .ok (.iload_n 1, 1) := dk_27 (dk_at dksX1_isPathChanged_0 4 rfl rfl)
theorem dX1_isPathChanged_5 : decode cX1_isPathChanged 5 = .ok (.iaload, 1) := dk_46 (dk_at dksX1_isPathChanged_0 5 rfl rfl)
theorem dX1_isPathChanged_6 : decode cX1_isPathChanged 6 = .ok (.aload_n 0, 1) := dk_42 (dk_at dksX1_isPathChanged_0 6 rfl rfl)
theorem dX1_isPathChanged_7 : decode cX1_isPathChanged 7 = .ok (.getfield 64, 3) := dk_180 0 64 (dk_at dksX1_isPathChanged_0 7 rfl rfl)
theorem dX1_isPathChanged_10 : decode cX1_isPathChanged 10 = .ok (.iload_n 1, 1) := dk_27 (dk_at dksX1_isPathChanged_0 10 rfl rfl)
theorem dX1_isPathChanged_11 : decode cX1_isPathChanged 11 = .ok (.iaload, 1) := dk_46 (dk_at dksX1_isPathChanged_0 11 rfl rfl)
theorem dX1_isPathChanged_12 : decode cX1_isPathChanged 12 = .ok (.if_icmp .eq 7, 3) := dk_159 0 7 (dk_at dksX1_isPathChanged_0 12 rfl rfl)
theorem dX1_isPathChanged_15 : decode cX1_isPathChanged 15 = .ok (.iconst 1, 1) := dk_4 (dk_at dksX1_isPathChanged_0 15 rfl rfl)
theorem dX1_isPathChanged_16 : decode cX1_isPathChanged 16 = .ok (.goto 4, 3) := dk_167 0 4 (dk_at dksX1_isPathChanged_0 16 rfl rfl)
theorem dX1_isPathChanged_19 : decode cX1_isPathChanged 19 = .ok (.iconst 0, 1) := dk_3 (dk_at dksX1_isPathChanged_0 19 rfl rfl)
theorem dX1_isPathChanged_20 : decode cX1_isPathChanged 20 = .ok (.istore_n 2, 1) := dk_61 (dk_at dksX1_isPathChanged_0 20 rfl rfl)
theorem dX1_isPathChanged_21 : decode cX1_isPathChanged 21 = .ok (.iconst 0, 1) := dk_3 (dk_at dksX1_isPathChanged_0 21 rfl rfl)
theorem dX1_isPathChanged_22 : decode cX1_isPathChanged 22 = .ok (.istore_n 3, 1) := dk_62 (dk_at dksX1_isPathChanged_0 22 rfl rfl)
theorem dX1_isPathChanged_23 : decode cX1_isPathChanged 23 = .ok (.iload_n 3, 1) := dk_29 (dk_at dksX1_isPathChanged_0 23 rfl rfl)
theorem dX1_isPathChanged_24 : decode cX1_isPathChanged 24 = .ok (.aload_n 0, 1) := dk_42 (dk_at dksX1_isPathChanged_1 0 rfl rfl)
theorem dX1_isPathChanged_25 : decode cX1_isPathChanged 25 = .ok (.getfield 28, 3) := dk_180 0 28 (dk_at dksX1_isPathChanged_1 1 rfl rfl)
theorem dX1_isPathChanged_28 : decode cX1_isPathChanged 28 = .ok (.iload_n 1, 1) := dk_27 (dk_at dksX1_isPathChanged_1 4 rfl rfl)
theorem dX1_isPathChanged_29 : decode cX1_isPathChanged 29 = .ok (.iaload, 1) := dk_46 (dk_at dksX1_isPathChanged_1 5 rfl rfl)
theorem dX1_isPathChanged_30 : decode cX1_isPathChanged 30 = .ok (.if_icmp .ge 44, 3) := dk_162 0 44 (dk_at dksX1_isPathChanged_1 6 rfl rfl)
theorem dX1_isPathChanged_33 : decode cX1_isPathChanged 33 = .ok (.iload_n 2, 1) := dk_28 (dk_at dksX1_isPathChanged_1 9 rfl rfl)
theorem dX1_isPathChanged_34 : decode cX1_isPathChanged 34 = .ok (.ifCond .ne 40, 3) := dk_154 0 40 (dk_at dksX1_isPathChanged_1 10 rfl rfl)
theorem dX1_isPathChanged_37 : decode cX1_isPathChanged 37 = .ok (.aload_n 0, 1) := dk_42 (dk_at dksX1_isPathChanged_1 13 rfl rfl)
theorem dX1_isPathChanged_38 : decode cX1_isPathChanged 38 = .ok (.getfield 31, 3) := dk_180 0 31 (dk_at dksX1_isPathChanged_1 14 rfl rfl)
theorem dX1_isPathChanged_41 : decode cX1_isPathChanged 41 = .ok (.bipush 14, 2) := dk_16 14 (dk_at dksX1_isPathChanged_1 17 rfl rfl)
theorem dX1_isPathChanged_43 : decode cX1_isPathChanged 43 = .ok (.iload_n 1, 1) := dk_27 (dk_at dksX1_isPathChanged_1 19 rfl rfl)
theorem dX1_isPathChanged_44 : decode cX1_isPathChanged 44 = .ok (.imul, 1) := dk_104 (dk_at dksX1_isPathChanged_1 20 rfl rfl)
theorem dX1_isPathChanged_45 : decode cX1_isPathChanged 45 = .ok (.iload_n 3, 1) := dk_29 (dk_at dksX1_isPathChanged_1 21 rfl rfl)
theorem dX1_isPathChanged_46 : decode cX1_isPathChanged 46 = .ok (.iadd, 1) := dk_96 (dk_at dksX1_isPathChanged_1 22 rfl rfl)
theorem dX1_isPathChanged_47 : decode cX1_isPathChanged 47 = .ok (.iaload, 1) := dk_46 (dk_at dksX1_isPathChanged_1 23 rfl rfl)
theorem dX1_isPathChanged_48 : decode cX1_isPathChanged 48 = .ok (.aload_n 0, 1) := dk_42 (dk_at dksX1_isPathChanged_2 0 rfl rfl)
theorem dX1_isPathChanged_49 : decode cX1_isPathChanged 49 = .ok (.getfield 67, 3) := dk_180 0 67 (dk_at dksX1_isPathChanged_2 1 rfl rfl)
theorem dX1_isPathChanged_52 : decode cX1_isPathChanged 52 = .ok (.bipush 14, 2) := dk_16 14 (dk_at dksX1_isPathChanged_2 4 rfl rfl)
theorem dX1_isPathChanged_54 : decode cX1_isPathChanged 54 = .ok (.iload_n 1, 1) := dk_27 (dk_at dksX1_isPathChanged_2 6 rfl rfl)
theorem dX1_isPathChanged_55 : decode cX1_isPathChanged 55 = .ok (.imul, 1) := dk_104 (dk_at dksX1_isPathChanged_2 7 rfl rfl)
theorem dX1_isPathChanged_56 : decode cX1_isPathChanged 56 = .ok (.iload_n 3, 1) := dk_29 (dk_at dksX1_isPathChanged_2 8 rfl rfl)
theorem dX1_isPathChanged_57 : decode cX1_isPathChanged 57 = .ok (.iadd, 1) := dk_96 (dk_at dksX1_isPathChanged_2 9 rfl rfl)
theorem dX1_isPathChanged_58 : decode cX1_isPathChanged 58 = .ok (.iaload, 1) := dk_46 (dk_at dksX1_isPathChanged_2 10 rfl rfl)
theorem dX1_isPathChanged_59 : decode cX1_isPathChanged 59 = .ok (.if_icmp .eq 7, 3) := dk_159 0 7 (dk_at dksX1_isPathChanged_2 11 rfl rfl)
theorem dX1_isPathChanged_62 : decode cX1_isPathChanged 62 = .ok (.iconst 1, 1) := dk_4 (dk_at dksX1_isPathChanged_2 14 rfl rfl)
theorem dX1_isPathChanged_63 : decode cX1_isPathChanged 63 = .ok (.goto 4, 3) := dk_167 0 4 (dk_at dksX1_isPathChanged_2 15 rfl rfl)
theorem dX1_isPathChanged_66 : decode cX1_isPathChanged 66 = .ok (.iconst 0, 1) := dk_3 (dk_at dksX1_isPathChanged_2 18 rfl rfl)
theorem dX1_isPathChanged_67 : decode cX1_isPathChanged 67 = .ok (.istore_n 2, 1) := dk_61 (dk_at dksX1_isPathChanged_2 19 rfl rfl)
theorem dX1_isPathChanged_68 : decode cX1_isPathChanged 68 = .ok (.iinc 3 1, 3) := dk_132 3 1 (dk_at dksX1_isPathChanged_2 20 rfl rfl)
theorem dX1_isPathChanged_71 : decode cX1_isPathChanged 71 = .ok (.goto (-48), 3) := dk_167 255 208 (dk_at dksX1_isPathChanged_3 0 rfl rfl)
theorem dX1_isPathChanged_74 : decode cX1_isPathChanged 74 = .ok (.iload_n 2, 1) := dk_28 (dk_at dksX1_isPathChanged_3 3 rfl rfl)
theorem dX1_isPathChanged_75 : decode cX1_isPathChanged 75 = .ok (.ireturn, 1) := dk_172 (dk_at dksX1_isPathChanged_3 4 rfl rfl)
abbrev cX1_costNow : ByteArray := prog_7_method_71_code
def yX1_costNow : MethodName := ⟨RX1, "costNow", "()I"⟩
def dkwX1_costNow_1 : List UInt8 := [46, 104, 96, 60, 132, 2, 1, 167, 255, 229, 27, 172]
abbrev dktX1_costNow_1 : List UInt8 := dkwX1_costNow_1 ++ []
def dkwX1_costNow_0 : List UInt8 := [3, 60, 3, 61, 28, 42, 180, 0, 109, 162, 0, 25, 27, 42, 180, 0, 19, 28, 46, 42, 180, 0, 28, 28]
abbrev dktX1_costNow_0 : List UInt8 := dkwX1_costNow_0 ++ dktX1_costNow_1
theorem dksX1_costNow_0 : cX1_costNow.data.toList.drop 0 = dktX1_costNow_0 := by decide +kernel
theorem dksX1_costNow_1 : cX1_costNow.data.toList.drop 24 = dktX1_costNow_1 := dk_seg dksX1_costNow_0 24 rfl rfl
theorem dX1_costNow_0 : decode cX1_costNow 0 = .ok (.iconst 0, 1) := dk_3 (dk_at dksX1_costNow_0 0 rfl rfl)
theorem dX1_costNow_1 : decode cX1_costNow 1 = .ok (.istore_n 1, 1) := dk_60 (dk_at dksX1_costNow_0 1 rfl rfl)
theorem dX1_costNow_2 : decode cX1_costNow 2 = .ok (.iconst 0, 1) := dk_3 (dk_at dksX1_costNow_0 2 rfl rfl)
theorem dX1_costNow_3 : decode cX1_costNow 3 = .ok (.istore_n 2, 1) := dk_61 (dk_at dksX1_costNow_0 3 rfl rfl)
theorem dX1_costNow_4 : decode cX1_costNow 4 = .ok (.iload_n 2, 1) := dk_28 (dk_at dksX1_costNow_0 4 rfl rfl)
theorem dX1_costNow_5 : decode cX1_costNow 5 = .ok (.aload_n 0, 1) := dk_42 (dk_at dksX1_costNow_0 5 rfl rfl)
theorem dX1_costNow_6 : decode cX1_costNow 6 = .ok (.getfield 109, 3) := dk_180 0 109 (dk_at dksX1_costNow_0 6 rfl rfl)
theorem dX1_costNow_9 : decode cX1_costNow 9 = .ok (.if_icmp .ge 25, 3) := dk_162 0 25 (dk_at dksX1_costNow_0 9 rfl rfl)
theorem dX1_costNow_12 : decode cX1_costNow 12 = .ok (.iload_n 1, 1) := dk_27 (dk_at dksX1_costNow_0 12 rfl rfl)
theorem dX1_costNow_13 : decode cX1_costNow 13 = .ok (.aload_n 0, 1) := dk_42 (dk_at dksX1_costNow_0 13 rfl rfl)
theorem dX1_costNow_14 : decode cX1_costNow 14 = .ok (.getfield 19, 3) := dk_180 0 19 (dk_at dksX1_costNow_0 14 rfl rfl)
theorem dX1_costNow_17 : decode cX1_costNow 17 = .ok (.iload_n 2, 1) := dk_28 (dk_at dksX1_costNow_0 17 rfl rfl)
theorem dX1_costNow_18 : decode cX1_costNow 18 = .ok (.iaload, 1) := dk_46 (dk_at dksX1_costNow_0 18 rfl rfl)
theorem dX1_costNow_19 : decode cX1_costNow 19 = .ok (.aload_n 0, 1) := dk_42 (dk_at dksX1_costNow_0 19 rfl rfl)
theorem dX1_costNow_20 : decode cX1_costNow 20 = .ok (.getfield 28, 3) := dk_180 0 28 (dk_at dksX1_costNow_0 20 rfl rfl)
theorem dX1_costNow_23 : decode cX1_costNow 23 = .ok (.iload_n 2, 1) := dk_28 (dk_at dksX1_costNow_0 23 rfl rfl)
theorem dX1_costNow_24 : decode cX1_costNow 24 = .ok (.iaload, 1) := dk_46 (dk_at dksX1_costNow_1 0 rfl rfl)
theorem dX1_costNow_25 : decode cX1_costNow 25 = .ok (.imul, 1) := dk_104 (dk_at dksX1_costNow_1 1 rfl rfl)
theorem dX1_costNow_26 : decode cX1_costNow 26 = .ok (.iadd, 1) := dk_96 (dk_at dksX1_costNow_1 2 rfl rfl)
theorem dX1_costNow_27 : decode cX1_costNow 27 = .ok (.istore_n 1, 1) := dk_60 (dk_at dksX1_costNow_1 3 rfl rfl)
theorem dX1_costNow_28 : decode cX1_costNow 28 = .ok (.iinc 2 1, 3) := dk_132 2 1 (dk_at dksX1_costNow_1 4 rfl rfl)
theorem dX1_costNow_31 : decode cX1_costNow 31 = .ok (.goto (-27), 3) := dk_167 255 229 (dk_at dksX1_costNow_1 7 rfl rfl)
theorem dX1_costNow_34 : decode cX1_costNow 34 = .ok (.iload_n 1, 1) := dk_27 (dk_at dksX1_costNow_1 10 rfl rfl)
theorem dX1_costNow_35 : decode cX1_costNow 35 = .ok (.ireturn, 1) := dk_172 (dk_at dksX1_costNow_1 11 rfl rfl)
abbrev cX1_tend : ByteArray := prog_7_method_74_code
def yX1_tend : MethodName := ⟨RX1, "tend", "(I)I"⟩
def dkwX1_tend_2 : List UInt8 := [180, 0, 130, 182, 0, 172, 42, 42, 180, 0, 130, 182, 1, 6, 172]
abbrev dktX1_tend_2 : List UInt8 := dkwX1_tend_2 ++ []
def dkwX1_tend_1 : List UInt8 := [182, 1, 12, 61, 16, 100, 42, 182, 1, 9, 28, 100, 104, 27, 28, 104, 163, 0, 5, 2, 172, 42, 42]
abbrev dktX1_tend_1 : List UInt8 := dkwX1_tend_1 ++ dktX1_tend_2
def dkwX1_tend_0 : List UInt8 := [42, 180, 0, 130, 154, 0, 6, 16, 153, 172, 27, 3, 16, 100, 184, 0, 73, 154, 0, 6, 16, 154, 172, 42]
abbrev dktX1_tend_0 : List UInt8 := dkwX1_tend_0 ++ dktX1_tend_1
theorem dksX1_tend_0 : cX1_tend.data.toList.drop 0 = dktX1_tend_0 := by decide +kernel
theorem dksX1_tend_1 : cX1_tend.data.toList.drop 24 = dktX1_tend_1 := dk_seg dksX1_tend_0 24 rfl rfl
theorem dksX1_tend_2 : cX1_tend.data.toList.drop 47 = dktX1_tend_2 := dk_seg dksX1_tend_1 23 rfl rfl
theorem dX1_tend_0 : decode cX1_tend 0 = .ok (.aload_n 0, 1) := dk_42 (dk_at dksX1_tend_0 0 rfl rfl)
theorem dX1_tend_1 : decode cX1_tend 1 = .ok (.getfield 130, 3) := dk_180 0 130 (dk_at dksX1_tend_0 1 rfl rfl)
theorem dX1_tend_4 : decode cX1_tend 4 = .ok (.ifCond .ne 6, 3) := dk_154 0 6 (dk_at dksX1_tend_0 4 rfl rfl)
theorem dX1_tend_7 : decode cX1_tend 7 = .ok (.bipush (-103), 2) := dk_16 153 (dk_at dksX1_tend_0 7 rfl rfl)
theorem dX1_tend_9 : decode cX1_tend 9 = .ok (.ireturn, 1) := dk_172 (dk_at dksX1_tend_0 9 rfl rfl)
theorem dX1_tend_10 : decode cX1_tend 10 = .ok (.iload_n 1, 1) := dk_27 (dk_at dksX1_tend_0 10 rfl rfl)
theorem dX1_tend_11 : decode cX1_tend 11 = .ok (.iconst 0, 1) := dk_3 (dk_at dksX1_tend_0 11 rfl rfl)
theorem dX1_tend_12 : decode cX1_tend 12 = .ok (.bipush 100, 2) := dk_16 100 (dk_at dksX1_tend_0 12 rfl rfl)
theorem dX1_tend_14 : decode cX1_tend 14 = .ok (.invokestatic 73, 3) := dk_184 0 73 (dk_at dksX1_tend_0 14 rfl rfl)
theorem dX1_tend_17 : decode cX1_tend 17 = .ok (.ifCond .ne 6, 3) := dk_154 0 6 (dk_at dksX1_tend_0 17 rfl rfl)
theorem dX1_tend_20 : decode cX1_tend 20 = .ok (.bipush (-102), 2) := dk_16 154 (dk_at dksX1_tend_0 20 rfl rfl)
theorem dX1_tend_22 : decode cX1_tend 22 = .ok (.ireturn, 1) := dk_172 (dk_at dksX1_tend_0 22 rfl rfl)
theorem dX1_tend_23 : decode cX1_tend 23 = .ok (.aload_n 0, 1) := dk_42 (dk_at dksX1_tend_0 23 rfl rfl)
theorem dX1_tend_24 : decode cX1_tend 24 = .ok (.invokevirtual 268, 3) := dk_182 1 12 (dk_at dksX1_tend_1 0 rfl rfl)
theorem dX1_tend_27 : decode cX1_tend 27 = .ok (.istore_n 2, 1) := dk_61 (dk_at dksX1_tend_1 3 rfl rfl)
theorem dX1_tend_28 : decode cX1_tend 28 = .ok (.bipush 100, 2) := dk_16 100 (dk_at dksX1_tend_1 4 rfl rfl)
theorem dX1_tend_30 : decode cX1_tend 30 = .ok (.aload_n 0, 1) := dk_42 (dk_at dksX1_tend_1 6 rfl rfl)
theorem dX1_tend_31 : decode cX1_tend 31 = .ok (.invokevirtual 265, 3) := dk_182 1 9 (dk_at dksX1_tend_1 7 rfl rfl)
theorem dX1_tend_34 : decode cX1_tend 34 = .ok (.iload_n 2, 1) := dk_28 (dk_at dksX1_tend_1 10 rfl rfl)
theorem dX1_tend_35 : decode cX1_tend 35 = .ok (.isub, 1) := dk_100 (dk_at dksX1_tend_1 11 rfl rfl)
theorem dX1_tend_36 : decode cX1_tend 36 = .ok (.imul, 1) := dk_104 (dk_at dksX1_tend_1 12 rfl rfl)
theorem dX1_tend_37 : decode cX1_tend 37 = .ok (.iload_n 1, 1) := dk_27 (dk_at dksX1_tend_1 13 rfl rfl)
theorem dX1_tend_38 : decode cX1_tend 38 = .ok (.iload_n 2, 1) := dk_28 (dk_at dksX1_tend_1 14 rfl rfl)
theorem dX1_tend_39 : decode cX1_tend 39 = .ok (.imul, 1) := dk_104 (dk_at dksX1_tend_1 15 rfl rfl)
theorem dX1_tend_40 : decode cX1_tend 40 = .ok (.if_icmp .gt 5, 3) := dk_163 0 5 (dk_at dksX1_tend_1 16 rfl rfl)
theorem dX1_tend_43 : decode cX1_tend 43 = .ok (.iconst (-1), 1) := dk_2 (dk_at dksX1_tend_1 19 rfl rfl)
theorem dX1_tend_44 : decode cX1_tend 44 = .ok (.ireturn, 1) := dk_172 (dk_at dksX1_tend_1 20 rfl rfl)
theorem dX1_tend_45 : decode cX1_tend 45 = .ok (.aload_n 0, 1) := dk_42 (dk_at dksX1_tend_1 21 rfl rfl)
theorem dX1_tend_46 : decode cX1_tend 46 = .ok (.aload_n 0, 1) := dk_42 (dk_at dksX1_tend_1 22 rfl rfl)
theorem dX1_tend_47 : decode cX1_tend 47 = .ok (.getfield 130, 3) := dk_180 0 130 (dk_at dksX1_tend_2 0 rfl rfl)
theorem dX1_tend_50 : decode cX1_tend 50 = .ok (.invokevirtual 172, 3) := dk_182 0 172 (dk_at dksX1_tend_2 3 rfl rfl)
theorem dX1_tend_53 : decode cX1_tend 53 = .ok (.aload_n 0, 1) := dk_42 (dk_at dksX1_tend_2 6 rfl rfl)
theorem dX1_tend_54 : decode cX1_tend 54 = .ok (.aload_n 0, 1) := dk_42 (dk_at dksX1_tend_2 7 rfl rfl)
theorem dX1_tend_55 : decode cX1_tend 55 = .ok (.getfield 130, 3) := dk_180 0 130 (dk_at dksX1_tend_2 8 rfl rfl)
theorem dX1_tend_58 : decode cX1_tend 58 = .ok (.invokevirtual 262, 3) := dk_182 1 6 (dk_at dksX1_tend_2 11 rfl rfl)
theorem dX1_tend_61 : decode cX1_tend 61 = .ok (.ireturn, 1) := dk_172 (dk_at dksX1_tend_2 14 rfl rfl)
abbrev cX1_leastCost : ByteArray := prog_7_method_72_code
def yX1_leastCost : MethodName := ⟨RX1, "leastCost", "()I"⟩
def dkwX1_leastCost_0 : List UInt8 := [42, 42, 180, 0, 130, 182, 0, 250, 42, 3, 42, 180, 0, 109, 182, 0, 232, 172]
abbrev dktX1_leastCost_0 : List UInt8 := dkwX1_leastCost_0 ++ []
theorem dksX1_leastCost_0 : cX1_leastCost.data.toList.drop 0 = dktX1_leastCost_0 := by decide +kernel
theorem dX1_leastCost_0 : decode cX1_leastCost 0 = .ok (.aload_n 0, 1) := dk_42 (dk_at dksX1_leastCost_0 0 rfl rfl)
theorem dX1_leastCost_1 : decode cX1_leastCost 1 = .ok (.aload_n 0, 1) := dk_42 (dk_at dksX1_leastCost_0 1 rfl rfl)
theorem dX1_leastCost_2 : decode cX1_leastCost 2 = .ok (.getfield 130, 3) := dk_180 0 130 (dk_at dksX1_leastCost_0 2 rfl rfl)
theorem dX1_leastCost_5 : decode cX1_leastCost 5 = .ok (.invokevirtual 250, 3) := dk_182 0 250 (dk_at dksX1_leastCost_0 5 rfl rfl)
theorem dX1_leastCost_8 : decode cX1_leastCost 8 = .ok (.aload_n 0, 1) := dk_42 (dk_at dksX1_leastCost_0 8 rfl rfl)
theorem dX1_leastCost_9 : decode cX1_leastCost 9 = .ok (.iconst 0, 1) := dk_3 (dk_at dksX1_leastCost_0 9 rfl rfl)
theorem dX1_leastCost_10 : decode cX1_leastCost 10 = .ok (.aload_n 0, 1) := dk_42 (dk_at dksX1_leastCost_0 10 rfl rfl)
theorem dX1_leastCost_11 : decode cX1_leastCost 11 = .ok (.getfield 109, 3) := dk_180 0 109 (dk_at dksX1_leastCost_0 11 rfl rfl)
theorem dX1_leastCost_14 : decode cX1_leastCost 14 = .ok (.invokevirtual 232, 3) := dk_182 0 232 (dk_at dksX1_leastCost_0 14 rfl rfl)
theorem dX1_leastCost_17 : decode cX1_leastCost 17 = .ok (.ireturn, 1) := dk_172 (dk_at dksX1_leastCost_0 17 rfl rfl)
abbrev cX1_path : ByteArray := prog_7_method_75_code
def yX1_path : MethodName := ⟨RX1, "path", "(II)I"⟩
def dkwX1_path_2 : List UInt8 := [16, 155, 172]
abbrev dktX1_path_2 : List UInt8 := dkwX1_path_2 ++ []
def dkwX1_path_1 : List UInt8 := [27, 46, 4, 100, 184, 0, 73, 153, 0, 17, 42, 180, 0, 31, 16, 14, 27, 104, 28, 96, 46, 167, 0, 5]
abbrev dktX1_path_1 : List UInt8 := dkwX1_path_1 ++ dktX1_path_2
def dkwX1_path_0 : List UInt8 := [42, 180, 0, 130, 154, 0, 6, 16, 153, 172, 42, 27, 182, 0, 139, 153, 0, 33, 28, 3, 42, 180, 0, 28]
abbrev dktX1_path_0 : List UInt8 := dkwX1_path_0 ++ dktX1_path_1
theorem dksX1_path_0 : cX1_path.data.toList.drop 0 = dktX1_path_0 := by decide +kernel
theorem dksX1_path_1 : cX1_path.data.toList.drop 24 = dktX1_path_1 := dk_seg dksX1_path_0 24 rfl rfl
theorem dksX1_path_2 : cX1_path.data.toList.drop 48 = dktX1_path_2 := dk_seg dksX1_path_1 24 rfl rfl
theorem dX1_path_0 : decode cX1_path 0 = .ok (.aload_n 0, 1) := dk_42 (dk_at dksX1_path_0 0 rfl rfl)
theorem dX1_path_1 : decode cX1_path 1 = .ok (.getfield 130, 3) := dk_180 0 130 (dk_at dksX1_path_0 1 rfl rfl)
theorem dX1_path_4 : decode cX1_path 4 = .ok (.ifCond .ne 6, 3) := dk_154 0 6 (dk_at dksX1_path_0 4 rfl rfl)
theorem dX1_path_7 : decode cX1_path 7 = .ok (.bipush (-103), 2) := dk_16 153 (dk_at dksX1_path_0 7 rfl rfl)
theorem dX1_path_9 : decode cX1_path 9 = .ok (.ireturn, 1) := dk_172 (dk_at dksX1_path_0 9 rfl rfl)
theorem dX1_path_10 : decode cX1_path 10 = .ok (.aload_n 0, 1) := dk_42 (dk_at dksX1_path_0 10 rfl rfl)
theorem dX1_path_11 : decode cX1_path 11 = .ok (.iload_n 1, 1) := dk_27 (dk_at dksX1_path_0 11 rfl rfl)
theorem dX1_path_12 : decode cX1_path 12 = .ok (.invokevirtual 139, 3) := dk_182 0 139 (dk_at dksX1_path_0 12 rfl rfl)
theorem dX1_path_15 : decode cX1_path 15 = .ok (.ifCond .eq 33, 3) := dk_153 0 33 (dk_at dksX1_path_0 15 rfl rfl)
theorem dX1_path_18 : decode cX1_path 18 = .ok (.iload_n 2, 1) := dk_28 (dk_at dksX1_path_0 18 rfl rfl)
theorem dX1_path_19 : decode cX1_path 19 = .ok (.iconst 0, 1) := dk_3 (dk_at dksX1_path_0 19 rfl rfl)
theorem dX1_path_20 : decode cX1_path 20 = .ok (.aload_n 0, 1) := dk_42 (dk_at dksX1_path_0 20 rfl rfl)
theorem dX1_path_21 : decode cX1_path 21 = .ok (.getfield 28, 3) := dk_180 0 28 (dk_at dksX1_path_0 21 rfl rfl)
theorem dX1_path_24 : decode cX1_path 24 = .ok (.iload_n 1, 1) := dk_27 (dk_at dksX1_path_1 0 rfl rfl)
theorem dX1_path_25 : decode cX1_path 25 = .ok (.iaload, 1) := dk_46 (dk_at dksX1_path_1 1 rfl rfl)
theorem dX1_path_26 : decode cX1_path 26 = .ok (.iconst 1, 1) := dk_4 (dk_at dksX1_path_1 2 rfl rfl)
theorem dX1_path_27 : decode cX1_path 27 = .ok (.isub, 1) := dk_100 (dk_at dksX1_path_1 3 rfl rfl)
theorem dX1_path_28 : decode cX1_path 28 = .ok (.invokestatic 73, 3) := dk_184 0 73 (dk_at dksX1_path_1 4 rfl rfl)
theorem dX1_path_31 : decode cX1_path 31 = .ok (.ifCond .eq 17, 3) := dk_153 0 17 (dk_at dksX1_path_1 7 rfl rfl)
theorem dX1_path_34 : decode cX1_path 34 = .ok (.aload_n 0, 1) := dk_42 (dk_at dksX1_path_1 10 rfl rfl)
theorem dX1_path_35 : decode cX1_path 35 = .ok (.getfield 31, 3) := dk_180 0 31 (dk_at dksX1_path_1 11 rfl rfl)
theorem dX1_path_38 : decode cX1_path 38 = .ok (.bipush 14, 2) := dk_16 14 (dk_at dksX1_path_1 14 rfl rfl)
theorem dX1_path_40 : decode cX1_path 40 = .ok (.iload_n 1, 1) := dk_27 (dk_at dksX1_path_1 16 rfl rfl)
theorem dX1_path_41 : decode cX1_path 41 = .ok (.imul, 1) := dk_104 (dk_at dksX1_path_1 17 rfl rfl)
theorem dX1_path_42 : decode cX1_path 42 = .ok (.iload_n 2, 1) := dk_28 (dk_at dksX1_path_1 18 rfl rfl)
theorem dX1_path_43 : decode cX1_path 43 = .ok (.iadd, 1) := dk_96 (dk_at dksX1_path_1 19 rfl rfl)
theorem dX1_path_44 : decode cX1_path 44 = .ok (.iaload, 1) := dk_46 (dk_at dksX1_path_1 20 rfl rfl)
theorem dX1_path_45 : decode cX1_path 45 = .ok (.goto 5, 3) := dk_167 0 5 (dk_at dksX1_path_1 21 rfl rfl)
theorem dX1_path_48 : decode cX1_path 48 = .ok (.bipush (-101), 2) := dk_16 155 (dk_at dksX1_path_2 0 rfl rfl)
theorem dX1_path_50 : decode cX1_path 50 = .ok (.ireturn, 1) := dk_172 (dk_at dksX1_path_2 2 rfl rfl)
abbrev cX1_leads : ByteArray := prog_7_method_78_code
def yX1_leads : MethodName := ⟨RX1, "leads", "(I)I"⟩
def dkwX1_leads_4 : List UInt8 := [2, 172]
abbrev dktX1_leads_4 : List UInt8 := dkwX1_leads_4 ++ []
def dkwX1_leads_3 : List UInt8 := [132, 4, 1, 167, 255, 211, 28, 154, 0, 8, 16, 155, 167, 0, 13, 28, 4, 160, 0, 7, 29, 167, 0, 4]
abbrev dktX1_leads_3 : List UInt8 := dkwX1_leads_3 ++ dktX1_leads_4
def dkwX1_leads_2 : List UInt8 := [167, 0, 4, 3, 96, 61, 42, 21, 4, 182, 1, 21, 153, 0, 8, 21, 4, 167, 0, 4, 29, 62]
abbrev dktX1_leads_2 : List UInt8 := dkwX1_leads_2 ++ dktX1_leads_3
def dkwX1_leads_1 : List UInt8 := [62, 3, 54, 4, 21, 4, 42, 180, 0, 109, 162, 0, 42, 28, 42, 21, 4, 182, 1, 21, 153, 0, 7, 4]
abbrev dktX1_leads_1 : List UInt8 := dkwX1_leads_1 ++ dktX1_leads_2
def dkwX1_leads_0 : List UInt8 := [42, 180, 0, 130, 154, 0, 6, 16, 153, 172, 42, 27, 182, 1, 18, 154, 0, 6, 16, 155, 172, 3, 61, 2]
abbrev dktX1_leads_0 : List UInt8 := dkwX1_leads_0 ++ dktX1_leads_1
theorem dksX1_leads_0 : cX1_leads.data.toList.drop 0 = dktX1_leads_0 := by decide +kernel
theorem dksX1_leads_1 : cX1_leads.data.toList.drop 24 = dktX1_leads_1 := dk_seg dksX1_leads_0 24 rfl rfl
theorem dksX1_leads_2 : cX1_leads.data.toList.drop 48 = dktX1_leads_2 := dk_seg dksX1_leads_1 24 rfl rfl
theorem dksX1_leads_3 : cX1_leads.data.toList.drop 70 = dktX1_leads_3 := dk_seg dksX1_leads_2 22 rfl rfl
theorem dksX1_leads_4 : cX1_leads.data.toList.drop 94 = dktX1_leads_4 := dk_seg dksX1_leads_3 24 rfl rfl
theorem dX1_leads_0 : decode cX1_leads 0 = .ok (.aload_n 0, 1) := dk_42 (dk_at dksX1_leads_0 0 rfl rfl)
theorem dX1_leads_1 : decode cX1_leads 1 = .ok (.getfield 130, 3) := dk_180 0 130 (dk_at dksX1_leads_0 1 rfl rfl)
theorem dX1_leads_4 : decode cX1_leads 4 = .ok (.ifCond .ne 6, 3) := dk_154 0 6 (dk_at dksX1_leads_0 4 rfl rfl)
theorem dX1_leads_7 : decode cX1_leads 7 = .ok (.bipush (-103), 2) := dk_16 153 (dk_at dksX1_leads_0 7 rfl rfl)
theorem dX1_leads_9 : decode cX1_leads 9 = .ok (.ireturn, 1) := dk_172 (dk_at dksX1_leads_0 9 rfl rfl)
theorem dX1_leads_10 : decode cX1_leads 10 = .ok (.aload_n 0, 1) := dk_42 (dk_at dksX1_leads_0 10 rfl rfl)
theorem dX1_leads_11 : decode cX1_leads 11 = .ok (.iload_n 1, 1) := dk_27 (dk_at dksX1_leads_0 11 rfl rfl)
theorem dX1_leads_12 : decode cX1_leads 12 = .ok (.invokevirtual 274, 3) := dk_182 1 18 (dk_at dksX1_leads_0 12 rfl rfl)
theorem dX1_leads_15 : decode cX1_leads 15 = .ok (.ifCond .ne 6, 3) := dk_154 0 6 (dk_at dksX1_leads_0 15 rfl rfl)
theorem dX1_leads_18 : decode cX1_leads 18 = .ok (.bipush (-101), 2) := dk_16 155 (dk_at dksX1_leads_0 18 rfl rfl)
theorem dX1_leads_20 : decode cX1_leads 20 = .ok (.ireturn, 1) := dk_172 (dk_at dksX1_leads_0 20 rfl rfl)
theorem dX1_leads_21 : decode cX1_leads 21 = .ok (.iconst 0, 1) := dk_3 (dk_at dksX1_leads_0 21 rfl rfl)
theorem dX1_leads_22 : decode cX1_leads 22 = .ok (.istore_n 2, 1) := dk_61 (dk_at dksX1_leads_0 22 rfl rfl)
theorem dX1_leads_23 : decode cX1_leads 23 = .ok (.iconst (-1), 1) := dk_2 (dk_at dksX1_leads_0 23 rfl rfl)
theorem dX1_leads_24 : decode cX1_leads 24 = .ok (.istore_n 3, 1) := dk_62 (dk_at dksX1_leads_1 0 rfl rfl)
theorem dX1_leads_25 : decode cX1_leads 25 = .ok (.iconst 0, 1) := dk_3 (dk_at dksX1_leads_1 1 rfl rfl)
theorem dX1_leads_26 : decode cX1_leads 26 = .ok (.istore 4, 2) := dk_54 4 (dk_at dksX1_leads_1 2 rfl rfl)
theorem dX1_leads_28 : decode cX1_leads 28 = .ok (.iload 4, 2) := dk_21 4 (dk_at dksX1_leads_1 4 rfl rfl)
theorem dX1_leads_30 : decode cX1_leads 30 = .ok (.aload_n 0, 1) := dk_42 (dk_at dksX1_leads_1 6 rfl rfl)
theorem dX1_leads_31 : decode cX1_leads 31 = .ok (.getfield 109, 3) := dk_180 0 109 (dk_at dksX1_leads_1 7 rfl rfl)
theorem dX1_leads_34 : decode cX1_leads 34 = .ok (.if_icmp .ge 42, 3) := dk_162 0 42 (dk_at dksX1_leads_1 10 rfl rfl)
theorem dX1_leads_37 : decode cX1_leads 37 = .ok (.iload_n 2, 1) := dk_28 (dk_at dksX1_leads_1 13 rfl rfl)
theorem dX1_leads_38 : decode cX1_leads 38 = .ok (.aload_n 0, 1) := dk_42 (dk_at dksX1_leads_1 14 rfl rfl)
theorem dX1_leads_39 : decode cX1_leads 39 = .ok (.iload 4, 2) := dk_21 4 (dk_at dksX1_leads_1 15 rfl rfl)
theorem dX1_leads_41 : decode cX1_leads 41 = .ok (.invokevirtual 277, 3) := dk_182 1 21 (dk_at dksX1_leads_1 17 rfl rfl)
theorem dX1_leads_44 : decode cX1_leads 44 = .ok (.ifCond .eq 7, 3) := dk_153 0 7 (dk_at dksX1_leads_1 20 rfl rfl)
theorem dX1_leads_47 : decode cX1_leads 47 = .ok (.iconst 1, 1) := dk_4 (dk_at dksX1_leads_1 23 rfl rfl)
theorem dX1_leads_48 : decode cX1_leads 48 = .ok (.goto 4, 3) := dk_167 0 4 (dk_at dksX1_leads_2 0 rfl rfl)
theorem dX1_leads_51 : decode cX1_leads 51 = .ok (.iconst 0, 1) := dk_3 (dk_at dksX1_leads_2 3 rfl rfl)
theorem dX1_leads_52 : decode cX1_leads 52 = .ok (.iadd, 1) := dk_96 (dk_at dksX1_leads_2 4 rfl rfl)
theorem dX1_leads_53 : decode cX1_leads 53 = .ok (.istore_n 2, 1) := dk_61 (dk_at dksX1_leads_2 5 rfl rfl)
theorem dX1_leads_54 : decode cX1_leads 54 = .ok (.aload_n 0, 1) := dk_42 (dk_at dksX1_leads_2 6 rfl rfl)
theorem dX1_leads_55 : decode cX1_leads 55 = .ok (.iload 4, 2) := dk_21 4 (dk_at dksX1_leads_2 7 rfl rfl)
theorem dX1_leads_57 : decode cX1_leads 57 = .ok (.invokevirtual 277, 3) := dk_182 1 21 (dk_at dksX1_leads_2 9 rfl rfl)
theorem dX1_leads_60 : decode cX1_leads 60 = .ok (.ifCond .eq 8, 3) := dk_153 0 8 (dk_at dksX1_leads_2 12 rfl rfl)
theorem dX1_leads_63 : decode cX1_leads 63 = .ok (.iload 4, 2) := dk_21 4 (dk_at dksX1_leads_2 15 rfl rfl)
theorem dX1_leads_65 : decode cX1_leads 65 = .ok (.goto 4, 3) := dk_167 0 4 (dk_at dksX1_leads_2 17 rfl rfl)
theorem dX1_leads_68 : decode cX1_leads 68 = .ok (.iload_n 3, 1) := dk_29 (dk_at dksX1_leads_2 20 rfl rfl)
theorem dX1_leads_69 : decode cX1_leads 69 = .ok (.istore_n 3, 1) := dk_62 (dk_at dksX1_leads_2 21 rfl rfl)
theorem dX1_leads_70 : decode cX1_leads 70 = .ok (.iinc 4 1, 3) := dk_132 4 1 (dk_at dksX1_leads_3 0 rfl rfl)
theorem dX1_leads_73 : decode cX1_leads 73 = .ok (.goto (-45), 3) := dk_167 255 211 (dk_at dksX1_leads_3 3 rfl rfl)
theorem dX1_leads_76 : decode cX1_leads 76 = .ok (.iload_n 2, 1) := dk_28 (dk_at dksX1_leads_3 6 rfl rfl)
theorem dX1_leads_77 : decode cX1_leads 77 = .ok (.ifCond .ne 8, 3) := dk_154 0 8 (dk_at dksX1_leads_3 7 rfl rfl)
theorem dX1_leads_80 : decode cX1_leads 80 = .ok (.bipush (-101), 2) := dk_16 155 (dk_at dksX1_leads_3 10 rfl rfl)
theorem dX1_leads_82 : decode cX1_leads 82 = .ok (.goto 13, 3) := dk_167 0 13 (dk_at dksX1_leads_3 12 rfl rfl)
theorem dX1_leads_85 : decode cX1_leads 85 = .ok (.iload_n 2, 1) := dk_28 (dk_at dksX1_leads_3 15 rfl rfl)
theorem dX1_leads_86 : decode cX1_leads 86 = .ok (.iconst 1, 1) := dk_4 (dk_at dksX1_leads_3 16 rfl rfl)
theorem dX1_leads_87 : decode cX1_leads 87 = .ok (.if_icmp .ne 7, 3) := dk_160 0 7 (dk_at dksX1_leads_3 17 rfl rfl)
theorem dX1_leads_90 : decode cX1_leads 90 = .ok (.iload_n 3, 1) := dk_29 (dk_at dksX1_leads_3 20 rfl rfl)
theorem dX1_leads_91 : decode cX1_leads 91 = .ok (.goto 4, 3) := dk_167 0 4 (dk_at dksX1_leads_3 21 rfl rfl)
theorem dX1_leads_94 : decode cX1_leads 94 = .ok (.iconst (-1), 1) := dk_2 (dk_at dksX1_leads_4 0 rfl rfl)
theorem dX1_leads_95 : decode cX1_leads 95 = .ok (.ireturn, 1) := dk_172 (dk_at dksX1_leads_4 1 rfl rfl)
abbrev cX1_layAsked : ByteArray := prog_7_method_76_code
def yX1_layAsked : MethodName := ⟨RX1, "layAsked", "(I)Z"⟩
def dkwX1_layAsked_3 : List UInt8 := [180, 0, 70, 21, 5, 46, 158, 0, 7, 4, 167, 0, 4, 3, 62, 132, 5, 255, 167, 255, 209, 29, 172]
abbrev dktX1_layAsked_3 : List UInt8 := dkwX1_layAsked_3 ++ []
def dkwX1_layAsked_2 : List UInt8 := [180, 0, 70, 21, 5, 21, 4, 16, 10, 112, 79, 21, 4, 16, 10, 108, 54, 4, 29, 153, 0, 17, 42]
abbrev dktX1_layAsked_2 : List UInt8 := dkwX1_layAsked_2 ++ dktX1_layAsked_3
def dkwX1_layAsked_1 : List UInt8 := [27, 155, 0, 7, 4, 167, 0, 4, 3, 62, 27, 54, 4, 28, 4, 100, 54, 5, 21, 5, 155, 0, 48, 42]
abbrev dktX1_layAsked_1 : List UInt8 := dkwX1_layAsked_1 ++ dktX1_layAsked_2
def dkwX1_layAsked_0 : List UInt8 := [3, 61, 27, 62, 29, 158, 0, 14, 132, 2, 1, 29, 16, 10, 108, 62, 167, 255, 244, 42, 28, 181, 1, 15]
abbrev dktX1_layAsked_0 : List UInt8 := dkwX1_layAsked_0 ++ dktX1_layAsked_1
theorem dksX1_layAsked_0 : cX1_layAsked.data.toList.drop 0 = dktX1_layAsked_0 := by decide +kernel
theorem dksX1_layAsked_1 : cX1_layAsked.data.toList.drop 24 = dktX1_layAsked_1 := dk_seg dksX1_layAsked_0 24 rfl rfl
theorem dksX1_layAsked_2 : cX1_layAsked.data.toList.drop 48 = dktX1_layAsked_2 := dk_seg dksX1_layAsked_1 24 rfl rfl
theorem dksX1_layAsked_3 : cX1_layAsked.data.toList.drop 71 = dktX1_layAsked_3 := dk_seg dksX1_layAsked_2 23 rfl rfl
theorem dX1_layAsked_0 : decode cX1_layAsked 0 = .ok (.iconst 0, 1) := dk_3 (dk_at dksX1_layAsked_0 0 rfl rfl)
theorem dX1_layAsked_1 : decode cX1_layAsked 1 = .ok (.istore_n 2, 1) := dk_61 (dk_at dksX1_layAsked_0 1 rfl rfl)
theorem dX1_layAsked_2 : decode cX1_layAsked 2 = .ok (.iload_n 1, 1) := dk_27 (dk_at dksX1_layAsked_0 2 rfl rfl)
theorem dX1_layAsked_3 : decode cX1_layAsked 3 = .ok (.istore_n 3, 1) := dk_62 (dk_at dksX1_layAsked_0 3 rfl rfl)
theorem dX1_layAsked_4 : decode cX1_layAsked 4 = .ok (.iload_n 3, 1) := dk_29 (dk_at dksX1_layAsked_0 4 rfl rfl)
theorem dX1_layAsked_5 : decode cX1_layAsked 5 = .ok (.ifCond .le 14, 3) := dk_158 0 14 (dk_at dksX1_layAsked_0 5 rfl rfl)
theorem dX1_layAsked_8 : decode cX1_layAsked 8 = .ok (.iinc 2 1, 3) := dk_132 2 1 (dk_at dksX1_layAsked_0 8 rfl rfl)
theorem dX1_layAsked_11 : decode cX1_layAsked 11 = .ok (.iload_n 3, 1) := dk_29 (dk_at dksX1_layAsked_0 11 rfl rfl)
theorem dX1_layAsked_12 : decode cX1_layAsked 12 = .ok (.bipush 10, 2) := dk_16 10 (dk_at dksX1_layAsked_0 12 rfl rfl)
theorem dX1_layAsked_14 : decode cX1_layAsked 14 = .ok (.idiv, 1) := dk_108 (dk_at dksX1_layAsked_0 14 rfl rfl)
theorem dX1_layAsked_15 : decode cX1_layAsked 15 = .ok (.istore_n 3, 1) := dk_62 (dk_at dksX1_layAsked_0 15 rfl rfl)
theorem dX1_layAsked_16 : decode cX1_layAsked 16 = .ok (.goto (-12), 3) := dk_167 255 244 (dk_at dksX1_layAsked_0 16 rfl rfl)
theorem dX1_layAsked_19 : decode cX1_layAsked 19 = .ok (.aload_n 0, 1) := dk_42 (dk_at dksX1_layAsked_0 19 rfl rfl)
theorem dX1_layAsked_20 : decode cX1_layAsked 20 = .ok (.iload_n 2, 1) := dk_28 (dk_at dksX1_layAsked_0 20 rfl rfl)
theorem dX1_layAsked_21 : decode cX1_layAsked 21 = .ok (.putfield 271, 3) := dk_181 1 15 (dk_at dksX1_layAsked_0 21 rfl rfl)
theorem dX1_layAsked_24 : decode cX1_layAsked 24 = .ok (.iload_n 1, 1) := dk_27 (dk_at dksX1_layAsked_1 0 rfl rfl)
theorem dX1_layAsked_25 : decode cX1_layAsked 25 = .ok (.ifCond .lt 7, 3) := dk_155 0 7 (dk_at dksX1_layAsked_1 1 rfl rfl)
theorem dX1_layAsked_28 : decode cX1_layAsked 28 = .ok (.iconst 1, 1) := dk_4 (dk_at dksX1_layAsked_1 4 rfl rfl)
theorem dX1_layAsked_29 : decode cX1_layAsked 29 = .ok (.goto 4, 3) := dk_167 0 4 (dk_at dksX1_layAsked_1 5 rfl rfl)
theorem dX1_layAsked_32 : decode cX1_layAsked 32 = .ok (.iconst 0, 1) := dk_3 (dk_at dksX1_layAsked_1 8 rfl rfl)
theorem dX1_layAsked_33 : decode cX1_layAsked 33 = .ok (.istore_n 3, 1) := dk_62 (dk_at dksX1_layAsked_1 9 rfl rfl)
theorem dX1_layAsked_34 : decode cX1_layAsked 34 = .ok (.iload_n 1, 1) := dk_27 (dk_at dksX1_layAsked_1 10 rfl rfl)
theorem dX1_layAsked_35 : decode cX1_layAsked 35 = .ok (.istore 4, 2) := dk_54 4 (dk_at dksX1_layAsked_1 11 rfl rfl)
theorem dX1_layAsked_37 : decode cX1_layAsked 37 = .ok (.iload_n 2, 1) := dk_28 (dk_at dksX1_layAsked_1 13 rfl rfl)
theorem dX1_layAsked_38 : decode cX1_layAsked 38 = .ok (.iconst 1, 1) := dk_4 (dk_at dksX1_layAsked_1 14 rfl rfl)
theorem dX1_layAsked_39 : decode cX1_layAsked 39 = .ok (.isub, 1) := dk_100 (dk_at dksX1_layAsked_1 15 rfl rfl)
theorem dX1_layAsked_40 : decode cX1_layAsked 40 = .ok (.istore 5, 2) := dk_54 5 (dk_at dksX1_layAsked_1 16 rfl rfl)
theorem dX1_layAsked_42 : decode cX1_layAsked 42 = .ok (.iload 5, 2) := dk_21 5 (dk_at dksX1_layAsked_1 18 rfl rfl)
theorem dX1_layAsked_44 : decode cX1_layAsked 44 = .ok (.ifCond .lt 48, 3) := dk_155 0 48 (dk_at dksX1_layAsked_1 20 rfl rfl)
theorem dX1_layAsked_47 : decode cX1_layAsked 47 = .ok (.aload_n 0, 1) := dk_42 (dk_at dksX1_layAsked_1 23 rfl rfl)
theorem dX1_layAsked_48 : decode cX1_layAsked 48 = .ok (.getfield 70, 3) := dk_180 0 70 (dk_at dksX1_layAsked_2 0 rfl rfl)
theorem dX1_layAsked_51 : decode cX1_layAsked 51 = .ok (.iload 5, 2) := dk_21 5 (dk_at dksX1_layAsked_2 3 rfl rfl)
theorem dX1_layAsked_53 : decode cX1_layAsked 53 = .ok (.iload 4, 2) := dk_21 4 (dk_at dksX1_layAsked_2 5 rfl rfl)
theorem dX1_layAsked_55 : decode cX1_layAsked 55 = .ok (.bipush 10, 2) := dk_16 10 (dk_at dksX1_layAsked_2 7 rfl rfl)
theorem dX1_layAsked_57 : decode cX1_layAsked 57 = .ok (.irem, 1) := dk_112 (dk_at dksX1_layAsked_2 9 rfl rfl)
theorem dX1_layAsked_58 : decode cX1_layAsked 58 = .ok (.iastore, 1) := dk_79 (dk_at dksX1_layAsked_2 10 rfl rfl)
theorem dX1_layAsked_59 : decode cX1_layAsked 59 = .ok (.iload 4, 2) := dk_21 4 (dk_at dksX1_layAsked_2 11 rfl rfl)
theorem dX1_layAsked_61 : decode cX1_layAsked 61 = .ok (.bipush 10, 2) := dk_16 10 (dk_at dksX1_layAsked_2 13 rfl rfl)
theorem dX1_layAsked_63 : decode cX1_layAsked 63 = .ok (.idiv, 1) := dk_108 (dk_at dksX1_layAsked_2 15 rfl rfl)
theorem dX1_layAsked_64 : decode cX1_layAsked 64 = .ok (.istore 4, 2) := dk_54 4 (dk_at dksX1_layAsked_2 16 rfl rfl)
theorem dX1_layAsked_66 : decode cX1_layAsked 66 = .ok (.iload_n 3, 1) := dk_29 (dk_at dksX1_layAsked_2 18 rfl rfl)
theorem dX1_layAsked_67 : decode cX1_layAsked 67 = .ok (.ifCond .eq 17, 3) := dk_153 0 17 (dk_at dksX1_layAsked_2 19 rfl rfl)
theorem dX1_layAsked_70 : decode cX1_layAsked 70 = .ok (.aload_n 0, 1) := dk_42 (dk_at dksX1_layAsked_2 22 rfl rfl)
theorem dX1_layAsked_71 : decode cX1_layAsked 71 = .ok (.getfield 70, 3) := dk_180 0 70 (dk_at dksX1_layAsked_3 0 rfl rfl)
theorem dX1_layAsked_74 : decode cX1_layAsked 74 = .ok (.iload 5, 2) := dk_21 5 (dk_at dksX1_layAsked_3 3 rfl rfl)
theorem dX1_layAsked_76 : decode cX1_layAsked 76 = .ok (.iaload, 1) := dk_46 (dk_at dksX1_layAsked_3 5 rfl rfl)
theorem dX1_layAsked_77 : decode cX1_layAsked 77 = .ok (.ifCond .le 7, 3) := dk_158 0 7 (dk_at dksX1_layAsked_3 6 rfl rfl)
theorem dX1_layAsked_80 : decode cX1_layAsked 80 = .ok (.iconst 1, 1) := dk_4 (dk_at dksX1_layAsked_3 9 rfl rfl)
theorem dX1_layAsked_81 : decode cX1_layAsked 81 = .ok (.goto 4, 3) := dk_167 0 4 (dk_at dksX1_layAsked_3 10 rfl rfl)
theorem dX1_layAsked_84 : decode cX1_layAsked 84 = .ok (.iconst 0, 1) := dk_3 (dk_at dksX1_layAsked_3 13 rfl rfl)
theorem dX1_layAsked_85 : decode cX1_layAsked 85 = .ok (.istore_n 3, 1) := dk_62 (dk_at dksX1_layAsked_3 14 rfl rfl)
theorem dX1_layAsked_86 : decode cX1_layAsked 86 = .ok (.iinc 5 (-1), 3) := dk_132 5 255 (dk_at dksX1_layAsked_3 15 rfl rfl)
theorem dX1_layAsked_89 : decode cX1_layAsked 89 = .ok (.goto (-47), 3) := dk_167 255 209 (dk_at dksX1_layAsked_3 18 rfl rfl)
theorem dX1_layAsked_92 : decode cX1_layAsked 92 = .ok (.iload_n 3, 1) := dk_29 (dk_at dksX1_layAsked_3 21 rfl rfl)
theorem dX1_layAsked_93 : decode cX1_layAsked 93 = .ok (.ireturn, 1) := dk_172 (dk_at dksX1_layAsked_3 22 rfl rfl)
abbrev cX1_isLed : ByteArray := prog_7_method_77_code
def yX1_isLed : MethodName := ⟨RX1, "isLed", "(I)Z"⟩
def dkwX1_isLed_2 : List UInt8 := [180, 0, 70, 29, 46, 160, 0, 7, 4, 167, 0, 4, 3, 61, 132, 3, 1, 167, 255, 215, 28, 172]
abbrev dktX1_isLed_2 : List UInt8 := dkwX1_isLed_2 ++ []
def dkwX1_isLed_1 : List UInt8 := [180, 1, 15, 162, 0, 39, 28, 153, 0, 35, 42, 180, 0, 31, 16, 14, 27, 104, 29, 96, 46, 42]
abbrev dktX1_isLed_1 : List UInt8 := dkwX1_isLed_1 ++ dktX1_isLed_2
def dkwX1_isLed_0 : List UInt8 := [42, 180, 1, 15, 42, 180, 0, 28, 27, 46, 163, 0, 7, 4, 167, 0, 4, 3, 61, 3, 62, 29, 42]
abbrev dktX1_isLed_0 : List UInt8 := dkwX1_isLed_0 ++ dktX1_isLed_1
theorem dksX1_isLed_0 : cX1_isLed.data.toList.drop 0 = dktX1_isLed_0 := by decide +kernel
theorem dksX1_isLed_1 : cX1_isLed.data.toList.drop 23 = dktX1_isLed_1 := dk_seg dksX1_isLed_0 23 rfl rfl
theorem dksX1_isLed_2 : cX1_isLed.data.toList.drop 45 = dktX1_isLed_2 := dk_seg dksX1_isLed_1 22 rfl rfl
theorem dX1_isLed_0 : decode cX1_isLed 0 = .ok (.aload_n 0, 1) := dk_42 (dk_at dksX1_isLed_0 0 rfl rfl)
theorem dX1_isLed_1 : decode cX1_isLed 1 = .ok (.getfield 271, 3) := dk_180 1 15 (dk_at dksX1_isLed_0 1 rfl rfl)
theorem dX1_isLed_4 : decode cX1_isLed 4 = .ok (.aload_n 0, 1) := dk_42 (dk_at dksX1_isLed_0 4 rfl rfl)
theorem dX1_isLed_5 : decode cX1_isLed 5 = .ok (.getfield 28, 3) := dk_180 0 28 (dk_at dksX1_isLed_0 5 rfl rfl)
theorem dX1_isLed_8 : decode cX1_isLed 8 = .ok (.iload_n 1, 1) := dk_27 (dk_at dksX1_isLed_0 8 rfl rfl)
theorem dX1_isLed_9 : decode cX1_isLed 9 = .ok (.iaload, 1) := dk_46 (dk_at dksX1_isLed_0 9 rfl rfl)
theorem dX1_isLed_10 : decode cX1_isLed 10 = .ok (.if_icmp .gt 7, 3) := dk_163 0 7 (dk_at dksX1_isLed_0 10 rfl rfl)
theorem dX1_isLed_13 : decode cX1_isLed 13 = .ok (.iconst 1, 1) := dk_4 (dk_at dksX1_isLed_0 13 rfl rfl)
theorem dX1_isLed_14 : decode cX1_isLed 14 = .ok (.goto 4, 3) := dk_167 0 4 (dk_at dksX1_isLed_0 14 rfl rfl)
theorem dX1_isLed_17 : decode cX1_isLed 17 = .ok (.iconst 0, 1) := dk_3 (dk_at dksX1_isLed_0 17 rfl rfl)
theorem dX1_isLed_18 : decode cX1_isLed 18 = .ok (.istore_n 2, 1) := dk_61 (dk_at dksX1_isLed_0 18 rfl rfl)
theorem dX1_isLed_19 : decode cX1_isLed 19 = .ok (.iconst 0, 1) := dk_3 (dk_at dksX1_isLed_0 19 rfl rfl)
theorem dX1_isLed_20 : decode cX1_isLed 20 = .ok (.istore_n 3, 1) := dk_62 (dk_at dksX1_isLed_0 20 rfl rfl)
theorem dX1_isLed_21 : decode cX1_isLed 21 = .ok (.iload_n 3, 1) := dk_29 (dk_at dksX1_isLed_0 21 rfl rfl)
theorem dX1_isLed_22 : decode cX1_isLed 22 = .ok (.aload_n 0, 1) := dk_42 (dk_at dksX1_isLed_0 22 rfl rfl)
theorem dX1_isLed_23 : decode cX1_isLed 23 = .ok (.getfield 271, 3) := dk_180 1 15 (dk_at dksX1_isLed_1 0 rfl rfl)
theorem dX1_isLed_26 : decode cX1_isLed 26 = .ok (.if_icmp .ge 39, 3) := dk_162 0 39 (dk_at dksX1_isLed_1 3 rfl rfl)
theorem dX1_isLed_29 : decode cX1_isLed 29 = .ok (.iload_n 2, 1) := dk_28 (dk_at dksX1_isLed_1 6 rfl rfl)
theorem dX1_isLed_30 : decode cX1_isLed 30 = .ok (.ifCond .eq 35, 3) := dk_153 0 35 (dk_at dksX1_isLed_1 7 rfl rfl)
theorem dX1_isLed_33 : decode cX1_isLed 33 = .ok (.aload_n 0, 1) := dk_42 (dk_at dksX1_isLed_1 10 rfl rfl)
theorem dX1_isLed_34 : decode cX1_isLed 34 = .ok (.getfield 31, 3) := dk_180 0 31 (dk_at dksX1_isLed_1 11 rfl rfl)
theorem dX1_isLed_37 : decode cX1_isLed 37 = .ok (.bipush 14, 2) := dk_16 14 (dk_at dksX1_isLed_1 14 rfl rfl)
theorem dX1_isLed_39 : decode cX1_isLed 39 = .ok (.iload_n 1, 1) := dk_27 (dk_at dksX1_isLed_1 16 rfl rfl)
theorem dX1_isLed_40 : decode cX1_isLed 40 = .ok (.imul, 1) := dk_104 (dk_at dksX1_isLed_1 17 rfl rfl)
theorem dX1_isLed_41 : decode cX1_isLed 41 = .ok (.iload_n 3, 1) := dk_29 (dk_at dksX1_isLed_1 18 rfl rfl)
theorem dX1_isLed_42 : decode cX1_isLed 42 = .ok (.iadd, 1) := dk_96 (dk_at dksX1_isLed_1 19 rfl rfl)
theorem dX1_isLed_43 : decode cX1_isLed 43 = .ok (.iaload, 1) := dk_46 (dk_at dksX1_isLed_1 20 rfl rfl)
theorem dX1_isLed_44 : decode cX1_isLed 44 = .ok (.aload_n 0, 1) := dk_42 (dk_at dksX1_isLed_1 21 rfl rfl)
theorem dX1_isLed_45 : decode cX1_isLed 45 = .ok (.getfield 70, 3) := dk_180 0 70 (dk_at dksX1_isLed_2 0 rfl rfl)
theorem dX1_isLed_48 : decode cX1_isLed 48 = .ok (.iload_n 3, 1) := dk_29 (dk_at dksX1_isLed_2 3 rfl rfl)
theorem dX1_isLed_49 : decode cX1_isLed 49 = .ok (.iaload, 1) := dk_46 (dk_at dksX1_isLed_2 4 rfl rfl)
theorem dX1_isLed_50 : decode cX1_isLed 50 = .ok (.if_icmp .ne 7, 3) := dk_160 0 7 (dk_at dksX1_isLed_2 5 rfl rfl)
theorem dX1_isLed_53 : decode cX1_isLed 53 = .ok (.iconst 1, 1) := dk_4 (dk_at dksX1_isLed_2 8 rfl rfl)
theorem dX1_isLed_54 : decode cX1_isLed 54 = .ok (.goto 4, 3) := dk_167 0 4 (dk_at dksX1_isLed_2 9 rfl rfl)
theorem dX1_isLed_57 : decode cX1_isLed 57 = .ok (.iconst 0, 1) := dk_3 (dk_at dksX1_isLed_2 12 rfl rfl)
theorem dX1_isLed_58 : decode cX1_isLed 58 = .ok (.istore_n 2, 1) := dk_61 (dk_at dksX1_isLed_2 13 rfl rfl)
theorem dX1_isLed_59 : decode cX1_isLed 59 = .ok (.iinc 3 1, 3) := dk_132 3 1 (dk_at dksX1_isLed_2 14 rfl rfl)
theorem dX1_isLed_62 : decode cX1_isLed 62 = .ok (.goto (-41), 3) := dk_167 255 215 (dk_at dksX1_isLed_2 17 rfl rfl)
theorem dX1_isLed_65 : decode cX1_isLed 65 = .ok (.iload_n 2, 1) := dk_28 (dk_at dksX1_isLed_2 20 rfl rfl)
theorem dX1_isLed_66 : decode cX1_isLed 66 = .ok (.ireturn, 1) := dk_172 (dk_at dksX1_isLed_2 21 rfl rfl)
abbrev cX1_menu : ByteArray := prog_7_method_84_code
def yX1_menu : MethodName := ⟨RX1, "menu", "(I)I"⟩
def dkwX1_menu_1 : List UInt8 := [182, 1, 36, 167, 0, 5, 16, 154, 172]
abbrev dktX1_menu_1 : List UInt8 := dkwX1_menu_1 ++ []
def dkwX1_menu_0 : List UInt8 := [42, 180, 0, 130, 154, 0, 6, 16, 153, 172, 27, 3, 16, 6, 184, 0, 73, 153, 0, 11, 42, 27]
abbrev dktX1_menu_0 : List UInt8 := dkwX1_menu_0 ++ dktX1_menu_1
theorem dksX1_menu_0 : cX1_menu.data.toList.drop 0 = dktX1_menu_0 := by decide +kernel
theorem dksX1_menu_1 : cX1_menu.data.toList.drop 22 = dktX1_menu_1 := dk_seg dksX1_menu_0 22 rfl rfl
theorem dX1_menu_0 : decode cX1_menu 0 = .ok (.aload_n 0, 1) := dk_42 (dk_at dksX1_menu_0 0 rfl rfl)
theorem dX1_menu_1 : decode cX1_menu 1 = .ok (.getfield 130, 3) := dk_180 0 130 (dk_at dksX1_menu_0 1 rfl rfl)
theorem dX1_menu_4 : decode cX1_menu 4 = .ok (.ifCond .ne 6, 3) := dk_154 0 6 (dk_at dksX1_menu_0 4 rfl rfl)
theorem dX1_menu_7 : decode cX1_menu 7 = .ok (.bipush (-103), 2) := dk_16 153 (dk_at dksX1_menu_0 7 rfl rfl)
theorem dX1_menu_9 : decode cX1_menu 9 = .ok (.ireturn, 1) := dk_172 (dk_at dksX1_menu_0 9 rfl rfl)
theorem dX1_menu_10 : decode cX1_menu 10 = .ok (.iload_n 1, 1) := dk_27 (dk_at dksX1_menu_0 10 rfl rfl)
theorem dX1_menu_11 : decode cX1_menu 11 = .ok (.iconst 0, 1) := dk_3 (dk_at dksX1_menu_0 11 rfl rfl)
theorem dX1_menu_12 : decode cX1_menu 12 = .ok (.bipush 6, 2) := dk_16 6 (dk_at dksX1_menu_0 12 rfl rfl)
theorem dX1_menu_14 : decode cX1_menu 14 = .ok (.invokestatic 73, 3) := dk_184 0 73 (dk_at dksX1_menu_0 14 rfl rfl)
theorem dX1_menu_17 : decode cX1_menu 17 = .ok (.ifCond .eq 11, 3) := dk_153 0 11 (dk_at dksX1_menu_0 17 rfl rfl)
theorem dX1_menu_20 : decode cX1_menu 20 = .ok (.aload_n 0, 1) := dk_42 (dk_at dksX1_menu_0 20 rfl rfl)
theorem dX1_menu_21 : decode cX1_menu 21 = .ok (.iload_n 1, 1) := dk_27 (dk_at dksX1_menu_0 21 rfl rfl)
theorem dX1_menu_22 : decode cX1_menu 22 = .ok (.invokevirtual 292, 3) := dk_182 1 36 (dk_at dksX1_menu_1 0 rfl rfl)
theorem dX1_menu_25 : decode cX1_menu 25 = .ok (.goto 5, 3) := dk_167 0 5 (dk_at dksX1_menu_1 3 rfl rfl)
theorem dX1_menu_28 : decode cX1_menu 28 = .ok (.bipush (-102), 2) := dk_16 154 (dk_at dksX1_menu_1 6 rfl rfl)
theorem dX1_menu_30 : decode cX1_menu 30 = .ok (.ireturn, 1) := dk_172 (dk_at dksX1_menu_1 8 rfl rfl)
abbrev cX1_menuNow : ByteArray := prog_7_method_83_code
def yX1_menuNow : MethodName := ⟨RX1, "menuNow", "(I)I"⟩
def dkwX1_menuNow_3 : List UInt8 := [172, 42, 182, 1, 33, 172, 42, 180, 1, 3, 172]
abbrev dktX1_menuNow_3 : List UInt8 := dkwX1_menuNow_3 ++ []
def dkwX1_menuNow_2 : List UInt8 := [42, 180, 0, 130, 172, 42, 182, 1, 9, 172, 42, 182, 1, 12, 172, 42, 182, 1, 27, 172, 42, 182, 1, 30]
abbrev dktX1_menuNow_2 : List UInt8 := dkwX1_menuNow_2 ++ dktX1_menuNow_3
def dkwX1_menuNow_1 : List UInt8 := [170, 0, 0, 0, 0, 0, 69, 0, 0, 0, 0, 0, 0, 0, 5, 0, 0, 0, 39, 0, 0, 0, 44, 0, 0, 0, 49, 0, 0, 0, 54, 0, 0, 0, 59, 0, 0, 0, 64]
abbrev dktX1_menuNow_1 : List UInt8 := dkwX1_menuNow_1 ++ dktX1_menuNow_2
def dkwX1_menuNow_0 : List UInt8 := [27]
abbrev dktX1_menuNow_0 : List UInt8 := dkwX1_menuNow_0 ++ dktX1_menuNow_1
theorem dksX1_menuNow_0 : cX1_menuNow.data.toList.drop 0 = dktX1_menuNow_0 := by decide +kernel
theorem dksX1_menuNow_1 : cX1_menuNow.data.toList.drop 1 = dktX1_menuNow_1 := dk_seg dksX1_menuNow_0 1 rfl rfl
theorem dksX1_menuNow_2 : cX1_menuNow.data.toList.drop 40 = dktX1_menuNow_2 := dk_seg dksX1_menuNow_1 39 rfl rfl
theorem dksX1_menuNow_3 : cX1_menuNow.data.toList.drop 64 = dktX1_menuNow_3 := dk_seg dksX1_menuNow_2 24 rfl rfl
theorem dX1_menuNow_0 : decode cX1_menuNow 0 = .ok (.iload_n 1, 1) := dk_27 (dk_at dksX1_menuNow_0 0 rfl rfl)
theorem dX1_menuNow_1 : decode cX1_menuNow 1 = .ok (.tableswitch 69 0 5 #[39, 44, 49, 54, 59, 64], 39) := by decide +kernel
theorem dX1_menuNow_40 : decode cX1_menuNow 40 = .ok (.aload_n 0, 1) := dk_42 (dk_at dksX1_menuNow_2 0 rfl rfl)
theorem dX1_menuNow_41 : decode cX1_menuNow 41 = .ok (.getfield 130, 3) := dk_180 0 130 (dk_at dksX1_menuNow_2 1 rfl rfl)
theorem dX1_menuNow_44 : decode cX1_menuNow 44 = .ok (.ireturn, 1) := dk_172 (dk_at dksX1_menuNow_2 4 rfl rfl)
theorem dX1_menuNow_45 : decode cX1_menuNow 45 = .ok (.aload_n 0, 1) := dk_42 (dk_at dksX1_menuNow_2 5 rfl rfl)
theorem dX1_menuNow_46 : decode cX1_menuNow 46 = .ok (.invokevirtual 265, 3) := dk_182 1 9 (dk_at dksX1_menuNow_2 6 rfl rfl)
theorem dX1_menuNow_49 : decode cX1_menuNow 49 = .ok (.ireturn, 1) := dk_172 (dk_at dksX1_menuNow_2 9 rfl rfl)
theorem dX1_menuNow_50 : decode cX1_menuNow 50 = .ok (.aload_n 0, 1) := dk_42 (dk_at dksX1_menuNow_2 10 rfl rfl)
theorem dX1_menuNow_51 : decode cX1_menuNow 51 = .ok (.invokevirtual 268, 3) := dk_182 1 12 (dk_at dksX1_menuNow_2 11 rfl rfl)
theorem dX1_menuNow_54 : decode cX1_menuNow 54 = .ok (.ireturn, 1) := dk_172 (dk_at dksX1_menuNow_2 14 rfl rfl)
theorem dX1_menuNow_55 : decode cX1_menuNow 55 = .ok (.aload_n 0, 1) := dk_42 (dk_at dksX1_menuNow_2 15 rfl rfl)
theorem dX1_menuNow_56 : decode cX1_menuNow 56 = .ok (.invokevirtual 283, 3) := dk_182 1 27 (dk_at dksX1_menuNow_2 16 rfl rfl)
theorem dX1_menuNow_59 : decode cX1_menuNow 59 = .ok (.ireturn, 1) := dk_172 (dk_at dksX1_menuNow_2 19 rfl rfl)
theorem dX1_menuNow_60 : decode cX1_menuNow 60 = .ok (.aload_n 0, 1) := dk_42 (dk_at dksX1_menuNow_2 20 rfl rfl)
theorem dX1_menuNow_61 : decode cX1_menuNow 61 = .ok (.invokevirtual 286, 3) := dk_182 1 30 (dk_at dksX1_menuNow_2 21 rfl rfl)
theorem dX1_menuNow_64 : decode cX1_menuNow 64 = .ok (.ireturn, 1) := dk_172 (dk_at dksX1_menuNow_3 0 rfl rfl)
theorem dX1_menuNow_65 : decode cX1_menuNow 65 = .ok (.aload_n 0, 1) := dk_42 (dk_at dksX1_menuNow_3 1 rfl rfl)
theorem dX1_menuNow_66 : decode cX1_menuNow 66 = .ok (.invokevirtual 289, 3) := dk_182 1 33 (dk_at dksX1_menuNow_3 2 rfl rfl)
theorem dX1_menuNow_69 : decode cX1_menuNow 69 = .ok (.ireturn, 1) := dk_172 (dk_at dksX1_menuNow_3 5 rfl rfl)
theorem dX1_menuNow_70 : decode cX1_menuNow 70 = .ok (.aload_n 0, 1) := dk_42 (dk_at dksX1_menuNow_3 6 rfl rfl)
theorem dX1_menuNow_71 : decode cX1_menuNow 71 = .ok (.getfield 259, 3) := dk_180 1 3 (dk_at dksX1_menuNow_3 7 rfl rfl)
theorem dX1_menuNow_74 : decode cX1_menuNow 74 = .ok (.ireturn, 1) := dk_172 (dk_at dksX1_menuNow_3 10 rfl rfl)
abbrev cX1_longest : ByteArray := prog_7_method_79_code
def yX1_longest : MethodName := ⟨RX1, "longest", "()I"⟩
def dkwX1_longest_1 : List UInt8 := [180, 0, 28, 28, 46, 167, 0, 4, 27, 60, 132, 2, 1, 167, 255, 224, 27, 172]
abbrev dktX1_longest_1 : List UInt8 := dkwX1_longest_1 ++ []
def dkwX1_longest_0 : List UInt8 := [3, 60, 3, 61, 28, 42, 180, 0, 109, 162, 0, 30, 42, 180, 0, 28, 28, 46, 27, 164, 0, 12, 42]
abbrev dktX1_longest_0 : List UInt8 := dkwX1_longest_0 ++ dktX1_longest_1
theorem dksX1_longest_0 : cX1_longest.data.toList.drop 0 = dktX1_longest_0 := by decide +kernel
theorem dksX1_longest_1 : cX1_longest.data.toList.drop 23 = dktX1_longest_1 := dk_seg dksX1_longest_0 23 rfl rfl
theorem dX1_longest_0 : decode cX1_longest 0 = .ok (.iconst 0, 1) := dk_3 (dk_at dksX1_longest_0 0 rfl rfl)
theorem dX1_longest_1 : decode cX1_longest 1 = .ok (.istore_n 1, 1) := dk_60 (dk_at dksX1_longest_0 1 rfl rfl)
theorem dX1_longest_2 : decode cX1_longest 2 = .ok (.iconst 0, 1) := dk_3 (dk_at dksX1_longest_0 2 rfl rfl)
theorem dX1_longest_3 : decode cX1_longest 3 = .ok (.istore_n 2, 1) := dk_61 (dk_at dksX1_longest_0 3 rfl rfl)
theorem dX1_longest_4 : decode cX1_longest 4 = .ok (.iload_n 2, 1) := dk_28 (dk_at dksX1_longest_0 4 rfl rfl)
theorem dX1_longest_5 : decode cX1_longest 5 = .ok (.aload_n 0, 1) := dk_42 (dk_at dksX1_longest_0 5 rfl rfl)
theorem dX1_longest_6 : decode cX1_longest 6 = .ok (.getfield 109, 3) := dk_180 0 109 (dk_at dksX1_longest_0 6 rfl rfl)
theorem dX1_longest_9 : decode cX1_longest 9 = .ok (.if_icmp .ge 30, 3) := dk_162 0 30 (dk_at dksX1_longest_0 9 rfl rfl)
theorem dX1_longest_12 : decode cX1_longest 12 = .ok (.aload_n 0, 1) := dk_42 (dk_at dksX1_longest_0 12 rfl rfl)
theorem dX1_longest_13 : decode cX1_longest 13 = .ok (.getfield 28, 3) := dk_180 0 28 (dk_at dksX1_longest_0 13 rfl rfl)
theorem dX1_longest_16 : decode cX1_longest 16 = .ok (.iload_n 2, 1) := dk_28 (dk_at dksX1_longest_0 16 rfl rfl)
theorem dX1_longest_17 : decode cX1_longest 17 = .ok (.iaload, 1) := dk_46 (dk_at dksX1_longest_0 17 rfl rfl)
theorem dX1_longest_18 : decode cX1_longest 18 = .ok (.iload_n 1, 1) := dk_27 (dk_at dksX1_longest_0 18 rfl rfl)
theorem dX1_longest_19 : decode cX1_longest 19 = .ok (.if_icmp .le 12, 3) := dk_164 0 12 (dk_at dksX1_longest_0 19 rfl rfl)
theorem dX1_longest_22 : decode cX1_longest 22 = .ok (.aload_n 0, 1) := dk_42 (dk_at dksX1_longest_0 22 rfl rfl)
theorem dX1_longest_23 : decode cX1_longest 23 = .ok (.getfield 28, 3) := dk_180 0 28 (dk_at dksX1_longest_1 0 rfl rfl)
theorem dX1_longest_26 : decode cX1_longest 26 = .ok (.iload_n 2, 1) := dk_28 (dk_at dksX1_longest_1 3 rfl rfl)
theorem dX1_longest_27 : decode cX1_longest 27 = .ok (.iaload, 1) := dk_46 (dk_at dksX1_longest_1 4 rfl rfl)
theorem dX1_longest_28 : decode cX1_longest 28 = .ok (.goto 4, 3) := dk_167 0 4 (dk_at dksX1_longest_1 5 rfl rfl)
theorem dX1_longest_31 : decode cX1_longest 31 = .ok (.iload_n 1, 1) := dk_27 (dk_at dksX1_longest_1 8 rfl rfl)
theorem dX1_longest_32 : decode cX1_longest 32 = .ok (.istore_n 1, 1) := dk_60 (dk_at dksX1_longest_1 9 rfl rfl)
theorem dX1_longest_33 : decode cX1_longest 33 = .ok (.iinc 2 1, 3) := dk_132 2 1 (dk_at dksX1_longest_1 10 rfl rfl)
theorem dX1_longest_36 : decode cX1_longest 36 = .ok (.goto (-32), 3) := dk_167 255 224 (dk_at dksX1_longest_1 13 rfl rfl)
theorem dX1_longest_39 : decode cX1_longest 39 = .ok (.iload_n 1, 1) := dk_27 (dk_at dksX1_longest_1 16 rfl rfl)
theorem dX1_longest_40 : decode cX1_longest 40 = .ok (.ireturn, 1) := dk_172 (dk_at dksX1_longest_1 17 rfl rfl)
abbrev cX1_menusMany : ByteArray := prog_7_method_81_code
def yX1_menusMany : MethodName := ⟨RX1, "menusMany", "()I"⟩
def dkwX1_menusMany_2 : List UInt8 := [132, 3, 1, 167, 255, 219, 132, 2, 1, 167, 255, 203, 27, 172]
abbrev dktX1_menusMany_2 : List UInt8 := dkwX1_menusMany_2 ++ []
def dkwX1_menusMany_1 : List UInt8 := [27, 28, 153, 0, 15, 42, 28, 4, 100, 28, 29, 182, 1, 24, 154, 0, 7, 4, 167, 0, 4, 3, 96, 60]
abbrev dktX1_menusMany_1 : List UInt8 := dkwX1_menusMany_1 ++ dktX1_menusMany_2
def dkwX1_menusMany_0 : List UInt8 := [3, 60, 3, 61, 28, 42, 180, 0, 109, 162, 0, 51, 3, 62, 29, 42, 180, 0, 28, 28, 46, 162, 0, 33]
abbrev dktX1_menusMany_0 : List UInt8 := dkwX1_menusMany_0 ++ dktX1_menusMany_1
theorem dksX1_menusMany_0 : cX1_menusMany.data.toList.drop 0 = dktX1_menusMany_0 := by decide +kernel
theorem dksX1_menusMany_1 : cX1_menusMany.data.toList.drop 24 = dktX1_menusMany_1 := dk_seg dksX1_menusMany_0 24 rfl rfl
theorem dksX1_menusMany_2 : cX1_menusMany.data.toList.drop 48 = dktX1_menusMany_2 := dk_seg dksX1_menusMany_1 24 rfl rfl
theorem dX1_menusMany_0 : decode cX1_menusMany 0 = .ok (.iconst 0, 1) := dk_3 (dk_at dksX1_menusMany_0 0 rfl rfl)
theorem dX1_menusMany_1 : decode cX1_menusMany 1 = .ok (.istore_n 1, 1) := dk_60 (dk_at dksX1_menusMany_0 1 rfl rfl)
theorem dX1_menusMany_2 : decode cX1_menusMany 2 = .ok (.iconst 0, 1) := dk_3 (dk_at dksX1_menusMany_0 2 rfl rfl)
theorem dX1_menusMany_3 : decode cX1_menusMany 3 = .ok (.istore_n 2, 1) := dk_61 (dk_at dksX1_menusMany_0 3 rfl rfl)
theorem dX1_menusMany_4 : decode cX1_menusMany 4 = .ok (.iload_n 2, 1) := dk_28 (dk_at dksX1_menusMany_0 4 rfl rfl)
theorem dX1_menusMany_5 : decode cX1_menusMany 5 = .ok (.aload_n 0, 1) := dk_42 (dk_at dksX1_menusMany_0 5 rfl rfl)
theorem dX1_menusMany_6 : decode cX1_menusMany 6 = .ok (.getfield 109, 3) := dk_180 0 109 (dk_at dksX1_menusMany_0 6 rfl rfl)
theorem dX1_menusMany_9 : decode cX1_menusMany 9 = .ok (.if_icmp .ge 51, 3) := dk_162 0 51 (dk_at dksX1_menusMany_0 9 rfl rfl)
theorem dX1_menusMany_12 : decode cX1_menusMany 12 = .ok (.iconst 0, 1) := dk_3 (dk_at dksX1_menusMany_0 12 rfl rfl)
theorem dX1_menusMany_13 : decode cX1_menusMany 13 = .ok (.istore_n 3, 1) := dk_62 (dk_at dksX1_menusMany_0 13 rfl rfl)
theorem dX1_menusMany_14 : decode cX1_menusMany 14 = .ok (.iload_n 3, 1) := dk_29 (dk_at dksX1_menusMany_0 14 rfl rfl)
theorem dX1_menusMany_15 : decode cX1_menusMany 15 = .ok (.aload_n 0, 1) := dk_42 (dk_at dksX1_menusMany_0 15 rfl rfl)
theorem dX1_menusMany_16 : decode cX1_menusMany 16 = .ok (.getfield 28, 3) := dk_180 0 28 (dk_at dksX1_menusMany_0 16 rfl rfl)
theorem dX1_menusMany_19 : decode cX1_menusMany 19 = .ok (.iload_n 2, 1) := dk_28 (dk_at dksX1_menusMany_0 19 rfl rfl)
theorem dX1_menusMany_20 : decode cX1_menusMany 20 = .ok (.iaload, 1) := dk_46 (dk_at dksX1_menusMany_0 20 rfl rfl)
theorem dX1_menusMany_21 : decode cX1_menusMany 21 = .ok (.if_icmp .ge 33, 3) := dk_162 0 33 (dk_at dksX1_menusMany_0 21 rfl rfl)
theorem dX1_menusMany_24 : decode cX1_menusMany 24 = .ok (.iload_n 1, 1) := dk_27 (dk_at dksX1_menusMany_1 0 rfl rfl)
theorem dX1_menusMany_25 : decode cX1_menusMany 25 = .ok (.iload_n 2, 1) := dk_28 (dk_at dksX1_menusMany_1 1 rfl rfl)
theorem dX1_menusMany_26 : decode cX1_menusMany 26 = .ok (.ifCond .eq 15, 3) := dk_153 0 15 (dk_at dksX1_menusMany_1 2 rfl rfl)
theorem dX1_menusMany_29 : decode cX1_menusMany 29 = .ok (.aload_n 0, 1) := dk_42 (dk_at dksX1_menusMany_1 5 rfl rfl)
theorem dX1_menusMany_30 : decode cX1_menusMany 30 = .ok (.iload_n 2, 1) := dk_28 (dk_at dksX1_menusMany_1 6 rfl rfl)
theorem dX1_menusMany_31 : decode cX1_menusMany 31 = .ok (.iconst 1, 1) := dk_4 (dk_at dksX1_menusMany_1 7 rfl rfl)
theorem dX1_menusMany_32 : decode cX1_menusMany 32 = .ok (.isub, 1) := dk_100 (dk_at dksX1_menusMany_1 8 rfl rfl)
theorem dX1_menusMany_33 : decode cX1_menusMany 33 = .ok (.iload_n 2, 1) := dk_28 (dk_at dksX1_menusMany_1 9 rfl rfl)
theorem dX1_menusMany_34 : decode cX1_menusMany 34 = .ok (.iload_n 3, 1) := dk_29 (dk_at dksX1_menusMany_1 10 rfl rfl)
theorem dX1_menusMany_35 : decode cX1_menusMany 35 = .ok (.invokevirtual 280, 3) := dk_182 1 24 (dk_at dksX1_menusMany_1 11 rfl rfl)
theorem dX1_menusMany_38 : decode cX1_menusMany 38 = .ok (.ifCond .ne 7, 3) := dk_154 0 7 (dk_at dksX1_menusMany_1 14 rfl rfl)
theorem dX1_menusMany_41 : decode cX1_menusMany 41 = .ok (.iconst 1, 1) := dk_4 (dk_at dksX1_menusMany_1 17 rfl rfl)
theorem dX1_menusMany_42 : decode cX1_menusMany 42 = .ok (.goto 4, 3) := dk_167 0 4 (dk_at dksX1_menusMany_1 18 rfl rfl)
theorem dX1_menusMany_45 : decode cX1_menusMany 45 = .ok (.iconst 0, 1) := dk_3 (dk_at dksX1_menusMany_1 21 rfl rfl)
theorem dX1_menusMany_46 : decode cX1_menusMany 46 = .ok (.iadd, 1) := dk_96 (dk_at dksX1_menusMany_1 22 rfl rfl)
theorem dX1_menusMany_47 : decode cX1_menusMany 47 = .ok (.istore_n 1, 1) := dk_60 (dk_at dksX1_menusMany_1 23 rfl rfl)
theorem dX1_menusMany_48 : decode cX1_menusMany 48 = .ok (.iinc 3 1, 3) := dk_132 3 1 (dk_at dksX1_menusMany_2 0 rfl rfl)
theorem dX1_menusMany_51 : decode cX1_menusMany 51 = .ok (.goto (-37), 3) := dk_167 255 219 (dk_at dksX1_menusMany_2 3 rfl rfl)
theorem dX1_menusMany_54 : decode cX1_menusMany 54 = .ok (.iinc 2 1, 3) := dk_132 2 1 (dk_at dksX1_menusMany_2 6 rfl rfl)
theorem dX1_menusMany_57 : decode cX1_menusMany 57 = .ok (.goto (-53), 3) := dk_167 255 203 (dk_at dksX1_menusMany_2 9 rfl rfl)
theorem dX1_menusMany_60 : decode cX1_menusMany 60 = .ok (.iload_n 1, 1) := dk_27 (dk_at dksX1_menusMany_2 12 rfl rfl)
theorem dX1_menusMany_61 : decode cX1_menusMany 61 = .ok (.ireturn, 1) := dk_172 (dk_at dksX1_menusMany_2 13 rfl rfl)
abbrev cX1_isSamePath : ByteArray := prog_7_method_80_code
def yX1_isSamePath : MethodName := ⟨RX1, "isSamePath", "(III)Z"⟩
def dkwX1_isSamePath_3 : List UInt8 := [3, 54, 4, 132, 5, 1, 167, 255, 208, 21, 4, 172]
abbrev dktX1_isSamePath_3 : List UInt8 := dkwX1_isSamePath_3 ++ []
def dkwX1_isSamePath_2 : List UInt8 := [104, 21, 5, 96, 46, 42, 180, 0, 31, 16, 14, 28, 104, 21, 5, 96, 46, 160, 0, 7, 4, 167, 0, 4]
abbrev dktX1_isSamePath_2 : List UInt8 := dkwX1_isSamePath_2 ++ dktX1_isSamePath_3
def dkwX1_isSamePath_1 : List UInt8 := [3, 54, 4, 3, 54, 5, 21, 5, 29, 162, 0, 48, 21, 4, 153, 0, 43, 42, 180, 0, 31, 16, 14, 27]
abbrev dktX1_isSamePath_1 : List UInt8 := dkwX1_isSamePath_1 ++ dktX1_isSamePath_2
def dkwX1_isSamePath_0 : List UInt8 := [29, 42, 180, 0, 28, 27, 46, 163, 0, 17, 29, 42, 180, 0, 28, 28, 46, 163, 0, 7, 4, 167, 0, 4]
abbrev dktX1_isSamePath_0 : List UInt8 := dkwX1_isSamePath_0 ++ dktX1_isSamePath_1
theorem dksX1_isSamePath_0 : cX1_isSamePath.data.toList.drop 0 = dktX1_isSamePath_0 := by decide +kernel
theorem dksX1_isSamePath_1 : cX1_isSamePath.data.toList.drop 24 = dktX1_isSamePath_1 := dk_seg dksX1_isSamePath_0 24 rfl rfl
theorem dksX1_isSamePath_2 : cX1_isSamePath.data.toList.drop 48 = dktX1_isSamePath_2 := dk_seg dksX1_isSamePath_1 24 rfl rfl
theorem dksX1_isSamePath_3 : cX1_isSamePath.data.toList.drop 72 = dktX1_isSamePath_3 := dk_seg dksX1_isSamePath_2 24 rfl rfl
theorem dX1_isSamePath_0 : decode cX1_isSamePath 0 = .ok (.iload_n 3, 1) := dk_29 (dk_at dksX1_isSamePath_0 0 rfl rfl)
theorem dX1_isSamePath_1 : decode cX1_isSamePath 1 = .ok (.aload_n 0, 1) := dk_42 (dk_at dksX1_isSamePath_0 1 rfl rfl)
theorem dX1_isSamePath_2 : decode cX1_isSamePath 2 = .ok (.getfield 28, 3) := dk_180 0 28 (dk_at dksX1_isSamePath_0 2 rfl rfl)
theorem dX1_isSamePath_5 : decode cX1_isSamePath 5 = .ok (.iload_n 1, 1) := dk_27 (dk_at dksX1_isSamePath_0 5 rfl rfl)
theorem dX1_isSamePath_6 : decode cX1_isSamePath 6 = .ok (.iaload, 1) := dk_46 (dk_at dksX1_isSamePath_0 6 rfl rfl)
theorem dX1_isSamePath_7 : decode cX1_isSamePath 7 = .ok (.if_icmp .gt 17, 3) := dk_163 0 17 (dk_at dksX1_isSamePath_0 7 rfl rfl)
theorem dX1_isSamePath_10 : decode cX1_isSamePath 10 = .ok (.iload_n 3, 1) := dk_29 (dk_at dksX1_isSamePath_0 10 rfl rfl)
theorem dX1_isSamePath_11 : decode cX1_isSamePath 11 = .ok (.aload_n 0, 1) := dk_42 (dk_at dksX1_isSamePath_0 11 rfl rfl)
theorem dX1_isSamePath_12 : decode cX1_isSamePath 12 = .ok (.getfield 28, 3) := dk_180 0 28 (dk_at dksX1_isSamePath_0 12 rfl rfl)
theorem dX1_isSamePath_15 : decode cX1_isSamePath 15 = .ok (.iload_n 2, 1) := dk_28 (dk_at dksX1_isSamePath_0 15 rfl rfl)
theorem dX1_isSamePath_16 : decode cX1_isSamePath 16 = .ok (.iaload, 1) := dk_46 (dk_at dksX1_isSamePath_0 16 rfl rfl)
theorem dX1_isSamePath_17 : decode cX1_isSamePath 17 = .ok (.if_icmp .gt 7, 3) := dk_163 0 7 (dk_at dksX1_isSamePath_0 17 rfl rfl)
theorem dX1_isSamePath_20 : decode cX1_isSamePath 20 = .ok (.iconst 1, 1) := dk_4 (dk_at dksX1_isSamePath_0 20 rfl rfl)
theorem dX1_isSamePath_21 : decode cX1_isSamePath 21 = .ok (.goto 4, 3) := dk_167 0 4 (dk_at dksX1_isSamePath_0 21 rfl rfl)
theorem dX1_isSamePath_24 : decode cX1_isSamePath 24 = .ok (.iconst 0, 1) := dk_3 (dk_at dksX1_isSamePath_1 0 rfl rfl)
theorem dX1_isSamePath_25 : decode cX1_isSamePath 25 = .ok (.istore 4, 2) := dk_54 4 (dk_at dksX1_isSamePath_1 1 rfl rfl)
theorem dX1_isSamePath_27 : decode cX1_isSamePath 27 = .ok (.iconst 0, 1) := dk_3 (dk_at dksX1_isSamePath_1 3 rfl rfl)
theorem dX1_isSamePath_28 : decode cX1_isSamePath 28 = .ok (.istore 5, 2) := dk_54 5 (dk_at dksX1_isSamePath_1 4 rfl rfl)
theorem dX1_isSamePath_30 : decode cX1_isSamePath 30 = .ok (.iload 5, 2) := dk_21 5 (dk_at dksX1_isSamePath_1 6 rfl rfl)
theorem dX1_isSamePath_32 : decode cX1_isSamePath 32 = .ok (.iload_n 3, 1) := dk_29 (dk_at dksX1_isSamePath_1 8 rfl rfl)
theorem dX1_isSamePath_33 : decode cX1_isSamePath 33 = .ok (.if_icmp .ge 48, 3) := dk_162 0 48 (dk_at dksX1_isSamePath_1 9 rfl rfl)
theorem dX1_isSamePath_36 : decode cX1_isSamePath 36 = .ok (.iload 4, 2) := dk_21 4 (dk_at dksX1_isSamePath_1 12 rfl rfl)
theorem dX1_isSamePath_38 : decode cX1_isSamePath 38 = .ok (.ifCond .eq 43, 3) := dk_153 0 43 (dk_at dksX1_isSamePath_1 14 rfl rfl)
theorem dX1_isSamePath_41 : decode cX1_isSamePath 41 = .ok (.aload_n 0, 1) := dk_42 (dk_at dksX1_isSamePath_1 17 rfl rfl)
theorem dX1_isSamePath_42 : decode cX1_isSamePath 42 = .ok (.getfield 31, 3) := dk_180 0 31 (dk_at dksX1_isSamePath_1 18 rfl rfl)
theorem dX1_isSamePath_45 : decode cX1_isSamePath 45 = .ok (.bipush 14, 2) := dk_16 14 (dk_at dksX1_isSamePath_1 21 rfl rfl)
theorem dX1_isSamePath_47 : decode cX1_isSamePath 47 = .ok (.iload_n 1, 1) := dk_27 (dk_at dksX1_isSamePath_1 23 rfl rfl)
theorem dX1_isSamePath_48 : decode cX1_isSamePath 48 = .ok (.imul, 1) := dk_104 (dk_at dksX1_isSamePath_2 0 rfl rfl)
theorem dX1_isSamePath_49 : decode cX1_isSamePath 49 = .ok (.iload 5, 2) := dk_21 5 (dk_at dksX1_isSamePath_2 1 rfl rfl)
theorem dX1_isSamePath_51 : decode cX1_isSamePath 51 = .ok (.iadd, 1) := dk_96 (dk_at dksX1_isSamePath_2 3 rfl rfl)
theorem dX1_isSamePath_52 : decode cX1_isSamePath 52 = .ok (.iaload, 1) := dk_46 (dk_at dksX1_isSamePath_2 4 rfl rfl)
theorem dX1_isSamePath_53 : decode cX1_isSamePath 53 = .ok (.aload_n 0, 1) := dk_42 (dk_at dksX1_isSamePath_2 5 rfl rfl)
theorem dX1_isSamePath_54 : decode cX1_isSamePath 54 = .ok (.getfield 31, 3) := dk_180 0 31 (dk_at dksX1_isSamePath_2 6 rfl rfl)
theorem dX1_isSamePath_57 : decode cX1_isSamePath 57 = .ok (.bipush 14, 2) := dk_16 14 (dk_at dksX1_isSamePath_2 9 rfl rfl)
theorem dX1_isSamePath_59 : decode cX1_isSamePath 59 = .ok (.iload_n 2, 1) := dk_28 (dk_at dksX1_isSamePath_2 11 rfl rfl)
theorem dX1_isSamePath_60 : decode cX1_isSamePath 60 = .ok (.imul, 1) := dk_104 (dk_at dksX1_isSamePath_2 12 rfl rfl)
theorem dX1_isSamePath_61 : decode cX1_isSamePath 61 = .ok (.iload 5, 2) := dk_21 5 (dk_at dksX1_isSamePath_2 13 rfl rfl)
theorem dX1_isSamePath_63 : decode cX1_isSamePath 63 = .ok (.iadd, 1) := dk_96 (dk_at dksX1_isSamePath_2 15 rfl rfl)
theorem dX1_isSamePath_64 : decode cX1_isSamePath 64 = .ok (.iaload, 1) := dk_46 (dk_at dksX1_isSamePath_2 16 rfl rfl)
theorem dX1_isSamePath_65 : decode cX1_isSamePath 65 = .ok (.if_icmp .ne 7, 3) := dk_160 0 7 (dk_at dksX1_isSamePath_2 17 rfl rfl)
theorem dX1_isSamePath_68 : decode cX1_isSamePath 68 = .ok (.iconst 1, 1) := dk_4 (dk_at dksX1_isSamePath_2 20 rfl rfl)
theorem dX1_isSamePath_69 : decode cX1_isSamePath 69 = .ok (.goto 4, 3) := dk_167 0 4 (dk_at dksX1_isSamePath_2 21 rfl rfl)
theorem dX1_isSamePath_72 : decode cX1_isSamePath 72 = .ok (.iconst 0, 1) := dk_3 (dk_at dksX1_isSamePath_3 0 rfl rfl)
theorem dX1_isSamePath_73 : decode cX1_isSamePath 73 = .ok (.istore 4, 2) := dk_54 4 (dk_at dksX1_isSamePath_3 1 rfl rfl)
theorem dX1_isSamePath_75 : decode cX1_isSamePath 75 = .ok (.iinc 5 1, 3) := dk_132 5 1 (dk_at dksX1_isSamePath_3 3 rfl rfl)
theorem dX1_isSamePath_78 : decode cX1_isSamePath 78 = .ok (.goto (-48), 3) := dk_167 255 208 (dk_at dksX1_isSamePath_3 6 rfl rfl)
theorem dX1_isSamePath_81 : decode cX1_isSamePath 81 = .ok (.iload 4, 2) := dk_21 4 (dk_at dksX1_isSamePath_3 9 rfl rfl)
theorem dX1_isSamePath_83 : decode cX1_isSamePath 83 = .ok (.ireturn, 1) := dk_172 (dk_at dksX1_isSamePath_3 11 rfl rfl)
abbrev cX1_wholeParts : ByteArray := prog_7_method_82_code
def yX1_wholeParts : MethodName := ⟨RX1, "wholeParts", "()I"⟩
def dkwX1_wholeParts_2 : List UInt8 := [27, 60, 132, 2, 1, 167, 255, 209, 27, 172]
abbrev dktX1_wholeParts_2 : List UInt8 := dkwX1_wholeParts_2 ++ []
def dkwX1_wholeParts_1 : List UInt8 := [180, 0, 31, 16, 14, 28, 104, 46, 27, 164, 0, 15, 42, 180, 0, 31, 16, 14, 28, 104, 46, 167, 0, 4]
abbrev dktX1_wholeParts_1 : List UInt8 := dkwX1_wholeParts_1 ++ dktX1_wholeParts_2
def dkwX1_wholeParts_0 : List UInt8 := [3, 60, 3, 61, 28, 42, 180, 0, 109, 162, 0, 45, 42, 180, 0, 28, 28, 46, 158, 0, 28, 42]
abbrev dktX1_wholeParts_0 : List UInt8 := dkwX1_wholeParts_0 ++ dktX1_wholeParts_1
theorem dksX1_wholeParts_0 : cX1_wholeParts.data.toList.drop 0 = dktX1_wholeParts_0 := by decide +kernel
theorem dksX1_wholeParts_1 : cX1_wholeParts.data.toList.drop 22 = dktX1_wholeParts_1 := dk_seg dksX1_wholeParts_0 22 rfl rfl
theorem dksX1_wholeParts_2 : cX1_wholeParts.data.toList.drop 46 = dktX1_wholeParts_2 := dk_seg dksX1_wholeParts_1 24 rfl rfl
theorem dX1_wholeParts_0 : decode cX1_wholeParts 0 = .ok (.iconst 0, 1) := dk_3 (dk_at dksX1_wholeParts_0 0 rfl rfl)
theorem dX1_wholeParts_1 : decode cX1_wholeParts 1 = .ok (.istore_n 1, 1) := dk_60 (dk_at dksX1_wholeParts_0 1 rfl rfl)
theorem dX1_wholeParts_2 : decode cX1_wholeParts 2 = .ok (.iconst 0, 1) := dk_3 (dk_at dksX1_wholeParts_0 2 rfl rfl)
theorem dX1_wholeParts_3 : decode cX1_wholeParts 3 = .ok (.istore_n 2, 1) := dk_61 (dk_at dksX1_wholeParts_0 3 rfl rfl)
theorem dX1_wholeParts_4 : decode cX1_wholeParts 4 = .ok (.iload_n 2, 1) := dk_28 (dk_at dksX1_wholeParts_0 4 rfl rfl)
theorem dX1_wholeParts_5 : decode cX1_wholeParts 5 = .ok (.aload_n 0, 1) := dk_42 (dk_at dksX1_wholeParts_0 5 rfl rfl)
theorem dX1_wholeParts_6 : decode cX1_wholeParts 6 = .ok (.getfield 109, 3) := dk_180 0 109 (dk_at dksX1_wholeParts_0 6 rfl rfl)
theorem dX1_wholeParts_9 : decode cX1_wholeParts 9 = .ok (.if_icmp .ge 45, 3) := dk_162 0 45 (dk_at dksX1_wholeParts_0 9 rfl rfl)
theorem dX1_wholeParts_12 : decode cX1_wholeParts 12 = .ok (.aload_n 0, 1) := dk_42 (dk_at dksX1_wholeParts_0 12 rfl rfl)
theorem dX1_wholeParts_13 : decode cX1_wholeParts 13 = .ok (.getfield 28, 3) := dk_180 0 28 (dk_at dksX1_wholeParts_0 13 rfl rfl)
theorem dX1_wholeParts_16 : decode cX1_wholeParts 16 = .ok (.iload_n 2, 1) := dk_28 (dk_at dksX1_wholeParts_0 16 rfl rfl)
theorem dX1_wholeParts_17 : decode cX1_wholeParts 17 = .ok (.iaload, 1) := dk_46 (dk_at dksX1_wholeParts_0 17 rfl rfl)
theorem dX1_wholeParts_18 : decode cX1_wholeParts 18 = .ok (.ifCond .le 28, 3) := dk_158 0 28 (dk_at dksX1_wholeParts_0 18 rfl rfl)
theorem dX1_wholeParts_21 : decode cX1_wholeParts 21 = .ok (.aload_n 0, 1) := dk_42 (dk_at dksX1_wholeParts_0 21 rfl rfl)
theorem dX1_wholeParts_22 : decode cX1_wholeParts 22 = .ok (.getfield 31, 3) := dk_180 0 31 (dk_at dksX1_wholeParts_1 0 rfl rfl)
theorem dX1_wholeParts_25 : decode cX1_wholeParts 25 = .ok (.bipush 14, 2) := dk_16 14 (dk_at dksX1_wholeParts_1 3 rfl rfl)
theorem dX1_wholeParts_27 : decode cX1_wholeParts 27 = .ok (.iload_n 2, 1) := dk_28 (dk_at dksX1_wholeParts_1 5 rfl rfl)
theorem dX1_wholeParts_28 : decode cX1_wholeParts 28 = .ok (.imul, 1) := dk_104 (dk_at dksX1_wholeParts_1 6 rfl rfl)
theorem dX1_wholeParts_29 : decode cX1_wholeParts 29 = .ok (.iaload, 1) := dk_46 (dk_at dksX1_wholeParts_1 7 rfl rfl)
theorem dX1_wholeParts_30 : decode cX1_wholeParts 30 = .ok (.iload_n 1, 1) := dk_27 (dk_at dksX1_wholeParts_1 8 rfl rfl)
theorem dX1_wholeParts_31 : decode cX1_wholeParts 31 = .ok (.if_icmp .le 15, 3) := dk_164 0 15 (dk_at dksX1_wholeParts_1 9 rfl rfl)
theorem dX1_wholeParts_34 : decode cX1_wholeParts 34 = .ok (.aload_n 0, 1) := dk_42 (dk_at dksX1_wholeParts_1 12 rfl rfl)
theorem dX1_wholeParts_35 : decode cX1_wholeParts 35 = .ok (.getfield 31, 3) := dk_180 0 31 (dk_at dksX1_wholeParts_1 13 rfl rfl)
theorem dX1_wholeParts_38 : decode cX1_wholeParts 38 = .ok (.bipush 14, 2) := dk_16 14 (dk_at dksX1_wholeParts_1 16 rfl rfl)
theorem dX1_wholeParts_40 : decode cX1_wholeParts 40 = .ok (.iload_n 2, 1) := dk_28 (dk_at dksX1_wholeParts_1 18 rfl rfl)
theorem dX1_wholeParts_41 : decode cX1_wholeParts 41 = .ok (.imul, 1) := dk_104 (dk_at dksX1_wholeParts_1 19 rfl rfl)
theorem dX1_wholeParts_42 : decode cX1_wholeParts 42 = .ok (.iaload, 1) := dk_46 (dk_at dksX1_wholeParts_1 20 rfl rfl)
theorem dX1_wholeParts_43 : decode cX1_wholeParts 43 = .ok (.goto 4, 3) := dk_167 0 4 (dk_at dksX1_wholeParts_1 21 rfl rfl)
theorem dX1_wholeParts_46 : decode cX1_wholeParts 46 = .ok (.iload_n 1, 1) := dk_27 (dk_at dksX1_wholeParts_2 0 rfl rfl)
theorem dX1_wholeParts_47 : decode cX1_wholeParts 47 = .ok (.istore_n 1, 1) := dk_60 (dk_at dksX1_wholeParts_2 1 rfl rfl)
theorem dX1_wholeParts_48 : decode cX1_wholeParts 48 = .ok (.iinc 2 1, 3) := dk_132 2 1 (dk_at dksX1_wholeParts_2 2 rfl rfl)
theorem dX1_wholeParts_51 : decode cX1_wholeParts 51 = .ok (.goto (-47), 3) := dk_167 255 209 (dk_at dksX1_wholeParts_2 5 rfl rfl)
theorem dX1_wholeParts_54 : decode cX1_wholeParts 54 = .ok (.iload_n 1, 1) := dk_27 (dk_at dksX1_wholeParts_2 8 rfl rfl)
theorem dX1_wholeParts_55 : decode cX1_wholeParts 55 = .ok (.ireturn, 1) := dk_172 (dk_at dksX1_wholeParts_2 9 rfl rfl)
abbrev cX1_count : ByteArray := prog_7_method_86_code
def yX1_count : MethodName := ⟨RX1, "count", "(I)I"⟩
def dkwX1_count_0 : List UInt8 := [42, 27, 182, 1, 39, 172]
abbrev dktX1_count_0 : List UInt8 := dkwX1_count_0 ++ []
theorem dksX1_count_0 : cX1_count.data.toList.drop 0 = dktX1_count_0 := by decide +kernel
theorem dX1_count_0 : decode cX1_count 0 = .ok (.aload_n 0, 1) := dk_42 (dk_at dksX1_count_0 0 rfl rfl)
theorem dX1_count_1 : decode cX1_count 1 = .ok (.iload_n 1, 1) := dk_27 (dk_at dksX1_count_0 1 rfl rfl)
theorem dX1_count_2 : decode cX1_count 2 = .ok (.invokevirtual 295, 3) := dk_182 1 39 (dk_at dksX1_count_0 2 rfl rfl)
theorem dX1_count_5 : decode cX1_count 5 = .ok (.ireturn, 1) := dk_172 (dk_at dksX1_count_0 5 rfl rfl)
abbrev cX1_howMany : ByteArray := prog_7_method_85_code
def yX1_howMany : MethodName := ⟨RX1, "howMany", "(I)I"⟩
def dkwX1_howMany_3 : List UInt8 := [172, 42, 180, 0, 142, 172, 16, 154, 172]
abbrev dktX1_howMany_3 : List UInt8 := dkwX1_howMany_3 ++ []
def dkwX1_howMany_2 : List UInt8 := [42, 180, 0, 109, 172, 42, 180, 0, 77, 172, 42, 180, 0, 199, 172, 42, 180, 0, 127, 172, 42, 180, 0, 136]
abbrev dktX1_howMany_2 : List UInt8 := dkwX1_howMany_2 ++ dktX1_howMany_3
def dkwX1_howMany_1 : List UInt8 := [170, 0, 0, 0, 0, 0, 69, 0, 0, 0, 0, 0, 0, 0, 5, 0, 0, 0, 39, 0, 0, 0, 44, 0, 0, 0, 49, 0, 0, 0, 54, 0, 0, 0, 59, 0, 0, 0, 64]
abbrev dktX1_howMany_1 : List UInt8 := dkwX1_howMany_1 ++ dktX1_howMany_2
def dkwX1_howMany_0 : List UInt8 := [27]
abbrev dktX1_howMany_0 : List UInt8 := dkwX1_howMany_0 ++ dktX1_howMany_1
theorem dksX1_howMany_0 : cX1_howMany.data.toList.drop 0 = dktX1_howMany_0 := by decide +kernel
theorem dksX1_howMany_1 : cX1_howMany.data.toList.drop 1 = dktX1_howMany_1 := dk_seg dksX1_howMany_0 1 rfl rfl
theorem dksX1_howMany_2 : cX1_howMany.data.toList.drop 40 = dktX1_howMany_2 := dk_seg dksX1_howMany_1 39 rfl rfl
theorem dksX1_howMany_3 : cX1_howMany.data.toList.drop 64 = dktX1_howMany_3 := dk_seg dksX1_howMany_2 24 rfl rfl
theorem dX1_howMany_0 : decode cX1_howMany 0 = .ok (.iload_n 1, 1) := dk_27 (dk_at dksX1_howMany_0 0 rfl rfl)
theorem dX1_howMany_1 : decode cX1_howMany 1 = .ok (.tableswitch 69 0 5 #[39, 44, 49, 54, 59, 64], 39) := by decide +kernel
theorem dX1_howMany_40 : decode cX1_howMany 40 = .ok (.aload_n 0, 1) := dk_42 (dk_at dksX1_howMany_2 0 rfl rfl)
theorem dX1_howMany_41 : decode cX1_howMany 41 = .ok (.getfield 109, 3) := dk_180 0 109 (dk_at dksX1_howMany_2 1 rfl rfl)
theorem dX1_howMany_44 : decode cX1_howMany 44 = .ok (.ireturn, 1) := dk_172 (dk_at dksX1_howMany_2 4 rfl rfl)
theorem dX1_howMany_45 : decode cX1_howMany 45 = .ok (.aload_n 0, 1) := dk_42 (dk_at dksX1_howMany_2 5 rfl rfl)
theorem dX1_howMany_46 : decode cX1_howMany 46 = .ok (.getfield 77, 3) := dk_180 0 77 (dk_at dksX1_howMany_2 6 rfl rfl)
theorem dX1_howMany_49 : decode cX1_howMany 49 = .ok (.ireturn, 1) := dk_172 (dk_at dksX1_howMany_2 9 rfl rfl)
theorem dX1_howMany_50 : decode cX1_howMany 50 = .ok (.aload_n 0, 1) := dk_42 (dk_at dksX1_howMany_2 10 rfl rfl)
theorem dX1_howMany_51 : decode cX1_howMany 51 = .ok (.getfield 199, 3) := dk_180 0 199 (dk_at dksX1_howMany_2 11 rfl rfl)
theorem dX1_howMany_54 : decode cX1_howMany 54 = .ok (.ireturn, 1) := dk_172 (dk_at dksX1_howMany_2 14 rfl rfl)
theorem dX1_howMany_55 : decode cX1_howMany 55 = .ok (.aload_n 0, 1) := dk_42 (dk_at dksX1_howMany_2 15 rfl rfl)
theorem dX1_howMany_56 : decode cX1_howMany 56 = .ok (.getfield 127, 3) := dk_180 0 127 (dk_at dksX1_howMany_2 16 rfl rfl)
theorem dX1_howMany_59 : decode cX1_howMany 59 = .ok (.ireturn, 1) := dk_172 (dk_at dksX1_howMany_2 19 rfl rfl)
theorem dX1_howMany_60 : decode cX1_howMany 60 = .ok (.aload_n 0, 1) := dk_42 (dk_at dksX1_howMany_2 20 rfl rfl)
theorem dX1_howMany_61 : decode cX1_howMany 61 = .ok (.getfield 136, 3) := dk_180 0 136 (dk_at dksX1_howMany_2 21 rfl rfl)
theorem dX1_howMany_64 : decode cX1_howMany 64 = .ok (.ireturn, 1) := dk_172 (dk_at dksX1_howMany_3 0 rfl rfl)
theorem dX1_howMany_65 : decode cX1_howMany 65 = .ok (.aload_n 0, 1) := dk_42 (dk_at dksX1_howMany_3 1 rfl rfl)
theorem dX1_howMany_66 : decode cX1_howMany 66 = .ok (.getfield 142, 3) := dk_180 0 142 (dk_at dksX1_howMany_3 2 rfl rfl)
theorem dX1_howMany_69 : decode cX1_howMany 69 = .ok (.ireturn, 1) := dk_172 (dk_at dksX1_howMany_3 5 rfl rfl)
theorem dX1_howMany_70 : decode cX1_howMany 70 = .ok (.bipush (-102), 2) := dk_16 154 (dk_at dksX1_howMany_3 6 rfl rfl)
theorem dX1_howMany_72 : decode cX1_howMany 72 = .ok (.ireturn, 1) := dk_172 (dk_at dksX1_howMany_3 8 rfl rfl)
abbrev cX1_digest : ByteArray := prog_7_method_91_code
def yX1_digest : MethodName := ⟨RX1, "digest", "()J"⟩
def dkwX1_digest_6 : List UInt8 := [42, 180, 1, 44, 173]
abbrev dktX1_digest_6 : List UInt8 := dkwX1_digest_6 ++ []
def dkwX1_digest_5 : List UInt8 := [3, 60, 27, 16, 6, 162, 0, 19, 42, 42, 27, 182, 1, 39, 133, 182, 1, 48, 132, 1, 1, 167, 255, 237]
abbrev dktX1_digest_5 : List UInt8 := dkwX1_digest_5 ++ dktX1_digest_6
def dkwX1_digest_4 : List UInt8 := [42, 180, 0, 77, 162, 0, 20, 42, 42, 180, 0, 7, 27, 46, 133, 182, 1, 48, 132, 1, 1, 167, 255, 234]
abbrev dktX1_digest_4 : List UInt8 := dkwX1_digest_4 ++ dktX1_digest_5
def dkwX1_digest_3 : List UInt8 := [132, 1, 1, 167, 255, 237, 42, 182, 1, 60, 42, 180, 0, 130, 158, 0, 7, 42, 182, 1, 63, 3, 60, 27]
abbrev dktX1_digest_3 : List UInt8 := dkwX1_digest_3 ++ dktX1_digest_4
def dkwX1_digest_2 : List UInt8 := [132, 1, 1, 167, 255, 240, 3, 60, 27, 16, 7, 162, 0, 19, 42, 42, 27, 182, 0, 196, 133, 182, 1, 48]
abbrev dktX1_digest_2 : List UInt8 := dkwX1_digest_2 ++ dktX1_digest_3
def dkwX1_digest_1 : List UInt8 := [182, 1, 48, 132, 1, 1, 167, 255, 236, 3, 60, 27, 42, 180, 0, 109, 162, 0, 14, 42, 27, 182, 1, 57]
abbrev dktX1_digest_1 : List UInt8 := dkwX1_digest_1 ++ dktX1_digest_2
def dkwX1_digest_0 : List UInt8 := [42, 20, 1, 55, 181, 1, 44, 3, 60, 27, 16, 26, 162, 0, 20, 42, 42, 180, 0, 22, 27, 46, 133]
abbrev dktX1_digest_0 : List UInt8 := dkwX1_digest_0 ++ dktX1_digest_1
theorem dksX1_digest_0 : cX1_digest.data.toList.drop 0 = dktX1_digest_0 := by decide +kernel
theorem dksX1_digest_1 : cX1_digest.data.toList.drop 23 = dktX1_digest_1 := dk_seg dksX1_digest_0 23 rfl rfl
theorem dksX1_digest_2 : cX1_digest.data.toList.drop 47 = dktX1_digest_2 := dk_seg dksX1_digest_1 24 rfl rfl
theorem dksX1_digest_3 : cX1_digest.data.toList.drop 71 = dktX1_digest_3 := dk_seg dksX1_digest_2 24 rfl rfl
theorem dksX1_digest_4 : cX1_digest.data.toList.drop 95 = dktX1_digest_4 := dk_seg dksX1_digest_3 24 rfl rfl
theorem dksX1_digest_5 : cX1_digest.data.toList.drop 119 = dktX1_digest_5 := dk_seg dksX1_digest_4 24 rfl rfl
theorem dksX1_digest_6 : cX1_digest.data.toList.drop 143 = dktX1_digest_6 := dk_seg dksX1_digest_5 24 rfl rfl
theorem dX1_digest_0 : decode cX1_digest 0 = .ok (.aload_n 0, 1) := dk_42 (dk_at dksX1_digest_0 0 rfl rfl)
theorem dX1_digest_1 : decode cX1_digest 1 = .ok (.ldc2_w 311, 3) := dk_20 1 55 (dk_at dksX1_digest_0 1 rfl rfl)
theorem dX1_digest_4 : decode cX1_digest 4 = .ok (.putfield 300, 3) := dk_181 1 44 (dk_at dksX1_digest_0 4 rfl rfl)
theorem dX1_digest_7 : decode cX1_digest 7 = .ok (.iconst 0, 1) := dk_3 (dk_at dksX1_digest_0 7 rfl rfl)
theorem dX1_digest_8 : decode cX1_digest 8 = .ok (.istore_n 1, 1) := dk_60 (dk_at dksX1_digest_0 8 rfl rfl)
theorem dX1_digest_9 : decode cX1_digest 9 = .ok (.iload_n 1, 1) := dk_27 (dk_at dksX1_digest_0 9 rfl rfl)
theorem dX1_digest_10 : decode cX1_digest 10 = .ok (.bipush 26, 2) := dk_16 26 (dk_at dksX1_digest_0 10 rfl rfl)
theorem dX1_digest_12 : decode cX1_digest 12 = .ok (.if_icmp .ge 20, 3) := dk_162 0 20 (dk_at dksX1_digest_0 12 rfl rfl)
theorem dX1_digest_15 : decode cX1_digest 15 = .ok (.aload_n 0, 1) := dk_42 (dk_at dksX1_digest_0 15 rfl rfl)
theorem dX1_digest_16 : decode cX1_digest 16 = .ok (.aload_n 0, 1) := dk_42 (dk_at dksX1_digest_0 16 rfl rfl)
theorem dX1_digest_17 : decode cX1_digest 17 = .ok (.getfield 22, 3) := dk_180 0 22 (dk_at dksX1_digest_0 17 rfl rfl)
theorem dX1_digest_20 : decode cX1_digest 20 = .ok (.iload_n 1, 1) := dk_27 (dk_at dksX1_digest_0 20 rfl rfl)
theorem dX1_digest_21 : decode cX1_digest 21 = .ok (.iaload, 1) := dk_46 (dk_at dksX1_digest_0 21 rfl rfl)
theorem dX1_digest_22 : decode cX1_digest 22 = .ok (.i2l, 1) := dk_133 (dk_at dksX1_digest_0 22 rfl rfl)
theorem dX1_digest_23 : decode cX1_digest 23 = .ok (.invokevirtual 304, 3) := dk_182 1 48 (dk_at dksX1_digest_1 0 rfl rfl)
theorem dX1_digest_26 : decode cX1_digest 26 = .ok (.iinc 1 1, 3) := dk_132 1 1 (dk_at dksX1_digest_1 3 rfl rfl)
theorem dX1_digest_29 : decode cX1_digest 29 = .ok (.goto (-20), 3) := dk_167 255 236 (dk_at dksX1_digest_1 6 rfl rfl)
theorem dX1_digest_32 : decode cX1_digest 32 = .ok (.iconst 0, 1) := dk_3 (dk_at dksX1_digest_1 9 rfl rfl)
theorem dX1_digest_33 : decode cX1_digest 33 = .ok (.istore_n 1, 1) := dk_60 (dk_at dksX1_digest_1 10 rfl rfl)
theorem dX1_digest_34 : decode cX1_digest 34 = .ok (.iload_n 1, 1) := dk_27 (dk_at dksX1_digest_1 11 rfl rfl)
theorem dX1_digest_35 : decode cX1_digest 35 = .ok (.aload_n 0, 1) := dk_42 (dk_at dksX1_digest_1 12 rfl rfl)
theorem dX1_digest_36 : decode cX1_digest 36 = .ok (.getfield 109, 3) := dk_180 0 109 (dk_at dksX1_digest_1 13 rfl rfl)
theorem dX1_digest_39 : decode cX1_digest 39 = .ok (.if_icmp .ge 14, 3) := dk_162 0 14 (dk_at dksX1_digest_1 16 rfl rfl)
theorem dX1_digest_42 : decode cX1_digest 42 = .ok (.aload_n 0, 1) := dk_42 (dk_at dksX1_digest_1 19 rfl rfl)
theorem dX1_digest_43 : decode cX1_digest 43 = .ok (.iload_n 1, 1) := dk_27 (dk_at dksX1_digest_1 20 rfl rfl)
theorem dX1_digest_44 : decode cX1_digest 44 = .ok (.invokevirtual 313, 3) := dk_182 1 57 (dk_at dksX1_digest_1 21 rfl rfl)
theorem dX1_digest_47 : decode cX1_digest 47 = .ok (.iinc 1 1, 3) := dk_132 1 1 (dk_at dksX1_digest_2 0 rfl rfl)
theorem dX1_digest_50 : decode cX1_digest 50 = .ok (.goto (-16), 3) := dk_167 255 240 (dk_at dksX1_digest_2 3 rfl rfl)
theorem dX1_digest_53 : decode cX1_digest 53 = .ok (.iconst 0, 1) := dk_3 (dk_at dksX1_digest_2 6 rfl rfl)
theorem dX1_digest_54 : decode cX1_digest 54 = .ok (.istore_n 1, 1) := dk_60 (dk_at dksX1_digest_2 7 rfl rfl)
theorem dX1_digest_55 : decode cX1_digest 55 = .ok (.iload_n 1, 1) := dk_27 (dk_at dksX1_digest_2 8 rfl rfl)
theorem dX1_digest_56 : decode cX1_digest 56 = .ok (.bipush 7, 2) := dk_16 7 (dk_at dksX1_digest_2 9 rfl rfl)
theorem dX1_digest_58 : decode cX1_digest 58 = .ok (.if_icmp .ge 19, 3) := dk_162 0 19 (dk_at dksX1_digest_2 11 rfl rfl)
theorem dX1_digest_61 : decode cX1_digest 61 = .ok (.aload_n 0, 1) := dk_42 (dk_at dksX1_digest_2 14 rfl rfl)
theorem dX1_digest_62 : decode cX1_digest 62 = .ok (.aload_n 0, 1) := dk_42 (dk_at dksX1_digest_2 15 rfl rfl)
theorem dX1_digest_63 : decode cX1_digest 63 = .ok (.iload_n 1, 1) := dk_27 (dk_at dksX1_digest_2 16 rfl rfl)
theorem dX1_digest_64 : decode cX1_digest 64 = .ok (.invokevirtual 196, 3) := dk_182 0 196 (dk_at dksX1_digest_2 17 rfl rfl)
theorem dX1_digest_67 : decode cX1_digest 67 = .ok (.i2l, 1) := dk_133 (dk_at dksX1_digest_2 20 rfl rfl)
theorem dX1_digest_68 : decode cX1_digest 68 = .ok (.invokevirtual 304, 3) := dk_182 1 48 (dk_at dksX1_digest_2 21 rfl rfl)
theorem dX1_digest_71 : decode cX1_digest 71 = .ok (.iinc 1 1, 3) := dk_132 1 1 (dk_at dksX1_digest_3 0 rfl rfl)
theorem dX1_digest_74 : decode cX1_digest 74 = .ok (.goto (-19), 3) := dk_167 255 237 (dk_at dksX1_digest_3 3 rfl rfl)
theorem dX1_digest_77 : decode cX1_digest 77 = .ok (.aload_n 0, 1) := dk_42 (dk_at dksX1_digest_3 6 rfl rfl)
theorem dX1_digest_78 : decode cX1_digest 78 = .ok (.invokevirtual 316, 3) := dk_182 1 60 (dk_at dksX1_digest_3 7 rfl rfl)
theorem dX1_digest_81 : decode cX1_digest 81 = .ok (.aload_n 0, 1) := dk_42 (dk_at dksX1_digest_3 10 rfl rfl)
theorem dX1_digest_82 : decode cX1_digest 82 = .ok (.getfield 130, 3) := dk_180 0 130 (dk_at dksX1_digest_3 11 rfl rfl)
theorem dX1_digest_85 : decode cX1_digest 85 = .ok (.ifCond .le 7, 3) := dk_158 0 7 (dk_at dksX1_digest_3 14 rfl rfl)
theorem dX1_digest_88 : decode cX1_digest 88 = .ok (.aload_n 0, 1) := dk_42 (dk_at dksX1_digest_3 17 rfl rfl)
theorem dX1_digest_89 : decode cX1_digest 89 = .ok (.invokevirtual 319, 3) := dk_182 1 63 (dk_at dksX1_digest_3 18 rfl rfl)
theorem dX1_digest_92 : decode cX1_digest 92 = .ok (.iconst 0, 1) := dk_3 (dk_at dksX1_digest_3 21 rfl rfl)
theorem dX1_digest_93 : decode cX1_digest 93 = .ok (.istore_n 1, 1) := dk_60 (dk_at dksX1_digest_3 22 rfl rfl)
theorem dX1_digest_94 : decode cX1_digest 94 = .ok (.iload_n 1, 1) := dk_27 (dk_at dksX1_digest_3 23 rfl rfl)
theorem dX1_digest_95 : decode cX1_digest 95 = .ok (.aload_n 0, 1) := dk_42 (dk_at dksX1_digest_4 0 rfl rfl)
theorem dX1_digest_96 : decode cX1_digest 96 = .ok (.getfield 77, 3) := dk_180 0 77 (dk_at dksX1_digest_4 1 rfl rfl)
theorem dX1_digest_99 : decode cX1_digest 99 = .ok (.if_icmp .ge 20, 3) := dk_162 0 20 (dk_at dksX1_digest_4 4 rfl rfl)
theorem dX1_digest_102 : decode cX1_digest 102 = .ok (.aload_n 0, 1) := dk_42 (dk_at dksX1_digest_4 7 rfl rfl)
theorem dX1_digest_103 : decode cX1_digest 103 = .ok (.aload_n 0, 1) := dk_42 (dk_at dksX1_digest_4 8 rfl rfl)
theorem dX1_digest_104 : decode cX1_digest 104 = .ok (.getfield 7, 3) := dk_180 0 7 (dk_at dksX1_digest_4 9 rfl rfl)
theorem dX1_digest_107 : decode cX1_digest 107 = .ok (.iload_n 1, 1) := dk_27 (dk_at dksX1_digest_4 12 rfl rfl)
theorem dX1_digest_108 : decode cX1_digest 108 = .ok (.iaload, 1) := dk_46 (dk_at dksX1_digest_4 13 rfl rfl)
theorem dX1_digest_109 : decode cX1_digest 109 = .ok (.i2l, 1) := dk_133 (dk_at dksX1_digest_4 14 rfl rfl)
theorem dX1_digest_110 : decode cX1_digest 110 = .ok (.invokevirtual 304, 3) := dk_182 1 48 (dk_at dksX1_digest_4 15 rfl rfl)
theorem dX1_digest_113 : decode cX1_digest 113 = .ok (.iinc 1 1, 3) := dk_132 1 1 (dk_at dksX1_digest_4 18 rfl rfl)
theorem dX1_digest_116 : decode cX1_digest 116 = .ok (.goto (-22), 3) := dk_167 255 234 (dk_at dksX1_digest_4 21 rfl rfl)
theorem dX1_digest_119 : decode cX1_digest 119 = .ok (.iconst 0, 1) := dk_3 (dk_at dksX1_digest_5 0 rfl rfl)
theorem dX1_digest_120 : decode cX1_digest 120 = .ok (.istore_n 1, 1) := dk_60 (dk_at dksX1_digest_5 1 rfl rfl)
theorem dX1_digest_121 : decode cX1_digest 121 = .ok (.iload_n 1, 1) := dk_27 (dk_at dksX1_digest_5 2 rfl rfl)
theorem dX1_digest_122 : decode cX1_digest 122 = .ok (.bipush 6, 2) := dk_16 6 (dk_at dksX1_digest_5 3 rfl rfl)
theorem dX1_digest_124 : decode cX1_digest 124 = .ok (.if_icmp .ge 19, 3) := dk_162 0 19 (dk_at dksX1_digest_5 5 rfl rfl)
theorem dX1_digest_127 : decode cX1_digest 127 = .ok (.aload_n 0, 1) := dk_42 (dk_at dksX1_digest_5 8 rfl rfl)
theorem dX1_digest_128 : decode cX1_digest 128 = .ok (.aload_n 0, 1) := dk_42 (dk_at dksX1_digest_5 9 rfl rfl)
theorem dX1_digest_129 : decode cX1_digest 129 = .ok (.iload_n 1, 1) := dk_27 (dk_at dksX1_digest_5 10 rfl rfl)
theorem dX1_digest_130 : decode cX1_digest 130 = .ok (.invokevirtual 295, 3) := dk_182 1 39 (dk_at dksX1_digest_5 11 rfl rfl)
theorem dX1_digest_133 : decode cX1_digest 133 = .ok (.i2l, 1) := dk_133 (dk_at dksX1_digest_5 14 rfl rfl)
theorem dX1_digest_134 : decode cX1_digest 134 = .ok (.invokevirtual 304, 3) := dk_182 1 48 (dk_at dksX1_digest_5 15 rfl rfl)
theorem dX1_digest_137 : decode cX1_digest 137 = .ok (.iinc 1 1, 3) := dk_132 1 1 (dk_at dksX1_digest_5 18 rfl rfl)
theorem dX1_digest_140 : decode cX1_digest 140 = .ok (.goto (-19), 3) := dk_167 255 237 (dk_at dksX1_digest_5 21 rfl rfl)
theorem dX1_digest_143 : decode cX1_digest 143 = .ok (.aload_n 0, 1) := dk_42 (dk_at dksX1_digest_6 0 rfl rfl)
theorem dX1_digest_144 : decode cX1_digest 144 = .ok (.getfield 300, 3) := dk_180 1 44 (dk_at dksX1_digest_6 1 rfl rfl)
theorem dX1_digest_147 : decode cX1_digest 147 = .ok (.lreturn, 1) := dk_173 (dk_at dksX1_digest_6 4 rfl rfl)
abbrev cX1_mix : ByteArray := prog_7_method_87_code
def yX1_mix : MethodName := ⟨RX1, "mix", "(J)V"⟩
def dkwX1_mix_0 : List UInt8 := [42, 20, 1, 42, 42, 180, 1, 44, 105, 31, 97, 181, 1, 44, 177]
abbrev dktX1_mix_0 : List UInt8 := dkwX1_mix_0 ++ []
theorem dksX1_mix_0 : cX1_mix.data.toList.drop 0 = dktX1_mix_0 := by decide +kernel
theorem dX1_mix_0 : decode cX1_mix 0 = .ok (.aload_n 0, 1) := dk_42 (dk_at dksX1_mix_0 0 rfl rfl)
theorem dX1_mix_1 : decode cX1_mix 1 = .ok (.ldc2_w 298, 3) := dk_20 1 42 (dk_at dksX1_mix_0 1 rfl rfl)
theorem dX1_mix_4 : decode cX1_mix 4 = .ok (.aload_n 0, 1) := dk_42 (dk_at dksX1_mix_0 4 rfl rfl)
theorem dX1_mix_5 : decode cX1_mix 5 = .ok (.getfield 300, 3) := dk_180 1 44 (dk_at dksX1_mix_0 5 rfl rfl)
theorem dX1_mix_8 : decode cX1_mix 8 = .ok (.lmul, 1) := dk_105 (dk_at dksX1_mix_0 8 rfl rfl)
theorem dX1_mix_9 : decode cX1_mix 9 = .ok (.lload_n 1, 1) := dk_31 (dk_at dksX1_mix_0 9 rfl rfl)
theorem dX1_mix_10 : decode cX1_mix 10 = .ok (.ladd, 1) := dk_97 (dk_at dksX1_mix_0 10 rfl rfl)
theorem dX1_mix_11 : decode cX1_mix 11 = .ok (.putfield 300, 3) := dk_181 1 44 (dk_at dksX1_mix_0 11 rfl rfl)
theorem dX1_mix_14 : decode cX1_mix 14 = .ok (.return_, 1) := dk_177 (dk_at dksX1_mix_0 14 rfl rfl)
abbrev cX1_mixName : ByteArray := prog_7_method_88_code
def yX1_mixName : MethodName := ⟨RX1, "mixName", "(I)V"⟩
def dkwX1_mixName_3 : List UInt8 := [162, 0, 20, 42, 42, 27, 28, 182, 0, 145, 133, 182, 1, 48, 132, 2, 1, 167, 255, 232, 177]
abbrev dktX1_mixName_3 : List UInt8 := dkwX1_mixName_3 ++ []
def dkwX1_mixName_2 : List UInt8 := [182, 0, 175, 133, 182, 1, 48, 132, 2, 1, 167, 255, 236, 3, 61, 28, 42, 180, 0, 13, 27, 46]
abbrev dktX1_mixName_2 : List UInt8 := dkwX1_mixName_2 ++ dktX1_mixName_3
def dkwX1_mixName_1 : List UInt8 := [133, 182, 1, 48, 132, 2, 1, 167, 255, 227, 3, 61, 28, 16, 8, 162, 0, 20, 42, 42, 27, 28]
abbrev dktX1_mixName_1 : List UInt8 := dkwX1_mixName_1 ++ dktX1_mixName_2
def dkwX1_mixName_0 : List UInt8 := [3, 61, 28, 42, 180, 0, 13, 27, 46, 162, 0, 25, 42, 42, 180, 0, 16, 16, 8, 27, 104, 28, 96, 46]
abbrev dktX1_mixName_0 : List UInt8 := dkwX1_mixName_0 ++ dktX1_mixName_1
theorem dksX1_mixName_0 : cX1_mixName.data.toList.drop 0 = dktX1_mixName_0 := by decide +kernel
theorem dksX1_mixName_1 : cX1_mixName.data.toList.drop 24 = dktX1_mixName_1 := dk_seg dksX1_mixName_0 24 rfl rfl
theorem dksX1_mixName_2 : cX1_mixName.data.toList.drop 46 = dktX1_mixName_2 := dk_seg dksX1_mixName_1 22 rfl rfl
theorem dksX1_mixName_3 : cX1_mixName.data.toList.drop 68 = dktX1_mixName_3 := dk_seg dksX1_mixName_2 22 rfl rfl
theorem dX1_mixName_0 : decode cX1_mixName 0 = .ok (.iconst 0, 1) := dk_3 (dk_at dksX1_mixName_0 0 rfl rfl)
theorem dX1_mixName_1 : decode cX1_mixName 1 = .ok (.istore_n 2, 1) := dk_61 (dk_at dksX1_mixName_0 1 rfl rfl)
theorem dX1_mixName_2 : decode cX1_mixName 2 = .ok (.iload_n 2, 1) := dk_28 (dk_at dksX1_mixName_0 2 rfl rfl)
theorem dX1_mixName_3 : decode cX1_mixName 3 = .ok (.aload_n 0, 1) := dk_42 (dk_at dksX1_mixName_0 3 rfl rfl)
theorem dX1_mixName_4 : decode cX1_mixName 4 = .ok (.getfield 13, 3) := dk_180 0 13 (dk_at dksX1_mixName_0 4 rfl rfl)
theorem dX1_mixName_7 : decode cX1_mixName 7 = .ok (.iload_n 1, 1) := dk_27 (dk_at dksX1_mixName_0 7 rfl rfl)
theorem dX1_mixName_8 : decode cX1_mixName 8 = .ok (.iaload, 1) := dk_46 (dk_at dksX1_mixName_0 8 rfl rfl)
theorem dX1_mixName_9 : decode cX1_mixName 9 = .ok (.if_icmp .ge 25, 3) := dk_162 0 25 (dk_at dksX1_mixName_0 9 rfl rfl)
theorem dX1_mixName_12 : decode cX1_mixName 12 = .ok (.aload_n 0, 1) := dk_42 (dk_at dksX1_mixName_0 12 rfl rfl)
theorem dX1_mixName_13 : decode cX1_mixName 13 = .ok (.aload_n 0, 1) := dk_42 (dk_at dksX1_mixName_0 13 rfl rfl)
theorem dX1_mixName_14 : decode cX1_mixName 14 = .ok (.getfield 16, 3) := dk_180 0 16 (dk_at dksX1_mixName_0 14 rfl rfl)
theorem dX1_mixName_17 : decode cX1_mixName 17 = .ok (.bipush 8, 2) := dk_16 8 (dk_at dksX1_mixName_0 17 rfl rfl)
theorem dX1_mixName_19 : decode cX1_mixName 19 = .ok (.iload_n 1, 1) := dk_27 (dk_at dksX1_mixName_0 19 rfl rfl)
theorem dX1_mixName_20 : decode cX1_mixName 20 = .ok (.imul, 1) := dk_104 (dk_at dksX1_mixName_0 20 rfl rfl)
theorem dX1_mixName_21 : decode cX1_mixName 21 = .ok (.iload_n 2, 1) := dk_28 (dk_at dksX1_mixName_0 21 rfl rfl)
theorem dX1_mixName_22 : decode cX1_mixName 22 = .ok (.iadd, 1) := dk_96 (dk_at dksX1_mixName_0 22 rfl rfl)
theorem dX1_mixName_23 : decode cX1_mixName 23 = .ok (.iaload, 1) := dk_46 (dk_at dksX1_mixName_0 23 rfl rfl)
theorem dX1_mixName_24 : decode cX1_mixName 24 = .ok (.i2l, 1) := dk_133 (dk_at dksX1_mixName_1 0 rfl rfl)
theorem dX1_mixName_25 : decode cX1_mixName 25 = .ok (.invokevirtual 304, 3) := dk_182 1 48 (dk_at dksX1_mixName_1 1 rfl rfl)
theorem dX1_mixName_28 : decode cX1_mixName 28 = .ok (.iinc 2 1, 3) := dk_132 2 1 (dk_at dksX1_mixName_1 4 rfl rfl)
theorem dX1_mixName_31 : decode cX1_mixName 31 = .ok (.goto (-29), 3) := dk_167 255 227 (dk_at dksX1_mixName_1 7 rfl rfl)
theorem dX1_mixName_34 : decode cX1_mixName 34 = .ok (.iconst 0, 1) := dk_3 (dk_at dksX1_mixName_1 10 rfl rfl)
theorem dX1_mixName_35 : decode cX1_mixName 35 = .ok (.istore_n 2, 1) := dk_61 (dk_at dksX1_mixName_1 11 rfl rfl)
theorem dX1_mixName_36 : decode cX1_mixName 36 = .ok (.iload_n 2, 1) := dk_28 (dk_at dksX1_mixName_1 12 rfl rfl)
theorem dX1_mixName_37 : decode cX1_mixName 37 = .ok (.bipush 8, 2) := dk_16 8 (dk_at dksX1_mixName_1 13 rfl rfl)
theorem dX1_mixName_39 : decode cX1_mixName 39 = .ok (.if_icmp .ge 20, 3) := dk_162 0 20 (dk_at dksX1_mixName_1 15 rfl rfl)
theorem dX1_mixName_42 : decode cX1_mixName 42 = .ok (.aload_n 0, 1) := dk_42 (dk_at dksX1_mixName_1 18 rfl rfl)
theorem dX1_mixName_43 : decode cX1_mixName 43 = .ok (.aload_n 0, 1) := dk_42 (dk_at dksX1_mixName_1 19 rfl rfl)
theorem dX1_mixName_44 : decode cX1_mixName 44 = .ok (.iload_n 1, 1) := dk_27 (dk_at dksX1_mixName_1 20 rfl rfl)
theorem dX1_mixName_45 : decode cX1_mixName 45 = .ok (.iload_n 2, 1) := dk_28 (dk_at dksX1_mixName_1 21 rfl rfl)
theorem dX1_mixName_46 : decode cX1_mixName 46 = .ok (.invokevirtual 175, 3) := dk_182 0 175 (dk_at dksX1_mixName_2 0 rfl rfl)
theorem dX1_mixName_49 : decode cX1_mixName 49 = .ok (.i2l, 1) := dk_133 (dk_at dksX1_mixName_2 3 rfl rfl)
theorem dX1_mixName_50 : decode cX1_mixName 50 = .ok (.invokevirtual 304, 3) := dk_182 1 48 (dk_at dksX1_mixName_2 4 rfl rfl)
theorem dX1_mixName_53 : decode cX1_mixName 53 = .ok (.iinc 2 1, 3) := dk_132 2 1 (dk_at dksX1_mixName_2 7 rfl rfl)
theorem dX1_mixName_56 : decode cX1_mixName 56 = .ok (.goto (-20), 3) := dk_167 255 236 (dk_at dksX1_mixName_2 10 rfl rfl)
theorem dX1_mixName_59 : decode cX1_mixName 59 = .ok (.iconst 0, 1) := dk_3 (dk_at dksX1_mixName_2 13 rfl rfl)
theorem dX1_mixName_60 : decode cX1_mixName 60 = .ok (.istore_n 2, 1) := dk_61 (dk_at dksX1_mixName_2 14 rfl rfl)
theorem dX1_mixName_61 : decode cX1_mixName 61 = .ok (.iload_n 2, 1) := dk_28 (dk_at dksX1_mixName_2 15 rfl rfl)
theorem dX1_mixName_62 : decode cX1_mixName 62 = .ok (.aload_n 0, 1) := dk_42 (dk_at dksX1_mixName_2 16 rfl rfl)
theorem dX1_mixName_63 : decode cX1_mixName 63 = .ok (.getfield 13, 3) := dk_180 0 13 (dk_at dksX1_mixName_2 17 rfl rfl)
theorem dX1_mixName_66 : decode cX1_mixName 66 = .ok (.iload_n 1, 1) := dk_27 (dk_at dksX1_mixName_2 20 rfl rfl)
theorem dX1_mixName_67 : decode cX1_mixName 67 = .ok (.iaload, 1) := dk_46 (dk_at dksX1_mixName_2 21 rfl rfl)
theorem dX1_mixName_68 : decode cX1_mixName 68 = .ok (.if_icmp .ge 20, 3) := dk_162 0 20 (dk_at dksX1_mixName_3 0 rfl rfl)
theorem dX1_mixName_71 : decode cX1_mixName 71 = .ok (.aload_n 0, 1) := dk_42 (dk_at dksX1_mixName_3 3 rfl rfl)
theorem dX1_mixName_72 : decode cX1_mixName 72 = .ok (.aload_n 0, 1) := dk_42 (dk_at dksX1_mixName_3 4 rfl rfl)
theorem dX1_mixName_73 : decode cX1_mixName 73 = .ok (.iload_n 1, 1) := dk_27 (dk_at dksX1_mixName_3 5 rfl rfl)
theorem dX1_mixName_74 : decode cX1_mixName 74 = .ok (.iload_n 2, 1) := dk_28 (dk_at dksX1_mixName_3 6 rfl rfl)
theorem dX1_mixName_75 : decode cX1_mixName 75 = .ok (.invokevirtual 145, 3) := dk_182 0 145 (dk_at dksX1_mixName_3 7 rfl rfl)
theorem dX1_mixName_78 : decode cX1_mixName 78 = .ok (.i2l, 1) := dk_133 (dk_at dksX1_mixName_3 10 rfl rfl)
theorem dX1_mixName_79 : decode cX1_mixName 79 = .ok (.invokevirtual 304, 3) := dk_182 1 48 (dk_at dksX1_mixName_3 11 rfl rfl)
theorem dX1_mixName_82 : decode cX1_mixName 82 = .ok (.iinc 2 1, 3) := dk_132 2 1 (dk_at dksX1_mixName_3 14 rfl rfl)
theorem dX1_mixName_85 : decode cX1_mixName 85 = .ok (.goto (-24), 3) := dk_167 255 232 (dk_at dksX1_mixName_3 17 rfl rfl)
theorem dX1_mixName_88 : decode cX1_mixName 88 = .ok (.return_, 1) := dk_177 (dk_at dksX1_mixName_3 20 rfl rfl)
abbrev cX1_mixTyped : ByteArray := prog_7_method_89_code
def yX1_mixTyped : MethodName := ⟨RX1, "mixTyped", "()V"⟩
def dkwX1_mixTyped_4 : List UInt8 := [182, 0, 225, 133, 182, 1, 48, 132, 1, 1, 167, 255, 233, 177]
abbrev dktX1_mixTyped_4 : List UInt8 := dkwX1_mixTyped_4 ++ []
def dkwX1_mixTyped_3 : List UInt8 := [182, 1, 48, 132, 1, 1, 167, 255, 238, 3, 60, 42, 27, 182, 0, 225, 16, 155, 159, 0, 19, 42, 42, 27]
abbrev dktX1_mixTyped_3 : List UInt8 := dkwX1_mixTyped_3 ++ dktX1_mixTyped_4
def dkwX1_mixTyped_2 : List UInt8 := [182, 1, 48, 132, 1, 1, 167, 255, 233, 3, 60, 27, 7, 162, 0, 19, 42, 42, 27, 182, 0, 219, 133]
abbrev dktX1_mixTyped_2 : List UInt8 := dkwX1_mixTyped_2 ++ dktX1_mixTyped_3
def dkwX1_mixTyped_1 : List UInt8 := [167, 255, 234, 3, 60, 42, 27, 182, 1, 52, 16, 155, 159, 0, 19, 42, 42, 27, 182, 1, 52, 133]
abbrev dktX1_mixTyped_1 : List UInt8 := dkwX1_mixTyped_1 ++ dktX1_mixTyped_2
def dkwX1_mixTyped_0 : List UInt8 := [3, 60, 27, 42, 180, 0, 199, 162, 0, 20, 42, 42, 180, 0, 25, 27, 46, 133, 182, 1, 48, 132, 1, 1]
abbrev dktX1_mixTyped_0 : List UInt8 := dkwX1_mixTyped_0 ++ dktX1_mixTyped_1
theorem dksX1_mixTyped_0 : cX1_mixTyped.data.toList.drop 0 = dktX1_mixTyped_0 := by decide +kernel
theorem dksX1_mixTyped_1 : cX1_mixTyped.data.toList.drop 24 = dktX1_mixTyped_1 := dk_seg dksX1_mixTyped_0 24 rfl rfl
theorem dksX1_mixTyped_2 : cX1_mixTyped.data.toList.drop 46 = dktX1_mixTyped_2 := dk_seg dksX1_mixTyped_1 22 rfl rfl
theorem dksX1_mixTyped_3 : cX1_mixTyped.data.toList.drop 69 = dktX1_mixTyped_3 := dk_seg dksX1_mixTyped_2 23 rfl rfl
theorem dksX1_mixTyped_4 : cX1_mixTyped.data.toList.drop 93 = dktX1_mixTyped_4 := dk_seg dksX1_mixTyped_3 24 rfl rfl
theorem dX1_mixTyped_0 : decode cX1_mixTyped 0 = .ok (.iconst 0, 1) := dk_3 (dk_at dksX1_mixTyped_0 0 rfl rfl)
theorem dX1_mixTyped_1 : decode cX1_mixTyped 1 = .ok (.istore_n 1, 1) := dk_60 (dk_at dksX1_mixTyped_0 1 rfl rfl)
theorem dX1_mixTyped_2 : decode cX1_mixTyped 2 = .ok (.iload_n 1, 1) := dk_27 (dk_at dksX1_mixTyped_0 2 rfl rfl)
theorem dX1_mixTyped_3 : decode cX1_mixTyped 3 = .ok (.aload_n 0, 1) := dk_42 (dk_at dksX1_mixTyped_0 3 rfl rfl)
theorem dX1_mixTyped_4 : decode cX1_mixTyped 4 = .ok (.getfield 199, 3) := dk_180 0 199 (dk_at dksX1_mixTyped_0 4 rfl rfl)
theorem dX1_mixTyped_7 : decode cX1_mixTyped 7 = .ok (.if_icmp .ge 20, 3) := dk_162 0 20 (dk_at dksX1_mixTyped_0 7 rfl rfl)
theorem dX1_mixTyped_10 : decode cX1_mixTyped 10 = .ok (.aload_n 0, 1) := dk_42 (dk_at dksX1_mixTyped_0 10 rfl rfl)
theorem dX1_mixTyped_11 : decode cX1_mixTyped 11 = .ok (.aload_n 0, 1) := dk_42 (dk_at dksX1_mixTyped_0 11 rfl rfl)
theorem dX1_mixTyped_12 : decode cX1_mixTyped 12 = .ok (.getfield 25, 3) := dk_180 0 25 (dk_at dksX1_mixTyped_0 12 rfl rfl)
theorem dX1_mixTyped_15 : decode cX1_mixTyped 15 = .ok (.iload_n 1, 1) := dk_27 (dk_at dksX1_mixTyped_0 15 rfl rfl)
theorem dX1_mixTyped_16 : decode cX1_mixTyped 16 = .ok (.iaload, 1) := dk_46 (dk_at dksX1_mixTyped_0 16 rfl rfl)
theorem dX1_mixTyped_17 : decode cX1_mixTyped 17 = .ok (.i2l, 1) := dk_133 (dk_at dksX1_mixTyped_0 17 rfl rfl)
theorem dX1_mixTyped_18 : decode cX1_mixTyped 18 = .ok (.invokevirtual 304, 3) := dk_182 1 48 (dk_at dksX1_mixTyped_0 18 rfl rfl)
theorem dX1_mixTyped_21 : decode cX1_mixTyped 21 = .ok (.iinc 1 1, 3) := dk_132 1 1 (dk_at dksX1_mixTyped_0 21 rfl rfl)
theorem dX1_mixTyped_24 : decode cX1_mixTyped 24 = .ok (.goto (-22), 3) := dk_167 255 234 (dk_at dksX1_mixTyped_1 0 rfl rfl)
theorem dX1_mixTyped_27 : decode cX1_mixTyped 27 = .ok (.iconst 0, 1) := dk_3 (dk_at dksX1_mixTyped_1 3 rfl rfl)
theorem dX1_mixTyped_28 : decode cX1_mixTyped 28 = .ok (.istore_n 1, 1) := dk_60 (dk_at dksX1_mixTyped_1 4 rfl rfl)
theorem dX1_mixTyped_29 : decode cX1_mixTyped 29 = .ok (.aload_n 0, 1) := dk_42 (dk_at dksX1_mixTyped_1 5 rfl rfl)
theorem dX1_mixTyped_30 : decode cX1_mixTyped 30 = .ok (.iload_n 1, 1) := dk_27 (dk_at dksX1_mixTyped_1 6 rfl rfl)
theorem dX1_mixTyped_31 : decode cX1_mixTyped 31 = .ok (.invokevirtual 308, 3) := dk_182 1 52 (dk_at dksX1_mixTyped_1 7 rfl rfl)
theorem dX1_mixTyped_34 : decode cX1_mixTyped 34 = .ok (.bipush (-101), 2) := dk_16 155 (dk_at dksX1_mixTyped_1 10 rfl rfl)
theorem dX1_mixTyped_36 : decode cX1_mixTyped 36 = .ok (.if_icmp .eq 19, 3) := dk_159 0 19 (dk_at dksX1_mixTyped_1 12 rfl rfl)
theorem dX1_mixTyped_39 : decode cX1_mixTyped 39 = .ok (.aload_n 0, 1) := dk_42 (dk_at dksX1_mixTyped_1 15 rfl rfl)
theorem dX1_mixTyped_40 : decode cX1_mixTyped 40 = .ok (.aload_n 0, 1) := dk_42 (dk_at dksX1_mixTyped_1 16 rfl rfl)
theorem dX1_mixTyped_41 : decode cX1_mixTyped 41 = .ok (.iload_n 1, 1) := dk_27 (dk_at dksX1_mixTyped_1 17 rfl rfl)
theorem dX1_mixTyped_42 : decode cX1_mixTyped 42 = .ok (.invokevirtual 308, 3) := dk_182 1 52 (dk_at dksX1_mixTyped_1 18 rfl rfl)
theorem dX1_mixTyped_45 : decode cX1_mixTyped 45 = .ok (.i2l, 1) := dk_133 (dk_at dksX1_mixTyped_1 21 rfl rfl)
theorem dX1_mixTyped_46 : decode cX1_mixTyped 46 = .ok (.invokevirtual 304, 3) := dk_182 1 48 (dk_at dksX1_mixTyped_2 0 rfl rfl)
theorem dX1_mixTyped_49 : decode cX1_mixTyped 49 = .ok (.iinc 1 1, 3) := dk_132 1 1 (dk_at dksX1_mixTyped_2 3 rfl rfl)
theorem dX1_mixTyped_52 : decode cX1_mixTyped 52 = .ok (.goto (-23), 3) := dk_167 255 233 (dk_at dksX1_mixTyped_2 6 rfl rfl)
theorem dX1_mixTyped_55 : decode cX1_mixTyped 55 = .ok (.iconst 0, 1) := dk_3 (dk_at dksX1_mixTyped_2 9 rfl rfl)
theorem dX1_mixTyped_56 : decode cX1_mixTyped 56 = .ok (.istore_n 1, 1) := dk_60 (dk_at dksX1_mixTyped_2 10 rfl rfl)
theorem dX1_mixTyped_57 : decode cX1_mixTyped 57 = .ok (.iload_n 1, 1) := dk_27 (dk_at dksX1_mixTyped_2 11 rfl rfl)
theorem dX1_mixTyped_58 : decode cX1_mixTyped 58 = .ok (.iconst 4, 1) := dk_7 (dk_at dksX1_mixTyped_2 12 rfl rfl)
theorem dX1_mixTyped_59 : decode cX1_mixTyped 59 = .ok (.if_icmp .ge 19, 3) := dk_162 0 19 (dk_at dksX1_mixTyped_2 13 rfl rfl)
theorem dX1_mixTyped_62 : decode cX1_mixTyped 62 = .ok (.aload_n 0, 1) := dk_42 (dk_at dksX1_mixTyped_2 16 rfl rfl)
theorem dX1_mixTyped_63 : decode cX1_mixTyped 63 = .ok (.aload_n 0, 1) := dk_42 (dk_at dksX1_mixTyped_2 17 rfl rfl)
theorem dX1_mixTyped_64 : decode cX1_mixTyped 64 = .ok (.iload_n 1, 1) := dk_27 (dk_at dksX1_mixTyped_2 18 rfl rfl)
theorem dX1_mixTyped_65 : decode cX1_mixTyped 65 = .ok (.invokevirtual 219, 3) := dk_182 0 219 (dk_at dksX1_mixTyped_2 19 rfl rfl)
theorem dX1_mixTyped_68 : decode cX1_mixTyped 68 = .ok (.i2l, 1) := dk_133 (dk_at dksX1_mixTyped_2 22 rfl rfl)
theorem dX1_mixTyped_69 : decode cX1_mixTyped 69 = .ok (.invokevirtual 304, 3) := dk_182 1 48 (dk_at dksX1_mixTyped_3 0 rfl rfl)
theorem dX1_mixTyped_72 : decode cX1_mixTyped 72 = .ok (.iinc 1 1, 3) := dk_132 1 1 (dk_at dksX1_mixTyped_3 3 rfl rfl)
theorem dX1_mixTyped_75 : decode cX1_mixTyped 75 = .ok (.goto (-18), 3) := dk_167 255 238 (dk_at dksX1_mixTyped_3 6 rfl rfl)
theorem dX1_mixTyped_78 : decode cX1_mixTyped 78 = .ok (.iconst 0, 1) := dk_3 (dk_at dksX1_mixTyped_3 9 rfl rfl)
theorem dX1_mixTyped_79 : decode cX1_mixTyped 79 = .ok (.istore_n 1, 1) := dk_60 (dk_at dksX1_mixTyped_3 10 rfl rfl)
theorem dX1_mixTyped_80 : decode cX1_mixTyped 80 = .ok (.aload_n 0, 1) := dk_42 (dk_at dksX1_mixTyped_3 11 rfl rfl)
theorem dX1_mixTyped_81 : decode cX1_mixTyped 81 = .ok (.iload_n 1, 1) := dk_27 (dk_at dksX1_mixTyped_3 12 rfl rfl)
theorem dX1_mixTyped_82 : decode cX1_mixTyped 82 = .ok (.invokevirtual 225, 3) := dk_182 0 225 (dk_at dksX1_mixTyped_3 13 rfl rfl)
theorem dX1_mixTyped_85 : decode cX1_mixTyped 85 = .ok (.bipush (-101), 2) := dk_16 155 (dk_at dksX1_mixTyped_3 16 rfl rfl)
theorem dX1_mixTyped_87 : decode cX1_mixTyped 87 = .ok (.if_icmp .eq 19, 3) := dk_159 0 19 (dk_at dksX1_mixTyped_3 18 rfl rfl)
theorem dX1_mixTyped_90 : decode cX1_mixTyped 90 = .ok (.aload_n 0, 1) := dk_42 (dk_at dksX1_mixTyped_3 21 rfl rfl)
theorem dX1_mixTyped_91 : decode cX1_mixTyped 91 = .ok (.aload_n 0, 1) := dk_42 (dk_at dksX1_mixTyped_3 22 rfl rfl)
theorem dX1_mixTyped_92 : decode cX1_mixTyped 92 = .ok (.iload_n 1, 1) := dk_27 (dk_at dksX1_mixTyped_3 23 rfl rfl)
theorem dX1_mixTyped_93 : decode cX1_mixTyped 93 = .ok (.invokevirtual 225, 3) := dk_182 0 225 (dk_at dksX1_mixTyped_4 0 rfl rfl)
theorem dX1_mixTyped_96 : decode cX1_mixTyped 96 = .ok (.i2l, 1) := dk_133 (dk_at dksX1_mixTyped_4 3 rfl rfl)
theorem dX1_mixTyped_97 : decode cX1_mixTyped 97 = .ok (.invokevirtual 304, 3) := dk_182 1 48 (dk_at dksX1_mixTyped_4 4 rfl rfl)
theorem dX1_mixTyped_100 : decode cX1_mixTyped 100 = .ok (.iinc 1 1, 3) := dk_132 1 1 (dk_at dksX1_mixTyped_4 7 rfl rfl)
theorem dX1_mixTyped_103 : decode cX1_mixTyped 103 = .ok (.goto (-23), 3) := dk_167 255 233 (dk_at dksX1_mixTyped_4 10 rfl rfl)
theorem dX1_mixTyped_106 : decode cX1_mixTyped 106 = .ok (.return_, 1) := dk_177 (dk_at dksX1_mixTyped_4 13 rfl rfl)
abbrev cX1_mixMenu : ByteArray := prog_7_method_90_code
def yX1_mixMenu : MethodName := ⟨RX1, "mixMenu", "()V"⟩
def dkwX1_mixMenu_3 : List UInt8 := [167, 255, 211, 177]
abbrev dktX1_mixMenu_3 : List UInt8 := dkwX1_mixMenu_3 ++ []
def dkwX1_mixMenu_2 : List UInt8 := [180, 0, 31, 16, 14, 27, 104, 28, 96, 46, 133, 182, 1, 48, 132, 2, 1, 167, 255, 227, 132, 1, 1]
abbrev dktX1_mixMenu_2 : List UInt8 := dkwX1_mixMenu_2 ++ dktX1_mixMenu_3
def dkwX1_mixMenu_1 : List UInt8 := [3, 60, 27, 42, 180, 0, 109, 162, 0, 43, 3, 61, 28, 42, 180, 0, 28, 27, 46, 162, 0, 25, 42, 42]
abbrev dktX1_mixMenu_1 : List UInt8 := dkwX1_mixMenu_1 ++ dktX1_mixMenu_2
def dkwX1_mixMenu_0 : List UInt8 := [3, 60, 27, 16, 7, 162, 0, 19, 42, 42, 27, 182, 1, 36, 133, 182, 1, 48, 132, 1, 1, 167, 255, 237]
abbrev dktX1_mixMenu_0 : List UInt8 := dkwX1_mixMenu_0 ++ dktX1_mixMenu_1
theorem dksX1_mixMenu_0 : cX1_mixMenu.data.toList.drop 0 = dktX1_mixMenu_0 := by decide +kernel
theorem dksX1_mixMenu_1 : cX1_mixMenu.data.toList.drop 24 = dktX1_mixMenu_1 := dk_seg dksX1_mixMenu_0 24 rfl rfl
theorem dksX1_mixMenu_2 : cX1_mixMenu.data.toList.drop 48 = dktX1_mixMenu_2 := dk_seg dksX1_mixMenu_1 24 rfl rfl
theorem dksX1_mixMenu_3 : cX1_mixMenu.data.toList.drop 71 = dktX1_mixMenu_3 := dk_seg dksX1_mixMenu_2 23 rfl rfl
theorem dX1_mixMenu_0 : decode cX1_mixMenu 0 = .ok (.iconst 0, 1) := dk_3 (dk_at dksX1_mixMenu_0 0 rfl rfl)
theorem dX1_mixMenu_1 : decode cX1_mixMenu 1 = .ok (.istore_n 1, 1) := dk_60 (dk_at dksX1_mixMenu_0 1 rfl rfl)
theorem dX1_mixMenu_2 : decode cX1_mixMenu 2 = .ok (.iload_n 1, 1) := dk_27 (dk_at dksX1_mixMenu_0 2 rfl rfl)
theorem dX1_mixMenu_3 : decode cX1_mixMenu 3 = .ok (.bipush 7, 2) := dk_16 7 (dk_at dksX1_mixMenu_0 3 rfl rfl)
theorem dX1_mixMenu_5 : decode cX1_mixMenu 5 = .ok (.if_icmp .ge 19, 3) := dk_162 0 19 (dk_at dksX1_mixMenu_0 5 rfl rfl)
theorem dX1_mixMenu_8 : decode cX1_mixMenu 8 = .ok (.aload_n 0, 1) := dk_42 (dk_at dksX1_mixMenu_0 8 rfl rfl)
theorem dX1_mixMenu_9 : decode cX1_mixMenu 9 = .ok (.aload_n 0, 1) := dk_42 (dk_at dksX1_mixMenu_0 9 rfl rfl)
theorem dX1_mixMenu_10 : decode cX1_mixMenu 10 = .ok (.iload_n 1, 1) := dk_27 (dk_at dksX1_mixMenu_0 10 rfl rfl)
theorem dX1_mixMenu_11 : decode cX1_mixMenu 11 = .ok (.invokevirtual 292, 3) := dk_182 1 36 (dk_at dksX1_mixMenu_0 11 rfl rfl)
theorem dX1_mixMenu_14 : decode cX1_mixMenu 14 = .ok (.i2l, 1) := dk_133 (dk_at dksX1_mixMenu_0 14 rfl rfl)
theorem dX1_mixMenu_15 : decode cX1_mixMenu 15 = .ok (.invokevirtual 304, 3) := dk_182 1 48 (dk_at dksX1_mixMenu_0 15 rfl rfl)
theorem dX1_mixMenu_18 : decode cX1_mixMenu 18 = .ok (.iinc 1 1, 3) := dk_132 1 1 (dk_at dksX1_mixMenu_0 18 rfl rfl)
theorem dX1_mixMenu_21 : decode cX1_mixMenu 21 = .ok (.goto (-19), 3) := dk_167 255 237 (dk_at dksX1_mixMenu_0 21 rfl rfl)
theorem dX1_mixMenu_24 : decode cX1_mixMenu 24 = .ok (.iconst 0, 1) := dk_3 (dk_at dksX1_mixMenu_1 0 rfl rfl)
theorem dX1_mixMenu_25 : decode cX1_mixMenu 25 = .ok (.istore_n 1, 1) := dk_60 (dk_at dksX1_mixMenu_1 1 rfl rfl)
theorem dX1_mixMenu_26 : decode cX1_mixMenu 26 = .ok (.iload_n 1, 1) := dk_27 (dk_at dksX1_mixMenu_1 2 rfl rfl)
theorem dX1_mixMenu_27 : decode cX1_mixMenu 27 = .ok (.aload_n 0, 1) := dk_42 (dk_at dksX1_mixMenu_1 3 rfl rfl)
theorem dX1_mixMenu_28 : decode cX1_mixMenu 28 = .ok (.getfield 109, 3) := dk_180 0 109 (dk_at dksX1_mixMenu_1 4 rfl rfl)
theorem dX1_mixMenu_31 : decode cX1_mixMenu 31 = .ok (.if_icmp .ge 43, 3) := dk_162 0 43 (dk_at dksX1_mixMenu_1 7 rfl rfl)
theorem dX1_mixMenu_34 : decode cX1_mixMenu 34 = .ok (.iconst 0, 1) := dk_3 (dk_at dksX1_mixMenu_1 10 rfl rfl)
theorem dX1_mixMenu_35 : decode cX1_mixMenu 35 = .ok (.istore_n 2, 1) := dk_61 (dk_at dksX1_mixMenu_1 11 rfl rfl)
theorem dX1_mixMenu_36 : decode cX1_mixMenu 36 = .ok (.iload_n 2, 1) := dk_28 (dk_at dksX1_mixMenu_1 12 rfl rfl)
theorem dX1_mixMenu_37 : decode cX1_mixMenu 37 = .ok (.aload_n 0, 1) := dk_42 (dk_at dksX1_mixMenu_1 13 rfl rfl)
theorem dX1_mixMenu_38 : decode cX1_mixMenu 38 = .ok (.getfield 28, 3) := dk_180 0 28 (dk_at dksX1_mixMenu_1 14 rfl rfl)
theorem dX1_mixMenu_41 : decode cX1_mixMenu 41 = .ok (.iload_n 1, 1) := dk_27 (dk_at dksX1_mixMenu_1 17 rfl rfl)
theorem dX1_mixMenu_42 : decode cX1_mixMenu 42 = .ok (.iaload, 1) := dk_46 (dk_at dksX1_mixMenu_1 18 rfl rfl)
theorem dX1_mixMenu_43 : decode cX1_mixMenu 43 = .ok (.if_icmp .ge 25, 3) := dk_162 0 25 (dk_at dksX1_mixMenu_1 19 rfl rfl)
theorem dX1_mixMenu_46 : decode cX1_mixMenu 46 = .ok (.aload_n 0, 1) := dk_42 (dk_at dksX1_mixMenu_1 22 rfl rfl)
theorem dX1_mixMenu_47 : decode cX1_mixMenu 47 = .ok (.aload_n 0, 1) := dk_42 (dk_at dksX1_mixMenu_1 23 rfl rfl)
theorem dX1_mixMenu_48 : decode cX1_mixMenu 48 = .ok (.getfield 31, 3) := dk_180 0 31 (dk_at dksX1_mixMenu_2 0 rfl rfl)
theorem dX1_mixMenu_51 : decode cX1_mixMenu 51 = .ok (.bipush 14, 2) := dk_16 14 (dk_at dksX1_mixMenu_2 3 rfl rfl)
theorem dX1_mixMenu_53 : decode cX1_mixMenu 53 = .ok (.iload_n 1, 1) := dk_27 (dk_at dksX1_mixMenu_2 5 rfl rfl)
theorem dX1_mixMenu_54 : decode cX1_mixMenu 54 = .ok (.imul, 1) := dk_104 (dk_at dksX1_mixMenu_2 6 rfl rfl)
theorem dX1_mixMenu_55 : decode cX1_mixMenu 55 = .ok (.iload_n 2, 1) := dk_28 (dk_at dksX1_mixMenu_2 7 rfl rfl)
theorem dX1_mixMenu_56 : decode cX1_mixMenu 56 = .ok (.iadd, 1) := dk_96 (dk_at dksX1_mixMenu_2 8 rfl rfl)
theorem dX1_mixMenu_57 : decode cX1_mixMenu 57 = .ok (.iaload, 1) := dk_46 (dk_at dksX1_mixMenu_2 9 rfl rfl)
theorem dX1_mixMenu_58 : decode cX1_mixMenu 58 = .ok (.i2l, 1) := dk_133 (dk_at dksX1_mixMenu_2 10 rfl rfl)
theorem dX1_mixMenu_59 : decode cX1_mixMenu 59 = .ok (.invokevirtual 304, 3) := dk_182 1 48 (dk_at dksX1_mixMenu_2 11 rfl rfl)
theorem dX1_mixMenu_62 : decode cX1_mixMenu 62 = .ok (.iinc 2 1, 3) := dk_132 2 1 (dk_at dksX1_mixMenu_2 14 rfl rfl)
theorem dX1_mixMenu_65 : decode cX1_mixMenu 65 = .ok (.goto (-29), 3) := dk_167 255 227 (dk_at dksX1_mixMenu_2 17 rfl rfl)
theorem dX1_mixMenu_68 : decode cX1_mixMenu 68 = .ok (.iinc 1 1, 3) := dk_132 1 1 (dk_at dksX1_mixMenu_2 20 rfl rfl)
theorem dX1_mixMenu_71 : decode cX1_mixMenu 71 = .ok (.goto (-45), 3) := dk_167 255 211 (dk_at dksX1_mixMenu_3 0 rfl rfl)
theorem dX1_mixMenu_74 : decode cX1_mixMenu 74 = .ok (.return_, 1) := dk_177 (dk_at dksX1_mixMenu_3 3 rfl rfl)
theorem q173 : (Jvm.Cond.initialized "DialMenusModel") ∈ lw_all := lw_g (lw_at lw_m1 37 rfl) rfl
theorem q269 : (Jvm.Cond.selects "DialMenusModel" ({ cls := "java/lang/Object", name := "getClass", desc := "()Ljava/lang/Class;" } : Jvm.MethodName) ({ cls := "java/lang/Object", name := "getClass", desc := "()Ljava/lang/Class;" } : Jvm.MethodName)) ∈ lw_all := lw_g (lw_at lw_m1 133 rfl) rfl
theorem q2740 : (Jvm.Cond.selects "DialMenusModel" ({ cls := "java/lang/Object", name := "equals", desc := "(Ljava/lang/Object;)Z" } : Jvm.MethodName) ({ cls := "java/lang/Object", name := "equals", desc := "(Ljava/lang/Object;)Z" } : Jvm.MethodName)) ∈ lw_all := lw_g (lw_at lw_m11 204 rfl) rfl
theorem q2823 : (Jvm.Cond.instantiable "DialMenusModel" (33 : Nat)) ∈ lw_all := lw_g (lw_at lw_m12 47 rfl) rfl
theorem q2825 : (Jvm.Cond.instanceMethod ({ cls := "DialMenusModel", name := "<init>", desc := "()V" } : Jvm.MethodName)) ∈ lw_all := lw_g (lw_at lw_m12 49 rfl) rfl
theorem q2826 : (Jvm.Cond.code ({ cls := "DialMenusModel", name := "<init>", desc := "()V" } : Jvm.MethodName) prog_7_method_1_code (2 : Nat) (Option.none : Option Jvm.ClassFile.FieldType)) ∈ lw_all := lw_g (lw_at lw_m12 50 rfl) rfl
theorem q2827 : (Jvm.Cond.methodLink "DialMenusModel" (1 : Nat) ({ cls := "java/lang/Object", name := "<init>", desc := "()V" } : Jvm.MethodName)) ∈ lw_all := lw_g (lw_at lw_m12 51 rfl) rfl
theorem q2828 : (Jvm.Cond.fieldLink "DialMenusModel" (77 : Nat) "DialMenusModel" "pageLength" "I") ∈ lw_all := lw_g (lw_at lw_m12 52 rfl) rfl
theorem q2829 : (Jvm.Cond.fieldLink "DialMenusModel" (7 : Nat) "DialMenusModel" "page" "[I") ∈ lw_all := lw_g (lw_at lw_m12 53 rfl) rfl
theorem q2830 : (Jvm.Cond.fieldLink "DialMenusModel" (109 : Nat) "DialMenusModel" "names" "I") ∈ lw_all := lw_g (lw_at lw_m12 54 rfl) rfl
theorem q2831 : (Jvm.Cond.fieldLink "DialMenusModel" (13 : Nat) "DialMenusModel" "length" "[I") ∈ lw_all := lw_g (lw_at lw_m12 55 rfl) rfl
theorem q2832 : (Jvm.Cond.fieldLink "DialMenusModel" (16 : Nat) "DialMenusModel" "letters" "[I") ∈ lw_all := lw_g (lw_at lw_m12 56 rfl) rfl
theorem q2833 : (Jvm.Cond.fieldLink "DialMenusModel" (19 : Nat) "DialMenusModel" "uses" "[I") ∈ lw_all := lw_g (lw_at lw_m12 57 rfl) rfl
theorem q2834 : (Jvm.Cond.fieldLink "DialMenusModel" (127 : Nat) "DialMenusModel" "listsRead" "I") ∈ lw_all := lw_g (lw_at lw_m12 58 rfl) rfl
theorem q2835 : (Jvm.Cond.fieldLink "DialMenusModel" (136 : Nat) "DialMenusModel" "dialsRead" "I") ∈ lw_all := lw_g (lw_at lw_m12 59 rfl) rfl
theorem q2836 : (Jvm.Cond.fieldLink "DialMenusModel" (142 : Nat) "DialMenusModel" "gone" "I") ∈ lw_all := lw_g (lw_at lw_m12 60 rfl) rfl
theorem q2837 : (Jvm.Cond.fieldLink "DialMenusModel" (22 : Nat) "DialMenusModel" "digitOf" "[I") ∈ lw_all := lw_g (lw_at lw_m12 61 rfl) rfl
theorem q2838 : (Jvm.Cond.fieldLink "DialMenusModel" (199 : Nat) "DialMenusModel" "typedMany" "I") ∈ lw_all := lw_g (lw_at lw_m12 62 rfl) rfl
theorem q2839 : (Jvm.Cond.fieldLink "DialMenusModel" (25 : Nat) "DialMenusModel" "typedAt" "[I") ∈ lw_all := lw_g (lw_at lw_m12 63 rfl) rfl
theorem q2840 : (Jvm.Cond.fieldLink "DialMenusModel" (130 : Nat) "DialMenusModel" "width" "I") ∈ lw_all := lw_g (lw_at lw_m12 64 rfl) rfl
theorem q2841 : (Jvm.Cond.fieldLink "DialMenusModel" (28 : Nat) "DialMenusModel" "pathLength" "[I") ∈ lw_all := lw_g (lw_at lw_m12 65 rfl) rfl
theorem q2842 : (Jvm.Cond.fieldLink "DialMenusModel" (31 : Nat) "DialMenusModel" "steps" "[I") ∈ lw_all := lw_g (lw_at lw_m12 66 rfl) rfl
theorem q2843 : (Jvm.Cond.fieldLink "DialMenusModel" (259 : Nat) "DialMenusModel" "built" "I") ∈ lw_all := lw_g (lw_at lw_m12 67 rfl) rfl
theorem q2844 : (Jvm.Cond.fieldLink "DialMenusModel" (81 : Nat) "DialMenusModel" "stage" "I") ∈ lw_all := lw_g (lw_at lw_m12 68 rfl) rfl
theorem q2845 : (Jvm.Cond.fieldLink "DialMenusModel" (84 : Nat) "DialMenusModel" "newNames" "I") ∈ lw_all := lw_g (lw_at lw_m12 69 rfl) rfl
theorem q2846 : (Jvm.Cond.fieldLink "DialMenusModel" (34 : Nat) "DialMenusModel" "newLength" "[I") ∈ lw_all := lw_g (lw_at lw_m12 70 rfl) rfl
theorem q2847 : (Jvm.Cond.fieldLink "DialMenusModel" (37 : Nat) "DialMenusModel" "newLetters" "[I") ∈ lw_all := lw_g (lw_at lw_m12 71 rfl) rfl
theorem q2848 : (Jvm.Cond.fieldLink "DialMenusModel" (40 : Nat) "DialMenusModel" "newUses" "[I") ∈ lw_all := lw_g (lw_at lw_m12 72 rfl) rfl
theorem q2849 : (Jvm.Cond.fieldLink "DialMenusModel" (43 : Nat) "DialMenusModel" "newDigit" "[I") ∈ lw_all := lw_g (lw_at lw_m12 73 rfl) rfl
theorem q2850 : (Jvm.Cond.fieldLink "DialMenusModel" (46 : Nat) "DialMenusModel" "ways" "[I") ∈ lw_all := lw_g (lw_at lw_m12 74 rfl) rfl
theorem q2851 : (Jvm.Cond.fieldLink "DialMenusModel" (49 : Nat) "DialMenusModel" "loose" "[I") ∈ lw_all := lw_g (lw_at lw_m12 75 rfl) rfl
theorem q2852 : (Jvm.Cond.fieldLink "DialMenusModel" (52 : Nat) "DialMenusModel" "sizes" "[I") ∈ lw_all := lw_g (lw_at lw_m12 76 rfl) rfl
theorem q2853 : (Jvm.Cond.fieldLink "DialMenusModel" (55 : Nat) "DialMenusModel" "looseWays" "[I") ∈ lw_all := lw_g (lw_at lw_m12 77 rfl) rfl
theorem q2854 : (Jvm.Cond.fieldLink "DialMenusModel" (58 : Nat) "DialMenusModel" "costs" "[I") ∈ lw_all := lw_g (lw_at lw_m12 78 rfl) rfl
theorem q2855 : (Jvm.Cond.fieldLink "DialMenusModel" (61 : Nat) "DialMenusModel" "parts" "[I") ∈ lw_all := lw_g (lw_at lw_m12 79 rfl) rfl
theorem q2856 : (Jvm.Cond.fieldLink "DialMenusModel" (64 : Nat) "DialMenusModel" "newPathLength" "[I") ∈ lw_all := lw_g (lw_at lw_m12 80 rfl) rfl
theorem q2857 : (Jvm.Cond.fieldLink "DialMenusModel" (67 : Nat) "DialMenusModel" "newSteps" "[I") ∈ lw_all := lw_g (lw_at lw_m12 81 rfl) rfl
theorem q2858 : (Jvm.Cond.fieldLink "DialMenusModel" (271 : Nat) "DialMenusModel" "asked" "I") ∈ lw_all := lw_g (lw_at lw_m12 82 rfl) rfl
theorem q2859 : (Jvm.Cond.fieldLink "DialMenusModel" (70 : Nat) "DialMenusModel" "askedAt" "[I") ∈ lw_all := lw_g (lw_at lw_m12 83 rfl) rfl
theorem q2860 : (Jvm.Cond.fieldLink "DialMenusModel" (300 : Nat) "DialMenusModel" "h" "J") ∈ lw_all := lw_g (lw_at lw_m12 84 rfl) rfl
theorem q2861 : (Jvm.Cond.lays "DialMenusModel" "DialMenusModel" "pageLength" "I") ∈ lw_all := lw_g (lw_at lw_m12 85 rfl) rfl
theorem q2862 : (Jvm.Cond.soleField "DialMenusModel" "pageLength") ∈ lw_all := lw_g (lw_at lw_m12 86 rfl) rfl
theorem q2863 : (Jvm.Cond.laysFinal "DialMenusModel" "DialMenusModel" "page" "[I") ∈ lw_all := lw_g (lw_at lw_m12 87 rfl) rfl
theorem q2864 : (Jvm.Cond.soleField "DialMenusModel" "page") ∈ lw_all := lw_g (lw_at lw_m12 88 rfl) rfl
theorem q2865 : (Jvm.Cond.lays "DialMenusModel" "DialMenusModel" "names" "I") ∈ lw_all := lw_g (lw_at lw_m12 89 rfl) rfl
theorem q2866 : (Jvm.Cond.soleField "DialMenusModel" "names") ∈ lw_all := lw_g (lw_at lw_m12 90 rfl) rfl
theorem q2867 : (Jvm.Cond.laysFinal "DialMenusModel" "DialMenusModel" "length" "[I") ∈ lw_all := lw_g (lw_at lw_m12 91 rfl) rfl
theorem q2868 : (Jvm.Cond.soleField "DialMenusModel" "length") ∈ lw_all := lw_g (lw_at lw_m12 92 rfl) rfl
theorem q2869 : (Jvm.Cond.laysFinal "DialMenusModel" "DialMenusModel" "letters" "[I") ∈ lw_all := lw_g (lw_at lw_m12 93 rfl) rfl
theorem q2870 : (Jvm.Cond.soleField "DialMenusModel" "letters") ∈ lw_all := lw_g (lw_at lw_m12 94 rfl) rfl
theorem q2871 : (Jvm.Cond.laysFinal "DialMenusModel" "DialMenusModel" "uses" "[I") ∈ lw_all := lw_g (lw_at lw_m12 95 rfl) rfl
theorem q2872 : (Jvm.Cond.soleField "DialMenusModel" "uses") ∈ lw_all := lw_g (lw_at lw_m12 96 rfl) rfl
theorem q2873 : (Jvm.Cond.lays "DialMenusModel" "DialMenusModel" "listsRead" "I") ∈ lw_all := lw_g (lw_at lw_m12 97 rfl) rfl
theorem q2874 : (Jvm.Cond.soleField "DialMenusModel" "listsRead") ∈ lw_all := lw_g (lw_at lw_m12 98 rfl) rfl
theorem q2875 : (Jvm.Cond.lays "DialMenusModel" "DialMenusModel" "dialsRead" "I") ∈ lw_all := lw_g (lw_at lw_m12 99 rfl) rfl
theorem q2876 : (Jvm.Cond.soleField "DialMenusModel" "dialsRead") ∈ lw_all := lw_g (lw_at lw_m12 100 rfl) rfl
theorem q2877 : (Jvm.Cond.lays "DialMenusModel" "DialMenusModel" "gone" "I") ∈ lw_all := lw_g (lw_at lw_m12 101 rfl) rfl
theorem q2878 : (Jvm.Cond.soleField "DialMenusModel" "gone") ∈ lw_all := lw_g (lw_at lw_m12 102 rfl) rfl
theorem q2879 : (Jvm.Cond.laysFinal "DialMenusModel" "DialMenusModel" "digitOf" "[I") ∈ lw_all := lw_g (lw_at lw_m12 103 rfl) rfl
theorem q2880 : (Jvm.Cond.soleField "DialMenusModel" "digitOf") ∈ lw_all := lw_g (lw_at lw_m12 104 rfl) rfl
theorem q2881 : (Jvm.Cond.lays "DialMenusModel" "DialMenusModel" "typedMany" "I") ∈ lw_all := lw_g (lw_at lw_m12 105 rfl) rfl
theorem q2882 : (Jvm.Cond.soleField "DialMenusModel" "typedMany") ∈ lw_all := lw_g (lw_at lw_m12 106 rfl) rfl
theorem q2883 : (Jvm.Cond.laysFinal "DialMenusModel" "DialMenusModel" "typedAt" "[I") ∈ lw_all := lw_g (lw_at lw_m12 107 rfl) rfl
theorem q2884 : (Jvm.Cond.soleField "DialMenusModel" "typedAt") ∈ lw_all := lw_g (lw_at lw_m12 108 rfl) rfl
theorem q2885 : (Jvm.Cond.lays "DialMenusModel" "DialMenusModel" "width" "I") ∈ lw_all := lw_g (lw_at lw_m12 109 rfl) rfl
theorem q2886 : (Jvm.Cond.soleField "DialMenusModel" "width") ∈ lw_all := lw_g (lw_at lw_m12 110 rfl) rfl
theorem q2887 : (Jvm.Cond.laysFinal "DialMenusModel" "DialMenusModel" "pathLength" "[I") ∈ lw_all := lw_g (lw_at lw_m12 111 rfl) rfl
theorem q2888 : (Jvm.Cond.soleField "DialMenusModel" "pathLength") ∈ lw_all := lw_g (lw_at lw_m12 112 rfl) rfl
theorem q2889 : (Jvm.Cond.laysFinal "DialMenusModel" "DialMenusModel" "steps" "[I") ∈ lw_all := lw_g (lw_at lw_m12 113 rfl) rfl
theorem q2890 : (Jvm.Cond.soleField "DialMenusModel" "steps") ∈ lw_all := lw_g (lw_at lw_m12 114 rfl) rfl
theorem q2891 : (Jvm.Cond.lays "DialMenusModel" "DialMenusModel" "built" "I") ∈ lw_all := lw_g (lw_at lw_m12 115 rfl) rfl
theorem q2892 : (Jvm.Cond.soleField "DialMenusModel" "built") ∈ lw_all := lw_g (lw_at lw_m12 116 rfl) rfl
theorem q2893 : (Jvm.Cond.lays "DialMenusModel" "DialMenusModel" "stage" "I") ∈ lw_all := lw_g (lw_at lw_m12 117 rfl) rfl
theorem q2894 : (Jvm.Cond.soleField "DialMenusModel" "stage") ∈ lw_all := lw_g (lw_at lw_m12 118 rfl) rfl
theorem q2895 : (Jvm.Cond.lays "DialMenusModel" "DialMenusModel" "newNames" "I") ∈ lw_all := lw_g (lw_at lw_m12 119 rfl) rfl
theorem q2896 : (Jvm.Cond.soleField "DialMenusModel" "newNames") ∈ lw_all := lw_g (lw_at lw_m12 120 rfl) rfl
theorem q2897 : (Jvm.Cond.laysFinal "DialMenusModel" "DialMenusModel" "newLength" "[I") ∈ lw_all := lw_g (lw_at lw_m12 121 rfl) rfl
theorem q2898 : (Jvm.Cond.soleField "DialMenusModel" "newLength") ∈ lw_all := lw_g (lw_at lw_m12 122 rfl) rfl
theorem q2899 : (Jvm.Cond.laysFinal "DialMenusModel" "DialMenusModel" "newLetters" "[I") ∈ lw_all := lw_g (lw_at lw_m12 123 rfl) rfl
theorem q2900 : (Jvm.Cond.soleField "DialMenusModel" "newLetters") ∈ lw_all := lw_g (lw_at lw_m12 124 rfl) rfl
theorem q2901 : (Jvm.Cond.laysFinal "DialMenusModel" "DialMenusModel" "newUses" "[I") ∈ lw_all := lw_g (lw_at lw_m12 125 rfl) rfl
theorem q2902 : (Jvm.Cond.soleField "DialMenusModel" "newUses") ∈ lw_all := lw_g (lw_at lw_m12 126 rfl) rfl
theorem q2903 : (Jvm.Cond.laysFinal "DialMenusModel" "DialMenusModel" "newDigit" "[I") ∈ lw_all := lw_g (lw_at lw_m12 127 rfl) rfl
theorem q2904 : (Jvm.Cond.soleField "DialMenusModel" "newDigit") ∈ lw_all := lw_g (lw_at lw_m12 128 rfl) rfl
theorem q2905 : (Jvm.Cond.laysFinal "DialMenusModel" "DialMenusModel" "ways" "[I") ∈ lw_all := lw_g (lw_at lw_m12 129 rfl) rfl
theorem q2906 : (Jvm.Cond.soleField "DialMenusModel" "ways") ∈ lw_all := lw_g (lw_at lw_m12 130 rfl) rfl
theorem q2907 : (Jvm.Cond.laysFinal "DialMenusModel" "DialMenusModel" "loose" "[I") ∈ lw_all := lw_g (lw_at lw_m12 131 rfl) rfl
theorem q2908 : (Jvm.Cond.soleField "DialMenusModel" "loose") ∈ lw_all := lw_g (lw_at lw_m12 132 rfl) rfl
theorem q2909 : (Jvm.Cond.laysFinal "DialMenusModel" "DialMenusModel" "sizes" "[I") ∈ lw_all := lw_g (lw_at lw_m12 133 rfl) rfl
theorem q2910 : (Jvm.Cond.soleField "DialMenusModel" "sizes") ∈ lw_all := lw_g (lw_at lw_m12 134 rfl) rfl
theorem q2911 : (Jvm.Cond.laysFinal "DialMenusModel" "DialMenusModel" "looseWays" "[I") ∈ lw_all := lw_g (lw_at lw_m12 135 rfl) rfl
theorem q2912 : (Jvm.Cond.soleField "DialMenusModel" "looseWays") ∈ lw_all := lw_g (lw_at lw_m12 136 rfl) rfl
theorem q2913 : (Jvm.Cond.laysFinal "DialMenusModel" "DialMenusModel" "costs" "[I") ∈ lw_all := lw_g (lw_at lw_m12 137 rfl) rfl
theorem q2914 : (Jvm.Cond.soleField "DialMenusModel" "costs") ∈ lw_all := lw_g (lw_at lw_m12 138 rfl) rfl
theorem q2915 : (Jvm.Cond.laysFinal "DialMenusModel" "DialMenusModel" "parts" "[I") ∈ lw_all := lw_g (lw_at lw_m12 139 rfl) rfl
theorem q2916 : (Jvm.Cond.soleField "DialMenusModel" "parts") ∈ lw_all := lw_g (lw_at lw_m12 140 rfl) rfl
theorem q2917 : (Jvm.Cond.laysFinal "DialMenusModel" "DialMenusModel" "newPathLength" "[I") ∈ lw_all := lw_g (lw_at lw_m12 141 rfl) rfl
theorem q2918 : (Jvm.Cond.soleField "DialMenusModel" "newPathLength") ∈ lw_all := lw_g (lw_at lw_m12 142 rfl) rfl
theorem q2919 : (Jvm.Cond.laysFinal "DialMenusModel" "DialMenusModel" "newSteps" "[I") ∈ lw_all := lw_g (lw_at lw_m12 143 rfl) rfl
theorem q2920 : (Jvm.Cond.soleField "DialMenusModel" "newSteps") ∈ lw_all := lw_g (lw_at lw_m12 144 rfl) rfl
theorem q2921 : (Jvm.Cond.lays "DialMenusModel" "DialMenusModel" "asked" "I") ∈ lw_all := lw_g (lw_at lw_m12 145 rfl) rfl
theorem q2922 : (Jvm.Cond.soleField "DialMenusModel" "asked") ∈ lw_all := lw_g (lw_at lw_m12 146 rfl) rfl
theorem q2923 : (Jvm.Cond.laysFinal "DialMenusModel" "DialMenusModel" "askedAt" "[I") ∈ lw_all := lw_g (lw_at lw_m12 147 rfl) rfl
theorem q2924 : (Jvm.Cond.soleField "DialMenusModel" "askedAt") ∈ lw_all := lw_g (lw_at lw_m12 148 rfl) rfl
theorem q2925 : (Jvm.Cond.lays "DialMenusModel" "DialMenusModel" "h" "J") ∈ lw_all := lw_g (lw_at lw_m12 149 rfl) rfl
theorem q2926 : (Jvm.Cond.soleField "DialMenusModel" "h") ∈ lw_all := lw_g (lw_at lw_m12 150 rfl) rfl
theorem q2927 : (Jvm.Cond.superclass "DialMenusModel" "java/lang/Object") ∈ lw_all := lw_g (lw_at lw_m12 151 rfl) rfl
theorem q2929 : (Jvm.Cond.instanceMethod ({ cls := "DialMenusModel", name := "letter", desc := "(I)I" } : Jvm.MethodName)) ∈ lw_all := lw_g (lw_at lw_m12 153 rfl) rfl
theorem q2930 : (Jvm.Cond.selects "DialMenusModel" ({ cls := "DialMenusModel", name := "letter", desc := "(I)I" } : Jvm.MethodName) ({ cls := "DialMenusModel", name := "letter", desc := "(I)I" } : Jvm.MethodName)) ∈ lw_all := lw_g (lw_at lw_m12 154 rfl) rfl
theorem q2931 : (Jvm.Cond.code ({ cls := "DialMenusModel", name := "letter", desc := "(I)I" } : Jvm.MethodName) prog_7_method_4_code (2 : Nat) (Option.some Jvm.ClassFile.FieldType.int)) ∈ lw_all := lw_g (lw_at lw_m12 155 rfl) rfl
theorem q2932 : (Jvm.Cond.methodLink "DialMenusModel" (73 : Nat) ({ cls := "DialMenusModel", name := "within", desc := "(III)Z" } : Jvm.MethodName)) ∈ lw_all := lw_g (lw_at lw_m12 156 rfl) rfl
theorem q2933 : (Jvm.Cond.static ({ cls := "DialMenusModel", name := "within", desc := "(III)Z" } : Jvm.MethodName)) ∈ lw_all := lw_g (lw_at lw_m12 157 rfl) rfl
theorem q2934 : (Jvm.Cond.code ({ cls := "DialMenusModel", name := "within", desc := "(III)Z" } : Jvm.MethodName) prog_7_method_3_code (3 : Nat) (Option.some Jvm.ClassFile.FieldType.boolean)) ∈ lw_all := lw_g (lw_at lw_m12 158 rfl) rfl
theorem q2936 : (Jvm.Cond.instanceMethod ({ cls := "DialMenusModel", name := "blank", desc := "()I" } : Jvm.MethodName)) ∈ lw_all := lw_g (lw_at lw_m12 160 rfl) rfl
theorem q2937 : (Jvm.Cond.selects "DialMenusModel" ({ cls := "DialMenusModel", name := "blank", desc := "()I" } : Jvm.MethodName) ({ cls := "DialMenusModel", name := "blank", desc := "()I" } : Jvm.MethodName)) ∈ lw_all := lw_g (lw_at lw_m12 161 rfl) rfl
theorem q2938 : (Jvm.Cond.code ({ cls := "DialMenusModel", name := "blank", desc := "()I" } : Jvm.MethodName) prog_7_method_5_code (2 : Nat) (Option.some Jvm.ClassFile.FieldType.int)) ∈ lw_all := lw_g (lw_at lw_m12 162 rfl) rfl
theorem q2940 : (Jvm.Cond.instanceMethod ({ cls := "DialMenusModel", name := "fault", desc := "()I" } : Jvm.MethodName)) ∈ lw_all := lw_g (lw_at lw_m12 164 rfl) rfl
theorem q2941 : (Jvm.Cond.selects "DialMenusModel" ({ cls := "DialMenusModel", name := "fault", desc := "()I" } : Jvm.MethodName) ({ cls := "DialMenusModel", name := "fault", desc := "()I" } : Jvm.MethodName)) ∈ lw_all := lw_g (lw_at lw_m12 165 rfl) rfl
theorem q2942 : (Jvm.Cond.code ({ cls := "DialMenusModel", name := "fault", desc := "()I" } : Jvm.MethodName) prog_7_method_12_code (1 : Nat) (Option.some Jvm.ClassFile.FieldType.int)) ∈ lw_all := lw_g (lw_at lw_m12 166 rfl) rfl
theorem q2943 : (Jvm.Cond.methodLink "DialMenusModel" (105 : Nat) ({ cls := "DialMenusModel", name := "read", desc := "()I" } : Jvm.MethodName)) ∈ lw_all := lw_g (lw_at lw_m12 167 rfl) rfl
theorem q2944 : (Jvm.Cond.privateMethod ({ cls := "DialMenusModel", name := "read", desc := "()I" } : Jvm.MethodName)) ∈ lw_tbl := lw_at lw_m12 168 rfl
theorem q2945 : (Jvm.Cond.instanceMethod ({ cls := "DialMenusModel", name := "read", desc := "()I" } : Jvm.MethodName)) ∈ lw_all := lw_g (lw_at lw_m12 169 rfl) rfl
theorem q2946 : (Jvm.Cond.code ({ cls := "DialMenusModel", name := "read", desc := "()I" } : Jvm.MethodName) prog_7_method_11_code (2 : Nat) (Option.some Jvm.ClassFile.FieldType.int)) ∈ lw_all := lw_g (lw_at lw_m12 170 rfl) rfl
theorem q2947 : (Jvm.Cond.methodLink "DialMenusModel" (102 : Nat) ({ cls := "DialMenusModel", name := "takes", desc := "(I)Z" } : Jvm.MethodName)) ∈ lw_all := lw_g (lw_at lw_m12 171 rfl) rfl
theorem q2948 : (Jvm.Cond.privateMethod ({ cls := "DialMenusModel", name := "takes", desc := "(I)Z" } : Jvm.MethodName)) ∈ lw_tbl := lw_at lw_m12 172 rfl
theorem q2949 : (Jvm.Cond.instanceMethod ({ cls := "DialMenusModel", name := "takes", desc := "(I)Z" } : Jvm.MethodName)) ∈ lw_all := lw_g (lw_at lw_m12 173 rfl) rfl
theorem q2950 : (Jvm.Cond.code ({ cls := "DialMenusModel", name := "takes", desc := "(I)Z" } : Jvm.MethodName) prog_7_method_10_code (2 : Nat) (Option.some Jvm.ClassFile.FieldType.boolean)) ∈ lw_all := lw_g (lw_at lw_m12 174 rfl) rfl
theorem q2951 : (Jvm.Cond.methodLink "DialMenusModel" (95 : Nat) ({ cls := "DialMenusModel", name := "takesName", desc := "(I)Z" } : Jvm.MethodName)) ∈ lw_all := lw_g (lw_at lw_m12 175 rfl) rfl
theorem q2952 : (Jvm.Cond.privateMethod ({ cls := "DialMenusModel", name := "takesName", desc := "(I)Z" } : Jvm.MethodName)) ∈ lw_tbl := lw_at lw_m12 176 rfl
theorem q2953 : (Jvm.Cond.instanceMethod ({ cls := "DialMenusModel", name := "takesName", desc := "(I)Z" } : Jvm.MethodName)) ∈ lw_all := lw_g (lw_at lw_m12 177 rfl) rfl
theorem q2954 : (Jvm.Cond.code ({ cls := "DialMenusModel", name := "takesName", desc := "(I)Z" } : Jvm.MethodName) prog_7_method_8_code (3 : Nat) (Option.some Jvm.ClassFile.FieldType.boolean)) ∈ lw_all := lw_g (lw_at lw_m12 178 rfl) rfl
theorem q2955 : (Jvm.Cond.methodLink "DialMenusModel" (87 : Nat) ({ cls := "DialMenusModel", name := "isNewTwice", desc := "()Z" } : Jvm.MethodName)) ∈ lw_all := lw_g (lw_at lw_m12 179 rfl) rfl
theorem q2956 : (Jvm.Cond.privateMethod ({ cls := "DialMenusModel", name := "isNewTwice", desc := "()Z" } : Jvm.MethodName)) ∈ lw_tbl := lw_at lw_m12 180 rfl
theorem q2957 : (Jvm.Cond.instanceMethod ({ cls := "DialMenusModel", name := "isNewTwice", desc := "()Z" } : Jvm.MethodName)) ∈ lw_all := lw_g (lw_at lw_m12 181 rfl) rfl
theorem q2958 : (Jvm.Cond.code ({ cls := "DialMenusModel", name := "isNewTwice", desc := "()Z" } : Jvm.MethodName) prog_7_method_7_code (5 : Nat) (Option.some Jvm.ClassFile.FieldType.boolean)) ∈ lw_all := lw_g (lw_at lw_m12 182 rfl) rfl
theorem q2959 : (Jvm.Cond.methodLink "DialMenusModel" (91 : Nat) ({ cls := "DialMenusModel", name := "goes", desc := "(ZI)Z" } : Jvm.MethodName)) ∈ lw_all := lw_g (lw_at lw_m12 183 rfl) rfl
theorem q2960 : (Jvm.Cond.privateMethod ({ cls := "DialMenusModel", name := "goes", desc := "(ZI)Z" } : Jvm.MethodName)) ∈ lw_tbl := lw_at lw_m12 184 rfl
theorem q2961 : (Jvm.Cond.instanceMethod ({ cls := "DialMenusModel", name := "goes", desc := "(ZI)Z" } : Jvm.MethodName)) ∈ lw_all := lw_g (lw_at lw_m12 185 rfl) rfl
theorem q2962 : (Jvm.Cond.code ({ cls := "DialMenusModel", name := "goes", desc := "(ZI)Z" } : Jvm.MethodName) prog_7_method_6_code (3 : Nat) (Option.some Jvm.ClassFile.FieldType.boolean)) ∈ lw_all := lw_g (lw_at lw_m12 186 rfl) rfl
theorem q2963 : (Jvm.Cond.methodLink "DialMenusModel" (99 : Nat) ({ cls := "DialMenusModel", name := "takesUse", desc := "(I)Z" } : Jvm.MethodName)) ∈ lw_all := lw_g (lw_at lw_m12 187 rfl) rfl
theorem q2964 : (Jvm.Cond.privateMethod ({ cls := "DialMenusModel", name := "takesUse", desc := "(I)Z" } : Jvm.MethodName)) ∈ lw_tbl := lw_at lw_m12 188 rfl
theorem q2965 : (Jvm.Cond.instanceMethod ({ cls := "DialMenusModel", name := "takesUse", desc := "(I)Z" } : Jvm.MethodName)) ∈ lw_all := lw_g (lw_at lw_m12 189 rfl) rfl
theorem q2966 : (Jvm.Cond.code ({ cls := "DialMenusModel", name := "takesUse", desc := "(I)Z" } : Jvm.MethodName) prog_7_method_9_code (4 : Nat) (Option.some Jvm.ClassFile.FieldType.boolean)) ∈ lw_all := lw_g (lw_at lw_m12 190 rfl) rfl
theorem q2968 : (Jvm.Cond.instanceMethod ({ cls := "DialMenusModel", name := "names", desc := "()I" } : Jvm.MethodName)) ∈ lw_all := lw_g (lw_at lw_m12 192 rfl) rfl
theorem q2969 : (Jvm.Cond.selects "DialMenusModel" ({ cls := "DialMenusModel", name := "names", desc := "()I" } : Jvm.MethodName) ({ cls := "DialMenusModel", name := "names", desc := "()I" } : Jvm.MethodName)) ∈ lw_all := lw_g (lw_at lw_m12 193 rfl) rfl
theorem q2970 : (Jvm.Cond.code ({ cls := "DialMenusModel", name := "names", desc := "()I" } : Jvm.MethodName) prog_7_method_17_code (3 : Nat) (Option.some Jvm.ClassFile.FieldType.int)) ∈ lw_all := lw_g (lw_at lw_m12 194 rfl) rfl
theorem q2971 : (Jvm.Cond.methodLink "DialMenusModel" (120 : Nat) ({ cls := "DialMenusModel", name := "isThere", desc := "(I)Z" } : Jvm.MethodName)) ∈ lw_all := lw_g (lw_at lw_m12 195 rfl) rfl
theorem q2972 : (Jvm.Cond.privateMethod ({ cls := "DialMenusModel", name := "isThere", desc := "(I)Z" } : Jvm.MethodName)) ∈ lw_tbl := lw_at lw_m12 196 rfl
theorem q2973 : (Jvm.Cond.instanceMethod ({ cls := "DialMenusModel", name := "isThere", desc := "(I)Z" } : Jvm.MethodName)) ∈ lw_all := lw_g (lw_at lw_m12 197 rfl) rfl
theorem q2974 : (Jvm.Cond.code ({ cls := "DialMenusModel", name := "isThere", desc := "(I)Z" } : Jvm.MethodName) prog_7_method_14_code (4 : Nat) (Option.some Jvm.ClassFile.FieldType.boolean)) ∈ lw_all := lw_g (lw_at lw_m12 198 rfl) rfl
theorem q2975 : (Jvm.Cond.methodLink "DialMenusModel" (112 : Nat) ({ cls := "DialMenusModel", name := "compareNew", desc := "(II)I" } : Jvm.MethodName)) ∈ lw_all := lw_g (lw_at lw_m12 199 rfl) rfl
theorem q2976 : (Jvm.Cond.privateMethod ({ cls := "DialMenusModel", name := "compareNew", desc := "(II)I" } : Jvm.MethodName)) ∈ lw_tbl := lw_at lw_m12 200 rfl
theorem q2977 : (Jvm.Cond.instanceMethod ({ cls := "DialMenusModel", name := "compareNew", desc := "(II)I" } : Jvm.MethodName)) ∈ lw_all := lw_g (lw_at lw_m12 201 rfl) rfl
theorem q2978 : (Jvm.Cond.code ({ cls := "DialMenusModel", name := "compareNew", desc := "(II)I" } : Jvm.MethodName) prog_7_method_13_code (6 : Nat) (Option.some Jvm.ClassFile.FieldType.int)) ∈ lw_all := lw_g (lw_at lw_m12 202 rfl) rfl
theorem q2979 : (Jvm.Cond.methodLink "DialMenusModel" (123 : Nat) ({ cls := "DialMenusModel", name := "comes", desc := "(I)V" } : Jvm.MethodName)) ∈ lw_all := lw_g (lw_at lw_m12 203 rfl) rfl
theorem q2980 : (Jvm.Cond.privateMethod ({ cls := "DialMenusModel", name := "comes", desc := "(I)V" } : Jvm.MethodName)) ∈ lw_tbl := lw_at lw_m12 204 rfl
theorem q2981 : (Jvm.Cond.instanceMethod ({ cls := "DialMenusModel", name := "comes", desc := "(I)V" } : Jvm.MethodName)) ∈ lw_all := lw_g (lw_at lw_m12 205 rfl) rfl
theorem q2982 : (Jvm.Cond.code ({ cls := "DialMenusModel", name := "comes", desc := "(I)V" } : Jvm.MethodName) prog_7_method_16_code (4 : Nat) (Option.none : Option Jvm.ClassFile.FieldType)) ∈ lw_all := lw_g (lw_at lw_m12 206 rfl) rfl
theorem q2983 : (Jvm.Cond.methodLink "DialMenusModel" (116 : Nat) ({ cls := "DialMenusModel", name := "moveName", desc := "(II)V" } : Jvm.MethodName)) ∈ lw_all := lw_g (lw_at lw_m12 207 rfl) rfl
theorem q2984 : (Jvm.Cond.privateMethod ({ cls := "DialMenusModel", name := "moveName", desc := "(II)V" } : Jvm.MethodName)) ∈ lw_tbl := lw_at lw_m12 208 rfl
theorem q2985 : (Jvm.Cond.instanceMethod ({ cls := "DialMenusModel", name := "moveName", desc := "(II)V" } : Jvm.MethodName)) ∈ lw_all := lw_g (lw_at lw_m12 209 rfl) rfl
theorem q2986 : (Jvm.Cond.code ({ cls := "DialMenusModel", name := "moveName", desc := "(II)V" } : Jvm.MethodName) prog_7_method_15_code (4 : Nat) (Option.none : Option Jvm.ClassFile.FieldType)) ∈ lw_all := lw_g (lw_at lw_m12 210 rfl) rfl
theorem q2988 : (Jvm.Cond.instanceMethod ({ cls := "DialMenusModel", name := "dial", desc := "()I" } : Jvm.MethodName)) ∈ lw_all := lw_g (lw_at lw_m12 212 rfl) rfl
theorem q2989 : (Jvm.Cond.selects "DialMenusModel" ({ cls := "DialMenusModel", name := "dial", desc := "()I" } : Jvm.MethodName) ({ cls := "DialMenusModel", name := "dial", desc := "()I" } : Jvm.MethodName)) ∈ lw_all := lw_g (lw_at lw_m12 213 rfl) rfl
theorem q2990 : (Jvm.Cond.code ({ cls := "DialMenusModel", name := "dial", desc := "()I" } : Jvm.MethodName) prog_7_method_19_code (5 : Nat) (Option.some Jvm.ClassFile.FieldType.int)) ∈ lw_all := lw_g (lw_at lw_m12 214 rfl) rfl
theorem q2991 : (Jvm.Cond.methodLink "DialMenusModel" (133 : Nat) ({ cls := "DialMenusModel", name := "isDial", desc := "()Z" } : Jvm.MethodName)) ∈ lw_all := lw_g (lw_at lw_m12 215 rfl) rfl
theorem q2992 : (Jvm.Cond.privateMethod ({ cls := "DialMenusModel", name := "isDial", desc := "()Z" } : Jvm.MethodName)) ∈ lw_tbl := lw_at lw_m12 216 rfl
theorem q2993 : (Jvm.Cond.instanceMethod ({ cls := "DialMenusModel", name := "isDial", desc := "()Z" } : Jvm.MethodName)) ∈ lw_all := lw_g (lw_at lw_m12 217 rfl) rfl
theorem q2994 : (Jvm.Cond.code ({ cls := "DialMenusModel", name := "isDial", desc := "()Z" } : Jvm.MethodName) prog_7_method_18_code (6 : Nat) (Option.some Jvm.ClassFile.FieldType.boolean)) ∈ lw_all := lw_g (lw_at lw_m12 218 rfl) rfl
theorem q2996 : (Jvm.Cond.instanceMethod ({ cls := "DialMenusModel", name := "drop", desc := "(I)I" } : Jvm.MethodName)) ∈ lw_all := lw_g (lw_at lw_m12 220 rfl) rfl
theorem q2997 : (Jvm.Cond.selects "DialMenusModel" ({ cls := "DialMenusModel", name := "drop", desc := "(I)I" } : Jvm.MethodName) ({ cls := "DialMenusModel", name := "drop", desc := "(I)I" } : Jvm.MethodName)) ∈ lw_all := lw_g (lw_at lw_m12 221 rfl) rfl
theorem q2998 : (Jvm.Cond.code ({ cls := "DialMenusModel", name := "drop", desc := "(I)I" } : Jvm.MethodName) prog_7_method_21_code (3 : Nat) (Option.some Jvm.ClassFile.FieldType.int)) ∈ lw_all := lw_g (lw_at lw_m12 222 rfl) rfl
theorem q2999 : (Jvm.Cond.methodLink "DialMenusModel" (139 : Nat) ({ cls := "DialMenusModel", name := "isName", desc := "(I)Z" } : Jvm.MethodName)) ∈ lw_all := lw_g (lw_at lw_m12 223 rfl) rfl
theorem q3000 : (Jvm.Cond.privateMethod ({ cls := "DialMenusModel", name := "isName", desc := "(I)Z" } : Jvm.MethodName)) ∈ lw_tbl := lw_at lw_m12 224 rfl
theorem q3001 : (Jvm.Cond.instanceMethod ({ cls := "DialMenusModel", name := "isName", desc := "(I)Z" } : Jvm.MethodName)) ∈ lw_all := lw_g (lw_at lw_m12 225 rfl) rfl
theorem q3002 : (Jvm.Cond.code ({ cls := "DialMenusModel", name := "isName", desc := "(I)Z" } : Jvm.MethodName) prog_7_method_20_code (2 : Nat) (Option.some Jvm.ClassFile.FieldType.boolean)) ∈ lw_all := lw_g (lw_at lw_m12 226 rfl) rfl
theorem q3004 : (Jvm.Cond.instanceMethod ({ cls := "DialMenusModel", name := "use", desc := "(II)I" } : Jvm.MethodName)) ∈ lw_all := lw_g (lw_at lw_m12 228 rfl) rfl
theorem q3005 : (Jvm.Cond.selects "DialMenusModel" ({ cls := "DialMenusModel", name := "use", desc := "(II)I" } : Jvm.MethodName) ({ cls := "DialMenusModel", name := "use", desc := "(II)I" } : Jvm.MethodName)) ∈ lw_all := lw_g (lw_at lw_m12 229 rfl) rfl
theorem q3006 : (Jvm.Cond.code ({ cls := "DialMenusModel", name := "use", desc := "(II)I" } : Jvm.MethodName) prog_7_method_22_code (4 : Nat) (Option.some Jvm.ClassFile.FieldType.int)) ∈ lw_all := lw_g (lw_at lw_m12 230 rfl) rfl
theorem q3008 : (Jvm.Cond.instanceMethod ({ cls := "DialMenusModel", name := "name", desc := "(II)I" } : Jvm.MethodName)) ∈ lw_all := lw_g (lw_at lw_m12 232 rfl) rfl
theorem q3009 : (Jvm.Cond.selects "DialMenusModel" ({ cls := "DialMenusModel", name := "name", desc := "(II)I" } : Jvm.MethodName) ({ cls := "DialMenusModel", name := "name", desc := "(II)I" } : Jvm.MethodName)) ∈ lw_all := lw_g (lw_at lw_m12 233 rfl) rfl
theorem q3010 : (Jvm.Cond.code ({ cls := "DialMenusModel", name := "name", desc := "(II)I" } : Jvm.MethodName) prog_7_method_32_code (3 : Nat) (Option.some Jvm.ClassFile.FieldType.int)) ∈ lw_all := lw_g (lw_at lw_m12 234 rfl) rfl
theorem q3011 : (Jvm.Cond.methodLink "DialMenusModel" (175 : Nat) ({ cls := "DialMenusModel", name := "nameNow", desc := "(II)I" } : Jvm.MethodName)) ∈ lw_all := lw_g (lw_at lw_m12 235 rfl) rfl
theorem q3012 : (Jvm.Cond.privateMethod ({ cls := "DialMenusModel", name := "nameNow", desc := "(II)I" } : Jvm.MethodName)) ∈ lw_tbl := lw_at lw_m12 236 rfl
theorem q3013 : (Jvm.Cond.instanceMethod ({ cls := "DialMenusModel", name := "nameNow", desc := "(II)I" } : Jvm.MethodName)) ∈ lw_all := lw_g (lw_at lw_m12 237 rfl) rfl
theorem q3014 : (Jvm.Cond.code ({ cls := "DialMenusModel", name := "nameNow", desc := "(II)I" } : Jvm.MethodName) prog_7_method_31_code (3 : Nat) (Option.some Jvm.ClassFile.FieldType.int)) ∈ lw_all := lw_g (lw_at lw_m12 238 rfl) rfl
theorem q3015 : (Jvm.Cond.methodLink "DialMenusModel" (162 : Nat) ({ cls := "DialMenusModel", name := "twins", desc := "(I)I" } : Jvm.MethodName)) ∈ lw_all := lw_g (lw_at lw_m12 239 rfl) rfl
theorem q3016 : (Jvm.Cond.privateMethod ({ cls := "DialMenusModel", name := "twins", desc := "(I)I" } : Jvm.MethodName)) ∈ lw_tbl := lw_at lw_m13 0 rfl
theorem q3017 : (Jvm.Cond.instanceMethod ({ cls := "DialMenusModel", name := "twins", desc := "(I)I" } : Jvm.MethodName)) ∈ lw_all := lw_g (lw_at lw_m13 1 rfl) rfl
theorem q3018 : (Jvm.Cond.code ({ cls := "DialMenusModel", name := "twins", desc := "(I)I" } : Jvm.MethodName) prog_7_method_26_code (4 : Nat) (Option.some Jvm.ClassFile.FieldType.int)) ∈ lw_all := lw_g (lw_at lw_m13 2 rfl) rfl
theorem q3019 : (Jvm.Cond.methodLink "DialMenusModel" (151 : Nat) ({ cls := "DialMenusModel", name := "isTwin", desc := "(II)Z" } : Jvm.MethodName)) ∈ lw_all := lw_g (lw_at lw_m13 3 rfl) rfl
theorem q3020 : (Jvm.Cond.privateMethod ({ cls := "DialMenusModel", name := "isTwin", desc := "(II)Z" } : Jvm.MethodName)) ∈ lw_tbl := lw_at lw_m13 4 rfl
theorem q3021 : (Jvm.Cond.instanceMethod ({ cls := "DialMenusModel", name := "isTwin", desc := "(II)Z" } : Jvm.MethodName)) ∈ lw_all := lw_g (lw_at lw_m13 5 rfl) rfl
theorem q3022 : (Jvm.Cond.code ({ cls := "DialMenusModel", name := "isTwin", desc := "(II)Z" } : Jvm.MethodName) prog_7_method_25_code (3 : Nat) (Option.some Jvm.ClassFile.FieldType.boolean)) ∈ lw_all := lw_g (lw_at lw_m13 6 rfl) rfl
theorem q3023 : (Jvm.Cond.methodLink "DialMenusModel" (148 : Nat) ({ cls := "DialMenusModel", name := "begins", desc := "(III)Z" } : Jvm.MethodName)) ∈ lw_all := lw_g (lw_at lw_m13 7 rfl) rfl
theorem q3024 : (Jvm.Cond.privateMethod ({ cls := "DialMenusModel", name := "begins", desc := "(III)Z" } : Jvm.MethodName)) ∈ lw_tbl := lw_at lw_m13 8 rfl
theorem q3025 : (Jvm.Cond.instanceMethod ({ cls := "DialMenusModel", name := "begins", desc := "(III)Z" } : Jvm.MethodName)) ∈ lw_all := lw_g (lw_at lw_m13 9 rfl) rfl
theorem q3026 : (Jvm.Cond.code ({ cls := "DialMenusModel", name := "begins", desc := "(III)Z" } : Jvm.MethodName) prog_7_method_24_code (6 : Nat) (Option.some Jvm.ClassFile.FieldType.boolean)) ∈ lw_all := lw_g (lw_at lw_m13 10 rfl) rfl
theorem q3027 : (Jvm.Cond.methodLink "DialMenusModel" (145 : Nat) ({ cls := "DialMenusModel", name := "codeAt", desc := "(II)I" } : Jvm.MethodName)) ∈ lw_all := lw_g (lw_at lw_m13 11 rfl) rfl
theorem q3028 : (Jvm.Cond.privateMethod ({ cls := "DialMenusModel", name := "codeAt", desc := "(II)I" } : Jvm.MethodName)) ∈ lw_tbl := lw_at lw_m13 12 rfl
theorem q3029 : (Jvm.Cond.instanceMethod ({ cls := "DialMenusModel", name := "codeAt", desc := "(II)I" } : Jvm.MethodName)) ∈ lw_all := lw_g (lw_at lw_m13 13 rfl) rfl
theorem q3030 : (Jvm.Cond.code ({ cls := "DialMenusModel", name := "codeAt", desc := "(II)I" } : Jvm.MethodName) prog_7_method_23_code (3 : Nat) (Option.some Jvm.ClassFile.FieldType.int)) ∈ lw_all := lw_g (lw_at lw_m13 14 rfl) rfl
theorem q3031 : (Jvm.Cond.methodLink "DialMenusModel" (166 : Nat) ({ cls := "DialMenusModel", name := "telling", desc := "(I)I" } : Jvm.MethodName)) ∈ lw_all := lw_g (lw_at lw_m13 15 rfl) rfl
theorem q3032 : (Jvm.Cond.privateMethod ({ cls := "DialMenusModel", name := "telling", desc := "(I)I" } : Jvm.MethodName)) ∈ lw_tbl := lw_at lw_m13 16 rfl
theorem q3033 : (Jvm.Cond.instanceMethod ({ cls := "DialMenusModel", name := "telling", desc := "(I)I" } : Jvm.MethodName)) ∈ lw_all := lw_g (lw_at lw_m13 17 rfl) rfl
theorem q3034 : (Jvm.Cond.code ({ cls := "DialMenusModel", name := "telling", desc := "(I)I" } : Jvm.MethodName) prog_7_method_27_code (5 : Nat) (Option.some Jvm.ClassFile.FieldType.int)) ∈ lw_all := lw_g (lw_at lw_m13 18 rfl) rfl
theorem q3035 : (Jvm.Cond.methodLink "DialMenusModel" (169 : Nat) ({ cls := "DialMenusModel", name := "presses", desc := "(I)I" } : Jvm.MethodName)) ∈ lw_all := lw_g (lw_at lw_m13 19 rfl) rfl
theorem q3036 : (Jvm.Cond.privateMethod ({ cls := "DialMenusModel", name := "presses", desc := "(I)I" } : Jvm.MethodName)) ∈ lw_tbl := lw_at lw_m13 20 rfl
theorem q3037 : (Jvm.Cond.instanceMethod ({ cls := "DialMenusModel", name := "presses", desc := "(I)I" } : Jvm.MethodName)) ∈ lw_all := lw_g (lw_at lw_m13 21 rfl) rfl
theorem q3038 : (Jvm.Cond.code ({ cls := "DialMenusModel", name := "presses", desc := "(I)I" } : Jvm.MethodName) prog_7_method_30_code (5 : Nat) (Option.some Jvm.ClassFile.FieldType.int)) ∈ lw_all := lw_g (lw_at lw_m13 22 rfl) rfl
theorem q3039 : (Jvm.Cond.constant "DialMenusModel" (158 : Nat) (268435456 : Int32)) ∈ lw_all := lw_g (lw_at lw_m13 23 rfl) rfl
theorem q3040 : (Jvm.Cond.methodLink "DialMenusModel" (159 : Nat) ({ cls := "DialMenusModel", name := "placeIn", desc := "(II)I" } : Jvm.MethodName)) ∈ lw_all := lw_g (lw_at lw_m13 24 rfl) rfl
theorem q3041 : (Jvm.Cond.privateMethod ({ cls := "DialMenusModel", name := "placeIn", desc := "(II)I" } : Jvm.MethodName)) ∈ lw_tbl := lw_at lw_m13 25 rfl
theorem q3042 : (Jvm.Cond.instanceMethod ({ cls := "DialMenusModel", name := "placeIn", desc := "(II)I" } : Jvm.MethodName)) ∈ lw_all := lw_g (lw_at lw_m13 26 rfl) rfl
theorem q3043 : (Jvm.Cond.code ({ cls := "DialMenusModel", name := "placeIn", desc := "(II)I" } : Jvm.MethodName) prog_7_method_29_code (5 : Nat) (Option.some Jvm.ClassFile.FieldType.int)) ∈ lw_all := lw_g (lw_at lw_m13 27 rfl) rfl
theorem q3044 : (Jvm.Cond.methodLink "DialMenusModel" (155 : Nat) ({ cls := "DialMenusModel", name := "isAhead", desc := "(II)Z" } : Jvm.MethodName)) ∈ lw_all := lw_g (lw_at lw_m13 28 rfl) rfl
theorem q3045 : (Jvm.Cond.privateMethod ({ cls := "DialMenusModel", name := "isAhead", desc := "(II)Z" } : Jvm.MethodName)) ∈ lw_tbl := lw_at lw_m13 29 rfl
theorem q3046 : (Jvm.Cond.instanceMethod ({ cls := "DialMenusModel", name := "isAhead", desc := "(II)Z" } : Jvm.MethodName)) ∈ lw_all := lw_g (lw_at lw_m13 30 rfl) rfl
theorem q3047 : (Jvm.Cond.code ({ cls := "DialMenusModel", name := "isAhead", desc := "(II)Z" } : Jvm.MethodName) prog_7_method_28_code (3 : Nat) (Option.some Jvm.ClassFile.FieldType.boolean)) ∈ lw_all := lw_g (lw_at lw_m13 31 rfl) rfl
theorem q3048 : (Jvm.Cond.methodLink "DialMenusModel" (172 : Nat) ({ cls := "DialMenusModel", name := "layMenu", desc := "(I)V" } : Jvm.MethodName)) ∈ lw_all := lw_g (lw_at lw_m13 32 rfl) rfl
theorem q3049 : (Jvm.Cond.privateMethod ({ cls := "DialMenusModel", name := "layMenu", desc := "(I)V" } : Jvm.MethodName)) ∈ lw_tbl := lw_at lw_m13 33 rfl
theorem q3050 : (Jvm.Cond.instanceMethod ({ cls := "DialMenusModel", name := "layMenu", desc := "(I)V" } : Jvm.MethodName)) ∈ lw_all := lw_g (lw_at lw_m13 34 rfl) rfl
theorem q3051 : (Jvm.Cond.code ({ cls := "DialMenusModel", name := "layMenu", desc := "(I)V" } : Jvm.MethodName) prog_7_method_68_code (3 : Nat) (Option.none : Option Jvm.ClassFile.FieldType)) ∈ lw_all := lw_g (lw_at lw_m13 35 rfl) rfl
theorem q3052 : (Jvm.Cond.methodLink "DialMenusModel" (250 : Nat) ({ cls := "DialMenusModel", name := "layCosts", desc := "(I)V" } : Jvm.MethodName)) ∈ lw_all := lw_g (lw_at lw_m13 36 rfl) rfl
theorem q3053 : (Jvm.Cond.privateMethod ({ cls := "DialMenusModel", name := "layCosts", desc := "(I)V" } : Jvm.MethodName)) ∈ lw_tbl := lw_at lw_m13 37 rfl
theorem q3054 : (Jvm.Cond.instanceMethod ({ cls := "DialMenusModel", name := "layCosts", desc := "(I)V" } : Jvm.MethodName)) ∈ lw_all := lw_g (lw_at lw_m13 38 rfl) rfl
theorem q3055 : (Jvm.Cond.code ({ cls := "DialMenusModel", name := "layCosts", desc := "(I)V" } : Jvm.MethodName) prog_7_method_63_code (4 : Nat) (Option.none : Option Jvm.ClassFile.FieldType)) ∈ lw_all := lw_g (lw_at lw_m13 39 rfl) rfl
theorem q3056 : (Jvm.Cond.methodLink "DialMenusModel" (235 : Nat) ({ cls := "DialMenusModel", name := "layStretch", desc := "(III)V" } : Jvm.MethodName)) ∈ lw_all := lw_g (lw_at lw_m13 40 rfl) rfl
theorem q3057 : (Jvm.Cond.privateMethod ({ cls := "DialMenusModel", name := "layStretch", desc := "(III)V" } : Jvm.MethodName)) ∈ lw_tbl := lw_at lw_m13 41 rfl
theorem q3058 : (Jvm.Cond.instanceMethod ({ cls := "DialMenusModel", name := "layStretch", desc := "(III)V" } : Jvm.MethodName)) ∈ lw_all := lw_g (lw_at lw_m13 42 rfl) rfl
theorem q3059 : (Jvm.Cond.code ({ cls := "DialMenusModel", name := "layStretch", desc := "(III)V" } : Jvm.MethodName) prog_7_method_64_code (7 : Nat) (Option.none : Option Jvm.ClassFile.FieldType)) ∈ lw_all := lw_g (lw_at lw_m13 43 rfl) rfl
theorem q3060 : (Jvm.Cond.methodLink "DialMenusModel" (238 : Nat) ({ cls := "DialMenusModel", name := "bestParts", desc := "(III)I" } : Jvm.MethodName)) ∈ lw_all := lw_g (lw_at lw_m13 44 rfl) rfl
theorem q3061 : (Jvm.Cond.privateMethod ({ cls := "DialMenusModel", name := "bestParts", desc := "(III)I" } : Jvm.MethodName)) ∈ lw_tbl := lw_at lw_m13 45 rfl
theorem q3062 : (Jvm.Cond.instanceMethod ({ cls := "DialMenusModel", name := "bestParts", desc := "(III)I" } : Jvm.MethodName)) ∈ lw_all := lw_g (lw_at lw_m13 46 rfl) rfl
theorem q3063 : (Jvm.Cond.code ({ cls := "DialMenusModel", name := "bestParts", desc := "(III)I" } : Jvm.MethodName) prog_7_method_62_code (8 : Nat) (Option.some Jvm.ClassFile.FieldType.int)) ∈ lw_all := lw_g (lw_at lw_m13 47 rfl) rfl
theorem q3064 : (Jvm.Cond.methodLink "DialMenusModel" (228 : Nat) ({ cls := "DialMenusModel", name := "partsAt", desc := "(III)I" } : Jvm.MethodName)) ∈ lw_all := lw_g (lw_at lw_m13 48 rfl) rfl
theorem q3065 : (Jvm.Cond.privateMethod ({ cls := "DialMenusModel", name := "partsAt", desc := "(III)I" } : Jvm.MethodName)) ∈ lw_tbl := lw_at lw_m13 49 rfl
theorem q3066 : (Jvm.Cond.instanceMethod ({ cls := "DialMenusModel", name := "partsAt", desc := "(III)I" } : Jvm.MethodName)) ∈ lw_all := lw_g (lw_at lw_m13 50 rfl) rfl
theorem q3067 : (Jvm.Cond.code ({ cls := "DialMenusModel", name := "partsAt", desc := "(III)I" } : Jvm.MethodName) prog_7_method_61_code (4 : Nat) (Option.some Jvm.ClassFile.FieldType.int)) ∈ lw_all := lw_g (lw_at lw_m13 51 rfl) rfl
theorem q3068 : (Jvm.Cond.methodLink "DialMenusModel" (232 : Nat) ({ cls := "DialMenusModel", name := "costAt", desc := "(II)I" } : Jvm.MethodName)) ∈ lw_all := lw_g (lw_at lw_m13 52 rfl) rfl
theorem q3069 : (Jvm.Cond.privateMethod ({ cls := "DialMenusModel", name := "costAt", desc := "(II)I" } : Jvm.MethodName)) ∈ lw_tbl := lw_at lw_m13 53 rfl
theorem q3070 : (Jvm.Cond.instanceMethod ({ cls := "DialMenusModel", name := "costAt", desc := "(II)I" } : Jvm.MethodName)) ∈ lw_all := lw_g (lw_at lw_m13 54 rfl) rfl
theorem q3071 : (Jvm.Cond.code ({ cls := "DialMenusModel", name := "costAt", desc := "(II)I" } : Jvm.MethodName) prog_7_method_60_code (3 : Nat) (Option.some Jvm.ClassFile.FieldType.int)) ∈ lw_all := lw_g (lw_at lw_m13 55 rfl) rfl
theorem q3072 : (Jvm.Cond.methodLink "DialMenusModel" (241 : Nat) ({ cls := "DialMenusModel", name := "usesOf", desc := "(II)I" } : Jvm.MethodName)) ∈ lw_all := lw_g (lw_at lw_m13 56 rfl) rfl
theorem q3073 : (Jvm.Cond.privateMethod ({ cls := "DialMenusModel", name := "usesOf", desc := "(II)I" } : Jvm.MethodName)) ∈ lw_tbl := lw_at lw_m13 57 rfl
theorem q3074 : (Jvm.Cond.instanceMethod ({ cls := "DialMenusModel", name := "usesOf", desc := "(II)I" } : Jvm.MethodName)) ∈ lw_all := lw_g (lw_at lw_m13 58 rfl) rfl
theorem q3075 : (Jvm.Cond.code ({ cls := "DialMenusModel", name := "usesOf", desc := "(II)I" } : Jvm.MethodName) prog_7_method_59_code (5 : Nat) (Option.some Jvm.ClassFile.FieldType.int)) ∈ lw_all := lw_g (lw_at lw_m13 59 rfl) rfl
theorem q3076 : (Jvm.Cond.methodLink "DialMenusModel" (253 : Nat) ({ cls := "DialMenusModel", name := "layPath", desc := "(II)V" } : Jvm.MethodName)) ∈ lw_all := lw_g (lw_at lw_m13 60 rfl) rfl
theorem q3077 : (Jvm.Cond.privateMethod ({ cls := "DialMenusModel", name := "layPath", desc := "(II)V" } : Jvm.MethodName)) ∈ lw_tbl := lw_at lw_m13 61 rfl
theorem q3078 : (Jvm.Cond.instanceMethod ({ cls := "DialMenusModel", name := "layPath", desc := "(II)V" } : Jvm.MethodName)) ∈ lw_all := lw_g (lw_at lw_m13 62 rfl) rfl
theorem q3079 : (Jvm.Cond.code ({ cls := "DialMenusModel", name := "layPath", desc := "(II)V" } : Jvm.MethodName) prog_7_method_67_code (8 : Nat) (Option.none : Option Jvm.ClassFile.FieldType)) ∈ lw_all := lw_g (lw_at lw_m13 63 rfl) rfl
theorem q3080 : (Jvm.Cond.methodLink "DialMenusModel" (244 : Nat) ({ cls := "DialMenusModel", name := "partsOf", desc := "(III)I" } : Jvm.MethodName)) ∈ lw_all := lw_g (lw_at lw_m13 64 rfl) rfl
theorem q3081 : (Jvm.Cond.privateMethod ({ cls := "DialMenusModel", name := "partsOf", desc := "(III)I" } : Jvm.MethodName)) ∈ lw_tbl := lw_at lw_m13 65 rfl
theorem q3082 : (Jvm.Cond.instanceMethod ({ cls := "DialMenusModel", name := "partsOf", desc := "(III)I" } : Jvm.MethodName)) ∈ lw_all := lw_g (lw_at lw_m13 66 rfl) rfl
theorem q3083 : (Jvm.Cond.code ({ cls := "DialMenusModel", name := "partsOf", desc := "(III)I" } : Jvm.MethodName) prog_7_method_65_code (6 : Nat) (Option.some Jvm.ClassFile.FieldType.int)) ∈ lw_all := lw_g (lw_at lw_m13 67 rfl) rfl
theorem q3084 : (Jvm.Cond.methodLink "DialMenusModel" (247 : Nat) ({ cls := "DialMenusModel", name := "firstCut", desc := "(III)I" } : Jvm.MethodName)) ∈ lw_all := lw_g (lw_at lw_m13 68 rfl) rfl
theorem q3085 : (Jvm.Cond.privateMethod ({ cls := "DialMenusModel", name := "firstCut", desc := "(III)I" } : Jvm.MethodName)) ∈ lw_tbl := lw_at lw_m13 69 rfl
theorem q3086 : (Jvm.Cond.instanceMethod ({ cls := "DialMenusModel", name := "firstCut", desc := "(III)I" } : Jvm.MethodName)) ∈ lw_all := lw_g (lw_at lw_m13 70 rfl) rfl
theorem q3087 : (Jvm.Cond.code ({ cls := "DialMenusModel", name := "firstCut", desc := "(III)I" } : Jvm.MethodName) prog_7_method_66_code (5 : Nat) (Option.some Jvm.ClassFile.FieldType.int)) ∈ lw_all := lw_g (lw_at lw_m13 71 rfl) rfl
theorem q3089 : (Jvm.Cond.instanceMethod ({ cls := "DialMenusModel", name := "sign", desc := "(II)I" } : Jvm.MethodName)) ∈ lw_all := lw_g (lw_at lw_m13 73 rfl) rfl
theorem q3090 : (Jvm.Cond.selects "DialMenusModel" ({ cls := "DialMenusModel", name := "sign", desc := "(II)I" } : Jvm.MethodName) ({ cls := "DialMenusModel", name := "sign", desc := "(II)I" } : Jvm.MethodName)) ∈ lw_all := lw_g (lw_at lw_m13 74 rfl) rfl
theorem q3091 : (Jvm.Cond.code ({ cls := "DialMenusModel", name := "sign", desc := "(II)I" } : Jvm.MethodName) prog_7_method_33_code (3 : Nat) (Option.some Jvm.ClassFile.FieldType.int)) ∈ lw_all := lw_g (lw_at lw_m13 75 rfl) rfl
theorem q3093 : (Jvm.Cond.instanceMethod ({ cls := "DialMenusModel", name := "digit", desc := "(II)I" } : Jvm.MethodName)) ∈ lw_all := lw_g (lw_at lw_m13 77 rfl) rfl
theorem q3094 : (Jvm.Cond.selects "DialMenusModel" ({ cls := "DialMenusModel", name := "digit", desc := "(II)I" } : Jvm.MethodName) ({ cls := "DialMenusModel", name := "digit", desc := "(II)I" } : Jvm.MethodName)) ∈ lw_all := lw_g (lw_at lw_m13 78 rfl) rfl
theorem q3095 : (Jvm.Cond.code ({ cls := "DialMenusModel", name := "digit", desc := "(II)I" } : Jvm.MethodName) prog_7_method_34_code (3 : Nat) (Option.some Jvm.ClassFile.FieldType.int)) ∈ lw_all := lw_g (lw_at lw_m13 79 rfl) rfl
theorem q3097 : (Jvm.Cond.instanceMethod ({ cls := "DialMenusModel", name := "laid", desc := "(I)I" } : Jvm.MethodName)) ∈ lw_all := lw_g (lw_at lw_m13 81 rfl) rfl
theorem q3098 : (Jvm.Cond.selects "DialMenusModel" ({ cls := "DialMenusModel", name := "laid", desc := "(I)I" } : Jvm.MethodName) ({ cls := "DialMenusModel", name := "laid", desc := "(I)I" } : Jvm.MethodName)) ∈ lw_all := lw_g (lw_at lw_m13 82 rfl) rfl
theorem q3099 : (Jvm.Cond.code ({ cls := "DialMenusModel", name := "laid", desc := "(I)I" } : Jvm.MethodName) prog_7_method_35_code (2 : Nat) (Option.some Jvm.ClassFile.FieldType.int)) ∈ lw_all := lw_g (lw_at lw_m13 83 rfl) rfl
theorem q3101 : (Jvm.Cond.instanceMethod ({ cls := "DialMenusModel", name := "about", desc := "(I)I" } : Jvm.MethodName)) ∈ lw_all := lw_g (lw_at lw_m13 85 rfl) rfl
theorem q3102 : (Jvm.Cond.selects "DialMenusModel" ({ cls := "DialMenusModel", name := "about", desc := "(I)I" } : Jvm.MethodName) ({ cls := "DialMenusModel", name := "about", desc := "(I)I" } : Jvm.MethodName)) ∈ lw_all := lw_g (lw_at lw_m13 86 rfl) rfl
theorem q3103 : (Jvm.Cond.code ({ cls := "DialMenusModel", name := "about", desc := "(I)I" } : Jvm.MethodName) prog_7_method_43_code (2 : Nat) (Option.some Jvm.ClassFile.FieldType.int)) ∈ lw_all := lw_g (lw_at lw_m13 87 rfl) rfl
theorem q3104 : (Jvm.Cond.methodLink "DialMenusModel" (196 : Nat) ({ cls := "DialMenusModel", name := "aboutNow", desc := "(I)I" } : Jvm.MethodName)) ∈ lw_all := lw_g (lw_at lw_m13 88 rfl) rfl
theorem q3105 : (Jvm.Cond.privateMethod ({ cls := "DialMenusModel", name := "aboutNow", desc := "(I)I" } : Jvm.MethodName)) ∈ lw_tbl := lw_at lw_m13 89 rfl
theorem q3106 : (Jvm.Cond.instanceMethod ({ cls := "DialMenusModel", name := "aboutNow", desc := "(I)I" } : Jvm.MethodName)) ∈ lw_all := lw_g (lw_at lw_m13 90 rfl) rfl
theorem q3107 : (Jvm.Cond.code ({ cls := "DialMenusModel", name := "aboutNow", desc := "(I)I" } : Jvm.MethodName) prog_7_method_42_code (2 : Nat) (Option.some Jvm.ClassFile.FieldType.int)) ∈ lw_all := lw_g (lw_at lw_m13 91 rfl) rfl
theorem q3108 : (Jvm.Cond.methodLink "DialMenusModel" (178 : Nat) ({ cls := "DialMenusModel", name := "usesAll", desc := "()I" } : Jvm.MethodName)) ∈ lw_all := lw_g (lw_at lw_m13 92 rfl) rfl
theorem q3109 : (Jvm.Cond.privateMethod ({ cls := "DialMenusModel", name := "usesAll", desc := "()I" } : Jvm.MethodName)) ∈ lw_tbl := lw_at lw_m13 93 rfl
theorem q3110 : (Jvm.Cond.instanceMethod ({ cls := "DialMenusModel", name := "usesAll", desc := "()I" } : Jvm.MethodName)) ∈ lw_all := lw_g (lw_at lw_m13 94 rfl) rfl
theorem q3111 : (Jvm.Cond.code ({ cls := "DialMenusModel", name := "usesAll", desc := "()I" } : Jvm.MethodName) prog_7_method_36_code (3 : Nat) (Option.some Jvm.ClassFile.FieldType.int)) ∈ lw_all := lw_g (lw_at lw_m13 95 rfl) rfl
theorem q3112 : (Jvm.Cond.methodLink "DialMenusModel" (181 : Nat) ({ cls := "DialMenusModel", name := "withTwins", desc := "()I" } : Jvm.MethodName)) ∈ lw_all := lw_g (lw_at lw_m13 96 rfl) rfl
theorem q3113 : (Jvm.Cond.privateMethod ({ cls := "DialMenusModel", name := "withTwins", desc := "()I" } : Jvm.MethodName)) ∈ lw_tbl := lw_at lw_m13 97 rfl
theorem q3114 : (Jvm.Cond.instanceMethod ({ cls := "DialMenusModel", name := "withTwins", desc := "()I" } : Jvm.MethodName)) ∈ lw_all := lw_g (lw_at lw_m13 98 rfl) rfl
theorem q3115 : (Jvm.Cond.code ({ cls := "DialMenusModel", name := "withTwins", desc := "()I" } : Jvm.MethodName) prog_7_method_37_code (3 : Nat) (Option.some Jvm.ClassFile.FieldType.int)) ∈ lw_all := lw_g (lw_at lw_m13 99 rfl) rfl
theorem q3116 : (Jvm.Cond.methodLink "DialMenusModel" (184 : Nat) ({ cls := "DialMenusModel", name := "codesMany", desc := "()I" } : Jvm.MethodName)) ∈ lw_all := lw_g (lw_at lw_m13 100 rfl) rfl
theorem q3117 : (Jvm.Cond.privateMethod ({ cls := "DialMenusModel", name := "codesMany", desc := "()I" } : Jvm.MethodName)) ∈ lw_tbl := lw_at lw_m13 101 rfl
theorem q3118 : (Jvm.Cond.instanceMethod ({ cls := "DialMenusModel", name := "codesMany", desc := "()I" } : Jvm.MethodName)) ∈ lw_all := lw_g (lw_at lw_m13 102 rfl) rfl
theorem q3119 : (Jvm.Cond.code ({ cls := "DialMenusModel", name := "codesMany", desc := "()I" } : Jvm.MethodName) prog_7_method_38_code (5 : Nat) (Option.some Jvm.ClassFile.FieldType.int)) ∈ lw_all := lw_g (lw_at lw_m13 103 rfl) rfl
theorem q3120 : (Jvm.Cond.methodLink "DialMenusModel" (187 : Nat) ({ cls := "DialMenusModel", name := "mostTelling", desc := "()I" } : Jvm.MethodName)) ∈ lw_all := lw_g (lw_at lw_m13 104 rfl) rfl
theorem q3121 : (Jvm.Cond.privateMethod ({ cls := "DialMenusModel", name := "mostTelling", desc := "()I" } : Jvm.MethodName)) ∈ lw_tbl := lw_at lw_m13 105 rfl
theorem q3122 : (Jvm.Cond.instanceMethod ({ cls := "DialMenusModel", name := "mostTelling", desc := "()I" } : Jvm.MethodName)) ∈ lw_all := lw_g (lw_at lw_m13 106 rfl) rfl
theorem q3123 : (Jvm.Cond.code ({ cls := "DialMenusModel", name := "mostTelling", desc := "()I" } : Jvm.MethodName) prog_7_method_39_code (4 : Nat) (Option.some Jvm.ClassFile.FieldType.int)) ∈ lw_all := lw_g (lw_at lw_m13 107 rfl) rfl
theorem q3124 : (Jvm.Cond.methodLink "DialMenusModel" (190 : Nat) ({ cls := "DialMenusModel", name := "pressesAll", desc := "()I" } : Jvm.MethodName)) ∈ lw_all := lw_g (lw_at lw_m13 108 rfl) rfl
theorem q3125 : (Jvm.Cond.privateMethod ({ cls := "DialMenusModel", name := "pressesAll", desc := "()I" } : Jvm.MethodName)) ∈ lw_tbl := lw_at lw_m13 109 rfl
theorem q3126 : (Jvm.Cond.instanceMethod ({ cls := "DialMenusModel", name := "pressesAll", desc := "()I" } : Jvm.MethodName)) ∈ lw_all := lw_g (lw_at lw_m13 110 rfl) rfl
theorem q3127 : (Jvm.Cond.code ({ cls := "DialMenusModel", name := "pressesAll", desc := "()I" } : Jvm.MethodName) prog_7_method_40_code (3 : Nat) (Option.some Jvm.ClassFile.FieldType.int)) ∈ lw_all := lw_g (lw_at lw_m13 111 rfl) rfl
theorem q3128 : (Jvm.Cond.methodLink "DialMenusModel" (193 : Nat) ({ cls := "DialMenusModel", name := "digitsAll", desc := "()I" } : Jvm.MethodName)) ∈ lw_all := lw_g (lw_at lw_m13 112 rfl) rfl
theorem q3129 : (Jvm.Cond.privateMethod ({ cls := "DialMenusModel", name := "digitsAll", desc := "()I" } : Jvm.MethodName)) ∈ lw_tbl := lw_at lw_m13 113 rfl
theorem q3130 : (Jvm.Cond.instanceMethod ({ cls := "DialMenusModel", name := "digitsAll", desc := "()I" } : Jvm.MethodName)) ∈ lw_all := lw_g (lw_at lw_m13 114 rfl) rfl
theorem q3131 : (Jvm.Cond.code ({ cls := "DialMenusModel", name := "digitsAll", desc := "()I" } : Jvm.MethodName) prog_7_method_41_code (3 : Nat) (Option.some Jvm.ClassFile.FieldType.int)) ∈ lw_all := lw_g (lw_at lw_m13 115 rfl) rfl
theorem q3133 : (Jvm.Cond.instanceMethod ({ cls := "DialMenusModel", name := "press", desc := "(I)I" } : Jvm.MethodName)) ∈ lw_all := lw_g (lw_at lw_m13 117 rfl) rfl
theorem q3134 : (Jvm.Cond.selects "DialMenusModel" ({ cls := "DialMenusModel", name := "press", desc := "(I)I" } : Jvm.MethodName) ({ cls := "DialMenusModel", name := "press", desc := "(I)I" } : Jvm.MethodName)) ∈ lw_all := lw_g (lw_at lw_m13 118 rfl) rfl
theorem q3135 : (Jvm.Cond.code ({ cls := "DialMenusModel", name := "press", desc := "(I)I" } : Jvm.MethodName) prog_7_method_44_code (2 : Nat) (Option.some Jvm.ClassFile.FieldType.int)) ∈ lw_all := lw_g (lw_at lw_m13 119 rfl) rfl
theorem q3137 : (Jvm.Cond.instanceMethod ({ cls := "DialMenusModel", name := "back", desc := "()I" } : Jvm.MethodName)) ∈ lw_all := lw_g (lw_at lw_m13 121 rfl) rfl
theorem q3138 : (Jvm.Cond.selects "DialMenusModel" ({ cls := "DialMenusModel", name := "back", desc := "()I" } : Jvm.MethodName) ({ cls := "DialMenusModel", name := "back", desc := "()I" } : Jvm.MethodName)) ∈ lw_all := lw_g (lw_at lw_m13 122 rfl) rfl
theorem q3139 : (Jvm.Cond.code ({ cls := "DialMenusModel", name := "back", desc := "()I" } : Jvm.MethodName) prog_7_method_45_code (1 : Nat) (Option.some Jvm.ClassFile.FieldType.int)) ∈ lw_all := lw_g (lw_at lw_m13 123 rfl) rfl
theorem q3141 : (Jvm.Cond.instanceMethod ({ cls := "DialMenusModel", name := "wipe", desc := "()I" } : Jvm.MethodName)) ∈ lw_all := lw_g (lw_at lw_m13 125 rfl) rfl
theorem q3142 : (Jvm.Cond.selects "DialMenusModel" ({ cls := "DialMenusModel", name := "wipe", desc := "()I" } : Jvm.MethodName) ({ cls := "DialMenusModel", name := "wipe", desc := "()I" } : Jvm.MethodName)) ∈ lw_all := lw_g (lw_at lw_m13 126 rfl) rfl
theorem q3143 : (Jvm.Cond.code ({ cls := "DialMenusModel", name := "wipe", desc := "()I" } : Jvm.MethodName) prog_7_method_46_code (2 : Nat) (Option.some Jvm.ClassFile.FieldType.int)) ∈ lw_all := lw_g (lw_at lw_m13 127 rfl) rfl
theorem q3145 : (Jvm.Cond.instanceMethod ({ cls := "DialMenusModel", name := "typed", desc := "(I)I" } : Jvm.MethodName)) ∈ lw_all := lw_g (lw_at lw_m13 129 rfl) rfl
theorem q3146 : (Jvm.Cond.selects "DialMenusModel" ({ cls := "DialMenusModel", name := "typed", desc := "(I)I" } : Jvm.MethodName) ({ cls := "DialMenusModel", name := "typed", desc := "(I)I" } : Jvm.MethodName)) ∈ lw_all := lw_g (lw_at lw_m13 130 rfl) rfl
theorem q3147 : (Jvm.Cond.code ({ cls := "DialMenusModel", name := "typed", desc := "(I)I" } : Jvm.MethodName) prog_7_method_47_code (2 : Nat) (Option.some Jvm.ClassFile.FieldType.int)) ∈ lw_all := lw_g (lw_at lw_m13 131 rfl) rfl
theorem q3149 : (Jvm.Cond.instanceMethod ({ cls := "DialMenusModel", name := "choice", desc := "(I)I" } : Jvm.MethodName)) ∈ lw_all := lw_g (lw_at lw_m13 133 rfl) rfl
theorem q3150 : (Jvm.Cond.selects "DialMenusModel" ({ cls := "DialMenusModel", name := "choice", desc := "(I)I" } : Jvm.MethodName) ({ cls := "DialMenusModel", name := "choice", desc := "(I)I" } : Jvm.MethodName)) ∈ lw_all := lw_g (lw_at lw_m13 134 rfl) rfl
theorem q3151 : (Jvm.Cond.code ({ cls := "DialMenusModel", name := "choice", desc := "(I)I" } : Jvm.MethodName) prog_7_method_50_code (3 : Nat) (Option.some Jvm.ClassFile.FieldType.int)) ∈ lw_all := lw_g (lw_at lw_m13 135 rfl) rfl
theorem q3152 : (Jvm.Cond.methodLink "DialMenusModel" (202 : Nat) ({ cls := "DialMenusModel", name := "isChosen", desc := "(I)Z" } : Jvm.MethodName)) ∈ lw_all := lw_g (lw_at lw_m13 136 rfl) rfl
theorem q3153 : (Jvm.Cond.privateMethod ({ cls := "DialMenusModel", name := "isChosen", desc := "(I)Z" } : Jvm.MethodName)) ∈ lw_tbl := lw_at lw_m13 137 rfl
theorem q3154 : (Jvm.Cond.instanceMethod ({ cls := "DialMenusModel", name := "isChosen", desc := "(I)Z" } : Jvm.MethodName)) ∈ lw_all := lw_g (lw_at lw_m13 138 rfl) rfl
theorem q3155 : (Jvm.Cond.code ({ cls := "DialMenusModel", name := "isChosen", desc := "(I)Z" } : Jvm.MethodName) prog_7_method_48_code (4 : Nat) (Option.some Jvm.ClassFile.FieldType.boolean)) ∈ lw_all := lw_g (lw_at lw_m13 139 rfl) rfl
theorem q3156 : (Jvm.Cond.methodLink "DialMenusModel" (205 : Nat) ({ cls := "DialMenusModel", name := "chosenAhead", desc := "(I)I" } : Jvm.MethodName)) ∈ lw_all := lw_g (lw_at lw_m13 140 rfl) rfl
theorem q3157 : (Jvm.Cond.privateMethod ({ cls := "DialMenusModel", name := "chosenAhead", desc := "(I)I" } : Jvm.MethodName)) ∈ lw_tbl := lw_at lw_m13 141 rfl
theorem q3158 : (Jvm.Cond.instanceMethod ({ cls := "DialMenusModel", name := "chosenAhead", desc := "(I)I" } : Jvm.MethodName)) ∈ lw_all := lw_g (lw_at lw_m13 142 rfl) rfl
theorem q3159 : (Jvm.Cond.code ({ cls := "DialMenusModel", name := "chosenAhead", desc := "(I)I" } : Jvm.MethodName) prog_7_method_49_code (4 : Nat) (Option.some Jvm.ClassFile.FieldType.int)) ∈ lw_all := lw_g (lw_at lw_m13 143 rfl) rfl
theorem q3161 : (Jvm.Cond.instanceMethod ({ cls := "DialMenusModel", name := "spelling", desc := "(I)I" } : Jvm.MethodName)) ∈ lw_all := lw_g (lw_at lw_m13 145 rfl) rfl
theorem q3162 : (Jvm.Cond.selects "DialMenusModel" ({ cls := "DialMenusModel", name := "spelling", desc := "(I)I" } : Jvm.MethodName) ({ cls := "DialMenusModel", name := "spelling", desc := "(I)I" } : Jvm.MethodName)) ∈ lw_all := lw_g (lw_at lw_m13 146 rfl) rfl
theorem q3163 : (Jvm.Cond.code ({ cls := "DialMenusModel", name := "spelling", desc := "(I)I" } : Jvm.MethodName) prog_7_method_55_code (2 : Nat) (Option.some Jvm.ClassFile.FieldType.int)) ∈ lw_all := lw_g (lw_at lw_m13 147 rfl) rfl
theorem q3164 : (Jvm.Cond.methodLink "DialMenusModel" (219 : Nat) ({ cls := "DialMenusModel", name := "spellingNow", desc := "(I)I" } : Jvm.MethodName)) ∈ lw_all := lw_g (lw_at lw_m13 148 rfl) rfl
theorem q3165 : (Jvm.Cond.privateMethod ({ cls := "DialMenusModel", name := "spellingNow", desc := "(I)I" } : Jvm.MethodName)) ∈ lw_tbl := lw_at lw_m13 149 rfl
theorem q3166 : (Jvm.Cond.instanceMethod ({ cls := "DialMenusModel", name := "spellingNow", desc := "(I)I" } : Jvm.MethodName)) ∈ lw_all := lw_g (lw_at lw_m13 150 rfl) rfl
theorem q3167 : (Jvm.Cond.code ({ cls := "DialMenusModel", name := "spellingNow", desc := "(I)I" } : Jvm.MethodName) prog_7_method_54_code (2 : Nat) (Option.some Jvm.ClassFile.FieldType.int)) ∈ lw_all := lw_g (lw_at lw_m13 151 rfl) rfl
theorem q3168 : (Jvm.Cond.methodLink "DialMenusModel" (216 : Nat) ({ cls := "DialMenusModel", name := "laySpellings", desc := "()V" } : Jvm.MethodName)) ∈ lw_all := lw_g (lw_at lw_m13 152 rfl) rfl
theorem q3169 : (Jvm.Cond.privateMethod ({ cls := "DialMenusModel", name := "laySpellings", desc := "()V" } : Jvm.MethodName)) ∈ lw_tbl := lw_at lw_m13 153 rfl
theorem q3170 : (Jvm.Cond.instanceMethod ({ cls := "DialMenusModel", name := "laySpellings", desc := "()V" } : Jvm.MethodName)) ∈ lw_all := lw_g (lw_at lw_m13 154 rfl) rfl
theorem q3171 : (Jvm.Cond.code ({ cls := "DialMenusModel", name := "laySpellings", desc := "()V" } : Jvm.MethodName) prog_7_method_53_code (3 : Nat) (Option.none : Option Jvm.ClassFile.FieldType)) ∈ lw_all := lw_g (lw_at lw_m13 155 rfl) rfl
theorem q3172 : (Jvm.Cond.methodLink "DialMenusModel" (209 : Nat) ({ cls := "DialMenusModel", name := "takesPiece", desc := "(III)V" } : Jvm.MethodName)) ∈ lw_all := lw_g (lw_at lw_m13 156 rfl) rfl
theorem q3173 : (Jvm.Cond.privateMethod ({ cls := "DialMenusModel", name := "takesPiece", desc := "(III)V" } : Jvm.MethodName)) ∈ lw_tbl := lw_at lw_m13 157 rfl
theorem q3174 : (Jvm.Cond.instanceMethod ({ cls := "DialMenusModel", name := "takesPiece", desc := "(III)V" } : Jvm.MethodName)) ∈ lw_all := lw_g (lw_at lw_m13 158 rfl) rfl
theorem q3175 : (Jvm.Cond.code ({ cls := "DialMenusModel", name := "takesPiece", desc := "(III)V" } : Jvm.MethodName) prog_7_method_52_code (5 : Nat) (Option.none : Option Jvm.ClassFile.FieldType)) ∈ lw_all := lw_g (lw_at lw_m13 159 rfl) rfl
theorem q3176 : (Jvm.Cond.constant "DialMenusModel" (208 : Nat) (1000000 : Int32)) ∈ lw_all := lw_g (lw_at lw_m13 160 rfl) rfl
theorem q3177 : (Jvm.Cond.methodLink "DialMenusModel" (213 : Nat) ({ cls := "DialMenusModel", name := "fitsAt", desc := "(II)Z" } : Jvm.MethodName)) ∈ lw_all := lw_g (lw_at lw_m13 161 rfl) rfl
theorem q3178 : (Jvm.Cond.privateMethod ({ cls := "DialMenusModel", name := "fitsAt", desc := "(II)Z" } : Jvm.MethodName)) ∈ lw_tbl := lw_at lw_m13 162 rfl
theorem q3179 : (Jvm.Cond.instanceMethod ({ cls := "DialMenusModel", name := "fitsAt", desc := "(II)Z" } : Jvm.MethodName)) ∈ lw_all := lw_g (lw_at lw_m13 163 rfl) rfl
theorem q3180 : (Jvm.Cond.code ({ cls := "DialMenusModel", name := "fitsAt", desc := "(II)Z" } : Jvm.MethodName) prog_7_method_51_code (5 : Nat) (Option.some Jvm.ClassFile.FieldType.boolean)) ∈ lw_all := lw_g (lw_at lw_m13 164 rfl) rfl
theorem q3182 : (Jvm.Cond.instanceMethod ({ cls := "DialMenusModel", name := "piece", desc := "(I)I" } : Jvm.MethodName)) ∈ lw_all := lw_g (lw_at lw_m13 166 rfl) rfl
theorem q3183 : (Jvm.Cond.selects "DialMenusModel" ({ cls := "DialMenusModel", name := "piece", desc := "(I)I" } : Jvm.MethodName) ({ cls := "DialMenusModel", name := "piece", desc := "(I)I" } : Jvm.MethodName)) ∈ lw_all := lw_g (lw_at lw_m13 167 rfl) rfl
theorem q3184 : (Jvm.Cond.code ({ cls := "DialMenusModel", name := "piece", desc := "(I)I" } : Jvm.MethodName) prog_7_method_58_code (2 : Nat) (Option.some Jvm.ClassFile.FieldType.int)) ∈ lw_all := lw_g (lw_at lw_m13 168 rfl) rfl
theorem q3185 : (Jvm.Cond.methodLink "DialMenusModel" (225 : Nat) ({ cls := "DialMenusModel", name := "pieceNow", desc := "(I)I" } : Jvm.MethodName)) ∈ lw_all := lw_g (lw_at lw_m13 169 rfl) rfl
theorem q3186 : (Jvm.Cond.privateMethod ({ cls := "DialMenusModel", name := "pieceNow", desc := "(I)I" } : Jvm.MethodName)) ∈ lw_tbl := lw_at lw_m13 170 rfl
theorem q3187 : (Jvm.Cond.instanceMethod ({ cls := "DialMenusModel", name := "pieceNow", desc := "(I)I" } : Jvm.MethodName)) ∈ lw_all := lw_g (lw_at lw_m13 171 rfl) rfl
theorem q3188 : (Jvm.Cond.code ({ cls := "DialMenusModel", name := "pieceNow", desc := "(I)I" } : Jvm.MethodName) prog_7_method_57_code (5 : Nat) (Option.some Jvm.ClassFile.FieldType.int)) ∈ lw_all := lw_g (lw_at lw_m13 172 rfl) rfl
theorem q3189 : (Jvm.Cond.methodLink "DialMenusModel" (222 : Nat) ({ cls := "DialMenusModel", name := "bestName", desc := "(I)I" } : Jvm.MethodName)) ∈ lw_all := lw_g (lw_at lw_m13 173 rfl) rfl
theorem q3190 : (Jvm.Cond.privateMethod ({ cls := "DialMenusModel", name := "bestName", desc := "(I)I" } : Jvm.MethodName)) ∈ lw_tbl := lw_at lw_m13 174 rfl
theorem q3191 : (Jvm.Cond.instanceMethod ({ cls := "DialMenusModel", name := "bestName", desc := "(I)I" } : Jvm.MethodName)) ∈ lw_all := lw_g (lw_at lw_m13 175 rfl) rfl
theorem q3192 : (Jvm.Cond.code ({ cls := "DialMenusModel", name := "bestName", desc := "(I)I" } : Jvm.MethodName) prog_7_method_56_code (3 : Nat) (Option.some Jvm.ClassFile.FieldType.int)) ∈ lw_all := lw_g (lw_at lw_m13 176 rfl) rfl
theorem q3194 : (Jvm.Cond.instanceMethod ({ cls := "DialMenusModel", name := "build", desc := "(I)I" } : Jvm.MethodName)) ∈ lw_all := lw_g (lw_at lw_m13 178 rfl) rfl
theorem q3195 : (Jvm.Cond.selects "DialMenusModel" ({ cls := "DialMenusModel", name := "build", desc := "(I)I" } : Jvm.MethodName) ({ cls := "DialMenusModel", name := "build", desc := "(I)I" } : Jvm.MethodName)) ∈ lw_all := lw_g (lw_at lw_m13 179 rfl) rfl
theorem q3196 : (Jvm.Cond.code ({ cls := "DialMenusModel", name := "build", desc := "(I)I" } : Jvm.MethodName) prog_7_method_73_code (2 : Nat) (Option.some Jvm.ClassFile.FieldType.int)) ∈ lw_all := lw_g (lw_at lw_m13 180 rfl) rfl
theorem q3197 : (Jvm.Cond.methodLink "DialMenusModel" (262 : Nat) ({ cls := "DialMenusModel", name := "takeMenu", desc := "(I)I" } : Jvm.MethodName)) ∈ lw_all := lw_g (lw_at lw_m13 181 rfl) rfl
theorem q3198 : (Jvm.Cond.privateMethod ({ cls := "DialMenusModel", name := "takeMenu", desc := "(I)I" } : Jvm.MethodName)) ∈ lw_tbl := lw_at lw_m13 182 rfl
theorem q3199 : (Jvm.Cond.instanceMethod ({ cls := "DialMenusModel", name := "takeMenu", desc := "(I)I" } : Jvm.MethodName)) ∈ lw_all := lw_g (lw_at lw_m13 183 rfl) rfl
theorem q3200 : (Jvm.Cond.code ({ cls := "DialMenusModel", name := "takeMenu", desc := "(I)I" } : Jvm.MethodName) prog_7_method_70_code (4 : Nat) (Option.some Jvm.ClassFile.FieldType.int)) ∈ lw_all := lw_g (lw_at lw_m13 184 rfl) rfl
theorem q3201 : (Jvm.Cond.methodLink "DialMenusModel" (256 : Nat) ({ cls := "DialMenusModel", name := "isPathChanged", desc := "(I)Z" } : Jvm.MethodName)) ∈ lw_all := lw_g (lw_at lw_m13 185 rfl) rfl
theorem q3202 : (Jvm.Cond.privateMethod ({ cls := "DialMenusModel", name := "isPathChanged", desc := "(I)Z" } : Jvm.MethodName)) ∈ lw_tbl := lw_at lw_m13 186 rfl
theorem q3203 : (Jvm.Cond.instanceMethod ({ cls := "DialMenusModel", name := "isPathChanged", desc := "(I)Z" } : Jvm.MethodName)) ∈ lw_all := lw_g (lw_at lw_m13 187 rfl) rfl
theorem q3204 : (Jvm.Cond.code ({ cls := "DialMenusModel", name := "isPathChanged", desc := "(I)Z" } : Jvm.MethodName) prog_7_method_69_code (4 : Nat) (Option.some Jvm.ClassFile.FieldType.boolean)) ∈ lw_all := lw_g (lw_at lw_m13 188 rfl) rfl
theorem q3205 : (Jvm.Cond.methodLink "DialMenusModel" (265 : Nat) ({ cls := "DialMenusModel", name := "costNow", desc := "()I" } : Jvm.MethodName)) ∈ lw_all := lw_g (lw_at lw_m13 189 rfl) rfl
theorem q3206 : (Jvm.Cond.privateMethod ({ cls := "DialMenusModel", name := "costNow", desc := "()I" } : Jvm.MethodName)) ∈ lw_tbl := lw_at lw_m13 190 rfl
theorem q3207 : (Jvm.Cond.instanceMethod ({ cls := "DialMenusModel", name := "costNow", desc := "()I" } : Jvm.MethodName)) ∈ lw_all := lw_g (lw_at lw_m13 191 rfl) rfl
theorem q3208 : (Jvm.Cond.code ({ cls := "DialMenusModel", name := "costNow", desc := "()I" } : Jvm.MethodName) prog_7_method_71_code (3 : Nat) (Option.some Jvm.ClassFile.FieldType.int)) ∈ lw_all := lw_g (lw_at lw_m13 192 rfl) rfl
theorem q3210 : (Jvm.Cond.instanceMethod ({ cls := "DialMenusModel", name := "tend", desc := "(I)I" } : Jvm.MethodName)) ∈ lw_all := lw_g (lw_at lw_m13 194 rfl) rfl
theorem q3211 : (Jvm.Cond.selects "DialMenusModel" ({ cls := "DialMenusModel", name := "tend", desc := "(I)I" } : Jvm.MethodName) ({ cls := "DialMenusModel", name := "tend", desc := "(I)I" } : Jvm.MethodName)) ∈ lw_all := lw_g (lw_at lw_m13 195 rfl) rfl
theorem q3212 : (Jvm.Cond.code ({ cls := "DialMenusModel", name := "tend", desc := "(I)I" } : Jvm.MethodName) prog_7_method_74_code (3 : Nat) (Option.some Jvm.ClassFile.FieldType.int)) ∈ lw_all := lw_g (lw_at lw_m13 196 rfl) rfl
theorem q3213 : (Jvm.Cond.methodLink "DialMenusModel" (268 : Nat) ({ cls := "DialMenusModel", name := "leastCost", desc := "()I" } : Jvm.MethodName)) ∈ lw_all := lw_g (lw_at lw_m13 197 rfl) rfl
theorem q3214 : (Jvm.Cond.privateMethod ({ cls := "DialMenusModel", name := "leastCost", desc := "()I" } : Jvm.MethodName)) ∈ lw_tbl := lw_at lw_m13 198 rfl
theorem q3215 : (Jvm.Cond.instanceMethod ({ cls := "DialMenusModel", name := "leastCost", desc := "()I" } : Jvm.MethodName)) ∈ lw_all := lw_g (lw_at lw_m13 199 rfl) rfl
theorem q3216 : (Jvm.Cond.code ({ cls := "DialMenusModel", name := "leastCost", desc := "()I" } : Jvm.MethodName) prog_7_method_72_code (1 : Nat) (Option.some Jvm.ClassFile.FieldType.int)) ∈ lw_all := lw_g (lw_at lw_m13 200 rfl) rfl
theorem q3218 : (Jvm.Cond.instanceMethod ({ cls := "DialMenusModel", name := "path", desc := "(II)I" } : Jvm.MethodName)) ∈ lw_all := lw_g (lw_at lw_m13 202 rfl) rfl
theorem q3219 : (Jvm.Cond.selects "DialMenusModel" ({ cls := "DialMenusModel", name := "path", desc := "(II)I" } : Jvm.MethodName) ({ cls := "DialMenusModel", name := "path", desc := "(II)I" } : Jvm.MethodName)) ∈ lw_all := lw_g (lw_at lw_m13 203 rfl) rfl
theorem q3220 : (Jvm.Cond.code ({ cls := "DialMenusModel", name := "path", desc := "(II)I" } : Jvm.MethodName) prog_7_method_75_code (3 : Nat) (Option.some Jvm.ClassFile.FieldType.int)) ∈ lw_all := lw_g (lw_at lw_m13 204 rfl) rfl
theorem q3222 : (Jvm.Cond.instanceMethod ({ cls := "DialMenusModel", name := "leads", desc := "(I)I" } : Jvm.MethodName)) ∈ lw_all := lw_g (lw_at lw_m13 206 rfl) rfl
theorem q3223 : (Jvm.Cond.selects "DialMenusModel" ({ cls := "DialMenusModel", name := "leads", desc := "(I)I" } : Jvm.MethodName) ({ cls := "DialMenusModel", name := "leads", desc := "(I)I" } : Jvm.MethodName)) ∈ lw_all := lw_g (lw_at lw_m13 207 rfl) rfl
theorem q3224 : (Jvm.Cond.code ({ cls := "DialMenusModel", name := "leads", desc := "(I)I" } : Jvm.MethodName) prog_7_method_78_code (5 : Nat) (Option.some Jvm.ClassFile.FieldType.int)) ∈ lw_all := lw_g (lw_at lw_m13 208 rfl) rfl
theorem q3225 : (Jvm.Cond.methodLink "DialMenusModel" (274 : Nat) ({ cls := "DialMenusModel", name := "layAsked", desc := "(I)Z" } : Jvm.MethodName)) ∈ lw_all := lw_g (lw_at lw_m13 209 rfl) rfl
theorem q3226 : (Jvm.Cond.privateMethod ({ cls := "DialMenusModel", name := "layAsked", desc := "(I)Z" } : Jvm.MethodName)) ∈ lw_tbl := lw_at lw_m13 210 rfl
theorem q3227 : (Jvm.Cond.instanceMethod ({ cls := "DialMenusModel", name := "layAsked", desc := "(I)Z" } : Jvm.MethodName)) ∈ lw_all := lw_g (lw_at lw_m13 211 rfl) rfl
theorem q3228 : (Jvm.Cond.code ({ cls := "DialMenusModel", name := "layAsked", desc := "(I)Z" } : Jvm.MethodName) prog_7_method_76_code (6 : Nat) (Option.some Jvm.ClassFile.FieldType.boolean)) ∈ lw_all := lw_g (lw_at lw_m13 212 rfl) rfl
theorem q3229 : (Jvm.Cond.methodLink "DialMenusModel" (277 : Nat) ({ cls := "DialMenusModel", name := "isLed", desc := "(I)Z" } : Jvm.MethodName)) ∈ lw_all := lw_g (lw_at lw_m13 213 rfl) rfl
theorem q3230 : (Jvm.Cond.privateMethod ({ cls := "DialMenusModel", name := "isLed", desc := "(I)Z" } : Jvm.MethodName)) ∈ lw_tbl := lw_at lw_m13 214 rfl
theorem q3231 : (Jvm.Cond.instanceMethod ({ cls := "DialMenusModel", name := "isLed", desc := "(I)Z" } : Jvm.MethodName)) ∈ lw_all := lw_g (lw_at lw_m13 215 rfl) rfl
theorem q3232 : (Jvm.Cond.code ({ cls := "DialMenusModel", name := "isLed", desc := "(I)Z" } : Jvm.MethodName) prog_7_method_77_code (4 : Nat) (Option.some Jvm.ClassFile.FieldType.boolean)) ∈ lw_all := lw_g (lw_at lw_m13 216 rfl) rfl
theorem q3234 : (Jvm.Cond.instanceMethod ({ cls := "DialMenusModel", name := "menu", desc := "(I)I" } : Jvm.MethodName)) ∈ lw_all := lw_g (lw_at lw_m13 218 rfl) rfl
theorem q3235 : (Jvm.Cond.selects "DialMenusModel" ({ cls := "DialMenusModel", name := "menu", desc := "(I)I" } : Jvm.MethodName) ({ cls := "DialMenusModel", name := "menu", desc := "(I)I" } : Jvm.MethodName)) ∈ lw_all := lw_g (lw_at lw_m13 219 rfl) rfl
theorem q3236 : (Jvm.Cond.code ({ cls := "DialMenusModel", name := "menu", desc := "(I)I" } : Jvm.MethodName) prog_7_method_84_code (2 : Nat) (Option.some Jvm.ClassFile.FieldType.int)) ∈ lw_all := lw_g (lw_at lw_m13 220 rfl) rfl
theorem q3237 : (Jvm.Cond.methodLink "DialMenusModel" (292 : Nat) ({ cls := "DialMenusModel", name := "menuNow", desc := "(I)I" } : Jvm.MethodName)) ∈ lw_all := lw_g (lw_at lw_m13 221 rfl) rfl
theorem q3238 : (Jvm.Cond.privateMethod ({ cls := "DialMenusModel", name := "menuNow", desc := "(I)I" } : Jvm.MethodName)) ∈ lw_tbl := lw_at lw_m13 222 rfl
theorem q3239 : (Jvm.Cond.instanceMethod ({ cls := "DialMenusModel", name := "menuNow", desc := "(I)I" } : Jvm.MethodName)) ∈ lw_all := lw_g (lw_at lw_m13 223 rfl) rfl
theorem q3240 : (Jvm.Cond.code ({ cls := "DialMenusModel", name := "menuNow", desc := "(I)I" } : Jvm.MethodName) prog_7_method_83_code (2 : Nat) (Option.some Jvm.ClassFile.FieldType.int)) ∈ lw_all := lw_g (lw_at lw_m13 224 rfl) rfl
theorem q3241 : (Jvm.Cond.methodLink "DialMenusModel" (283 : Nat) ({ cls := "DialMenusModel", name := "longest", desc := "()I" } : Jvm.MethodName)) ∈ lw_all := lw_g (lw_at lw_m13 225 rfl) rfl
theorem q3242 : (Jvm.Cond.privateMethod ({ cls := "DialMenusModel", name := "longest", desc := "()I" } : Jvm.MethodName)) ∈ lw_tbl := lw_at lw_m13 226 rfl
theorem q3243 : (Jvm.Cond.instanceMethod ({ cls := "DialMenusModel", name := "longest", desc := "()I" } : Jvm.MethodName)) ∈ lw_all := lw_g (lw_at lw_m13 227 rfl) rfl
theorem q3244 : (Jvm.Cond.code ({ cls := "DialMenusModel", name := "longest", desc := "()I" } : Jvm.MethodName) prog_7_method_79_code (3 : Nat) (Option.some Jvm.ClassFile.FieldType.int)) ∈ lw_all := lw_g (lw_at lw_m13 228 rfl) rfl
theorem q3245 : (Jvm.Cond.methodLink "DialMenusModel" (286 : Nat) ({ cls := "DialMenusModel", name := "menusMany", desc := "()I" } : Jvm.MethodName)) ∈ lw_all := lw_g (lw_at lw_m13 229 rfl) rfl
theorem q3246 : (Jvm.Cond.privateMethod ({ cls := "DialMenusModel", name := "menusMany", desc := "()I" } : Jvm.MethodName)) ∈ lw_tbl := lw_at lw_m13 230 rfl
theorem q3247 : (Jvm.Cond.instanceMethod ({ cls := "DialMenusModel", name := "menusMany", desc := "()I" } : Jvm.MethodName)) ∈ lw_all := lw_g (lw_at lw_m13 231 rfl) rfl
theorem q3248 : (Jvm.Cond.code ({ cls := "DialMenusModel", name := "menusMany", desc := "()I" } : Jvm.MethodName) prog_7_method_81_code (4 : Nat) (Option.some Jvm.ClassFile.FieldType.int)) ∈ lw_all := lw_g (lw_at lw_m13 232 rfl) rfl
theorem q3249 : (Jvm.Cond.methodLink "DialMenusModel" (280 : Nat) ({ cls := "DialMenusModel", name := "isSamePath", desc := "(III)Z" } : Jvm.MethodName)) ∈ lw_all := lw_g (lw_at lw_m13 233 rfl) rfl
theorem q3250 : (Jvm.Cond.privateMethod ({ cls := "DialMenusModel", name := "isSamePath", desc := "(III)Z" } : Jvm.MethodName)) ∈ lw_tbl := lw_at lw_m13 234 rfl
theorem q3251 : (Jvm.Cond.instanceMethod ({ cls := "DialMenusModel", name := "isSamePath", desc := "(III)Z" } : Jvm.MethodName)) ∈ lw_all := lw_g (lw_at lw_m13 235 rfl) rfl
theorem q3252 : (Jvm.Cond.code ({ cls := "DialMenusModel", name := "isSamePath", desc := "(III)Z" } : Jvm.MethodName) prog_7_method_80_code (6 : Nat) (Option.some Jvm.ClassFile.FieldType.boolean)) ∈ lw_all := lw_g (lw_at lw_m13 236 rfl) rfl
theorem q3253 : (Jvm.Cond.methodLink "DialMenusModel" (289 : Nat) ({ cls := "DialMenusModel", name := "wholeParts", desc := "()I" } : Jvm.MethodName)) ∈ lw_all := lw_g (lw_at lw_m13 237 rfl) rfl
theorem q3254 : (Jvm.Cond.privateMethod ({ cls := "DialMenusModel", name := "wholeParts", desc := "()I" } : Jvm.MethodName)) ∈ lw_tbl := lw_at lw_m13 238 rfl
theorem q3255 : (Jvm.Cond.instanceMethod ({ cls := "DialMenusModel", name := "wholeParts", desc := "()I" } : Jvm.MethodName)) ∈ lw_all := lw_g (lw_at lw_m13 239 rfl) rfl
theorem q3256 : (Jvm.Cond.code ({ cls := "DialMenusModel", name := "wholeParts", desc := "()I" } : Jvm.MethodName) prog_7_method_82_code (3 : Nat) (Option.some Jvm.ClassFile.FieldType.int)) ∈ lw_all := lw_g (lw_at lw_m14 0 rfl) rfl
theorem q3258 : (Jvm.Cond.instanceMethod ({ cls := "DialMenusModel", name := "count", desc := "(I)I" } : Jvm.MethodName)) ∈ lw_all := lw_g (lw_at lw_m14 2 rfl) rfl
theorem q3259 : (Jvm.Cond.selects "DialMenusModel" ({ cls := "DialMenusModel", name := "count", desc := "(I)I" } : Jvm.MethodName) ({ cls := "DialMenusModel", name := "count", desc := "(I)I" } : Jvm.MethodName)) ∈ lw_all := lw_g (lw_at lw_m14 3 rfl) rfl
theorem q3260 : (Jvm.Cond.code ({ cls := "DialMenusModel", name := "count", desc := "(I)I" } : Jvm.MethodName) prog_7_method_86_code (2 : Nat) (Option.some Jvm.ClassFile.FieldType.int)) ∈ lw_all := lw_g (lw_at lw_m14 4 rfl) rfl
theorem q3261 : (Jvm.Cond.methodLink "DialMenusModel" (295 : Nat) ({ cls := "DialMenusModel", name := "howMany", desc := "(I)I" } : Jvm.MethodName)) ∈ lw_all := lw_g (lw_at lw_m14 5 rfl) rfl
theorem q3262 : (Jvm.Cond.privateMethod ({ cls := "DialMenusModel", name := "howMany", desc := "(I)I" } : Jvm.MethodName)) ∈ lw_tbl := lw_at lw_m14 6 rfl
theorem q3263 : (Jvm.Cond.instanceMethod ({ cls := "DialMenusModel", name := "howMany", desc := "(I)I" } : Jvm.MethodName)) ∈ lw_all := lw_g (lw_at lw_m14 7 rfl) rfl
theorem q3264 : (Jvm.Cond.code ({ cls := "DialMenusModel", name := "howMany", desc := "(I)I" } : Jvm.MethodName) prog_7_method_85_code (2 : Nat) (Option.some Jvm.ClassFile.FieldType.int)) ∈ lw_all := lw_g (lw_at lw_m14 8 rfl) rfl
theorem q3266 : (Jvm.Cond.instanceMethod ({ cls := "DialMenusModel", name := "digest", desc := "()J" } : Jvm.MethodName)) ∈ lw_all := lw_g (lw_at lw_m14 10 rfl) rfl
theorem q3267 : (Jvm.Cond.selects "DialMenusModel" ({ cls := "DialMenusModel", name := "digest", desc := "()J" } : Jvm.MethodName) ({ cls := "DialMenusModel", name := "digest", desc := "()J" } : Jvm.MethodName)) ∈ lw_all := lw_g (lw_at lw_m14 11 rfl) rfl
theorem q3268 : (Jvm.Cond.code ({ cls := "DialMenusModel", name := "digest", desc := "()J" } : Jvm.MethodName) prog_7_method_91_code (2 : Nat) (Option.some Jvm.ClassFile.FieldType.long)) ∈ lw_all := lw_g (lw_at lw_m14 12 rfl) rfl
theorem q3269 : (Jvm.Cond.constantLong "DialMenusModel" (311 : Nat) (1571 : Int64)) ∈ lw_all := lw_g (lw_at lw_m14 13 rfl) rfl
theorem q3270 : (Jvm.Cond.methodLink "DialMenusModel" (304 : Nat) ({ cls := "DialMenusModel", name := "mix", desc := "(J)V" } : Jvm.MethodName)) ∈ lw_all := lw_g (lw_at lw_m14 14 rfl) rfl
theorem q3271 : (Jvm.Cond.privateMethod ({ cls := "DialMenusModel", name := "mix", desc := "(J)V" } : Jvm.MethodName)) ∈ lw_tbl := lw_at lw_m14 15 rfl
theorem q3272 : (Jvm.Cond.instanceMethod ({ cls := "DialMenusModel", name := "mix", desc := "(J)V" } : Jvm.MethodName)) ∈ lw_all := lw_g (lw_at lw_m14 16 rfl) rfl
theorem q3273 : (Jvm.Cond.code ({ cls := "DialMenusModel", name := "mix", desc := "(J)V" } : Jvm.MethodName) prog_7_method_87_code (3 : Nat) (Option.none : Option Jvm.ClassFile.FieldType)) ∈ lw_all := lw_g (lw_at lw_m14 17 rfl) rfl
theorem q3274 : (Jvm.Cond.constantLong "DialMenusModel" (298 : Nat) (31 : Int64)) ∈ lw_all := lw_g (lw_at lw_m14 18 rfl) rfl
theorem q3275 : (Jvm.Cond.methodLink "DialMenusModel" (313 : Nat) ({ cls := "DialMenusModel", name := "mixName", desc := "(I)V" } : Jvm.MethodName)) ∈ lw_all := lw_g (lw_at lw_m14 19 rfl) rfl
theorem q3276 : (Jvm.Cond.privateMethod ({ cls := "DialMenusModel", name := "mixName", desc := "(I)V" } : Jvm.MethodName)) ∈ lw_tbl := lw_at lw_m14 20 rfl
theorem q3277 : (Jvm.Cond.instanceMethod ({ cls := "DialMenusModel", name := "mixName", desc := "(I)V" } : Jvm.MethodName)) ∈ lw_all := lw_g (lw_at lw_m14 21 rfl) rfl
theorem q3278 : (Jvm.Cond.code ({ cls := "DialMenusModel", name := "mixName", desc := "(I)V" } : Jvm.MethodName) prog_7_method_88_code (3 : Nat) (Option.none : Option Jvm.ClassFile.FieldType)) ∈ lw_all := lw_g (lw_at lw_m14 22 rfl) rfl
theorem q3279 : (Jvm.Cond.methodLink "DialMenusModel" (316 : Nat) ({ cls := "DialMenusModel", name := "mixTyped", desc := "()V" } : Jvm.MethodName)) ∈ lw_all := lw_g (lw_at lw_m14 23 rfl) rfl
theorem q3280 : (Jvm.Cond.privateMethod ({ cls := "DialMenusModel", name := "mixTyped", desc := "()V" } : Jvm.MethodName)) ∈ lw_tbl := lw_at lw_m14 24 rfl
theorem q3281 : (Jvm.Cond.instanceMethod ({ cls := "DialMenusModel", name := "mixTyped", desc := "()V" } : Jvm.MethodName)) ∈ lw_all := lw_g (lw_at lw_m14 25 rfl) rfl
theorem q3282 : (Jvm.Cond.code ({ cls := "DialMenusModel", name := "mixTyped", desc := "()V" } : Jvm.MethodName) prog_7_method_89_code (2 : Nat) (Option.none : Option Jvm.ClassFile.FieldType)) ∈ lw_all := lw_g (lw_at lw_m14 26 rfl) rfl
theorem q3283 : (Jvm.Cond.methodLink "DialMenusModel" (308 : Nat) ({ cls := "DialMenusModel", name := "choice", desc := "(I)I" } : Jvm.MethodName)) ∈ lw_all := lw_g (lw_at lw_m14 27 rfl) rfl
theorem q3284 : (Jvm.Cond.methodLink "DialMenusModel" (319 : Nat) ({ cls := "DialMenusModel", name := "mixMenu", desc := "()V" } : Jvm.MethodName)) ∈ lw_all := lw_g (lw_at lw_m14 28 rfl) rfl
theorem q3285 : (Jvm.Cond.privateMethod ({ cls := "DialMenusModel", name := "mixMenu", desc := "()V" } : Jvm.MethodName)) ∈ lw_tbl := lw_at lw_m14 29 rfl
theorem q3286 : (Jvm.Cond.instanceMethod ({ cls := "DialMenusModel", name := "mixMenu", desc := "()V" } : Jvm.MethodName)) ∈ lw_all := lw_g (lw_at lw_m14 30 rfl) rfl
theorem q3287 : (Jvm.Cond.code ({ cls := "DialMenusModel", name := "mixMenu", desc := "()V" } : Jvm.MethodName) prog_7_method_90_code (3 : Nat) (Option.none : Option Jvm.ClassFile.FieldType)) ∈ lw_all := lw_g (lw_at lw_m14 31 rfl) rfl
theorem q3336 : (Jvm.Cond.castable "DialMenusModel" "java/lang/Object") ∈ lw_tbl := lw_at lw_m14 80 rfl
theorem in_X1 : ∀ w ∈ wsX10, w ∈ lw_all := lw_in wsX10 [2861, 2863, 2865, 2867, 2869, 2871, 2873, 2875, 2877, 2879, 2881, 2883, 2885, 2887, 2889, 2891, 2893, 2895, 2897, 2899, 2901, 2903, 2905, 2907, 2909, 2911, 2913, 2915, 2917, 2919, 2921, 2923, 2925] (by decide +kernel) (by decide +kernel)

