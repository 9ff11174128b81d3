/-! the law's own entry -/
set_option maxRecDepth 100000
abbrev cL_law : ByteArray := code
def dkwL_law_21 : List UInt8 := [4, 172]
abbrev dktL_law_21 : List UInt8 := dkwL_law_21 ++ []
def dkwL_law_20 : List UInt8 := [46, 182, 0, 85, 44, 42, 29, 4, 96, 46, 182, 0, 88, 159, 0, 5, 3, 172, 132, 3, 4, 167, 253, 239]
abbrev dktL_law_20 : List UInt8 := dkwL_law_20 ++ dktL_law_21
def dkwL_law_19 : List UInt8 := [96, 46, 182, 0, 81, 44, 42, 29, 4, 96, 46, 182, 0, 84, 159, 0, 28, 3, 172, 43, 42, 29, 4, 96]
abbrev dktL_law_19 : List UInt8 := dkwL_law_19 ++ dktL_law_20
def dkwL_law_18 : List UInt8 := [4, 96, 46, 182, 0, 77, 44, 42, 29, 4, 96, 46, 182, 0, 80, 159, 0, 51, 3, 172, 43, 42, 29, 4]
abbrev dktL_law_18 : List UInt8 := dkwL_law_18 ++ dktL_law_19
def dkwL_law_17 : List UInt8 := [29, 4, 96, 46, 182, 0, 73, 44, 42, 29, 4, 96, 46, 182, 0, 76, 159, 0, 74, 3, 172, 43, 42, 29]
abbrev dktL_law_17 : List UInt8 := dkwL_law_17 ++ dktL_law_18
def dkwL_law_16 : List UInt8 := [46, 182, 0, 68, 159, 0, 110, 3, 172, 43, 182, 0, 69, 44, 182, 0, 72, 159, 0, 97, 3, 172, 43, 42]
abbrev dktL_law_16 : List UInt8 := dkwL_law_16 ++ dktL_law_17
def dkwL_law_15 : List UInt8 := [46, 42, 29, 6, 96, 46, 182, 0, 64, 44, 42, 29, 4, 96, 46, 42, 29, 5, 96, 46, 42, 29, 6, 96]
abbrev dktL_law_15 : List UInt8 := dkwL_law_15 ++ dktL_law_16
def dkwL_law_14 : List UInt8 := [44, 42, 29, 4, 96, 46, 182, 0, 63, 159, 0, 153, 3, 172, 43, 42, 29, 4, 96, 46, 42, 29, 5, 96]
abbrev dktL_law_14 : List UInt8 := dkwL_law_14 ++ dktL_law_15
def dkwL_law_13 : List UInt8 := [3, 172, 43, 182, 0, 56, 44, 182, 0, 59, 159, 0, 176, 3, 172, 43, 42, 29, 4, 96, 46, 182, 0, 60]
abbrev dktL_law_13 : List UInt8 := dkwL_law_13 ++ dktL_law_14
def dkwL_law_12 : List UInt8 := [29, 5, 96, 46, 182, 0, 52, 44, 42, 29, 4, 96, 46, 42, 29, 5, 96, 46, 182, 0, 55, 159, 0, 189]
abbrev dktL_law_12 : List UInt8 := dkwL_law_12 ++ dktL_law_13
def dkwL_law_11 : List UInt8 := [29, 4, 96, 46, 42, 29, 5, 96, 46, 182, 0, 51, 159, 0, 222, 3, 172, 43, 42, 29, 4, 96, 46, 42]
abbrev dktL_law_11 : List UInt8 := dkwL_law_11 ++ dktL_law_12
def dkwL_law_10 : List UInt8 := [182, 0, 47, 159, 0, 255, 3, 172, 43, 42, 29, 4, 96, 46, 42, 29, 5, 96, 46, 182, 0, 48, 44, 42]
abbrev dktL_law_10 : List UInt8 := dkwL_law_10 ++ dktL_law_11
def dkwL_law_9 : List UInt8 := [29, 4, 96, 46, 42, 29, 5, 96, 46, 182, 0, 44, 44, 42, 29, 4, 96, 46, 42, 29, 5, 96, 46]
abbrev dktL_law_9 : List UInt8 := dkwL_law_9 ++ dktL_law_10
def dkwL_law_8 : List UInt8 := [182, 0, 39, 44, 42, 29, 4, 96, 46, 42, 29, 5, 96, 46, 182, 0, 43, 159, 1, 32, 3, 172, 43, 42]
abbrev dktL_law_8 : List UInt8 := dkwL_law_8 ++ dktL_law_9
def dkwL_law_7 : List UInt8 := [182, 0, 35, 44, 182, 0, 38, 159, 1, 65, 3, 172, 43, 42, 29, 4, 96, 46, 42, 29, 5, 96, 46]
abbrev dktL_law_7 : List UInt8 := dkwL_law_7 ++ dktL_law_8
def dkwL_law_6 : List UInt8 := [43, 42, 29, 4, 96, 46, 182, 0, 31, 44, 42, 29, 4, 96, 46, 182, 0, 34, 159, 1, 78, 3, 172, 43]
abbrev dktL_law_6 : List UInt8 := dkwL_law_6 ++ dktL_law_7
def dkwL_law_5 : List UInt8 := [172, 43, 42, 29, 4, 96, 46, 182, 0, 27, 44, 42, 29, 4, 96, 46, 182, 0, 30, 159, 1, 101, 3, 172]
abbrev dktL_law_5 : List UInt8 := dkwL_law_5 ++ dktL_law_6
def dkwL_law_4 : List UInt8 := [182, 0, 18, 44, 182, 0, 22, 159, 1, 137, 3, 172, 43, 182, 0, 23, 44, 182, 0, 26, 159, 1, 124, 3]
abbrev dktL_law_4 : List UInt8 := dkwL_law_4 ++ dktL_law_5
def dkwL_law_3 : List UInt8 := [43, 42, 29, 4, 96, 46, 182, 0, 13, 44, 42, 29, 4, 96, 46, 182, 0, 17, 159, 1, 150, 3, 172, 43]
abbrev dktL_law_3 : List UInt8 := dkwL_law_3 ++ dktL_law_4
def dkwL_law_2 : List UInt8 := [170, 0, 0, 0, 0, 0, 2, 0, 0, 0, 0, 0, 0, 0, 0, 17, 0, 0, 0, 88, 0, 0, 0, 111, 0, 0, 0, 124, 0, 0, 0, 137, 0, 0, 0, 160, 0, 0, 0, 183, 0, 0, 0, 196, 0, 0, 0, 229, 0, 0, 1, 6, 0, 0, 1, 39, 0, 0, 1, 72, 0, 0, 1, 85, 0, 0, 1, 108, 0, 0, 1, 151, 0, 0, 1, 164, 0, 0, 1, 187, 0, 0, 1, 210, 0, 0, 1, 233]
abbrev dktL_law_2 : List UInt8 := dkwL_law_2 ++ dktL_law_3
def dkwL_law_1 : List UInt8 := [163, 2, 15, 42, 29, 46, 16, 31, 126]
abbrev dktL_law_1 : List UInt8 := dkwL_law_1 ++ dktL_law_2
def dkwL_law_0 : List UInt8 := [187, 0, 7, 89, 183, 0, 9, 76, 187, 0, 10, 89, 183, 0, 12, 77, 3, 62, 29, 42, 190, 7, 100]
abbrev dktL_law_0 : List UInt8 := dkwL_law_0 ++ dktL_law_1
theorem dksL_law_0 : cL_law.data.toList.drop 0 = dktL_law_0 := by decide +kernel
theorem dksL_law_1 : cL_law.data.toList.drop 23 = dktL_law_1 := dk_seg dksL_law_0 23 rfl rfl
theorem dksL_law_2 : cL_law.data.toList.drop 32 = dktL_law_2 := dk_seg dksL_law_1 9 rfl rfl
theorem dksL_law_3 : cL_law.data.toList.drop 120 = dktL_law_3 := dk_seg dksL_law_2 88 rfl rfl
theorem dksL_law_4 : cL_law.data.toList.drop 144 = dktL_law_4 := dk_seg dksL_law_3 24 rfl rfl
theorem dksL_law_5 : cL_law.data.toList.drop 168 = dktL_law_5 := dk_seg dksL_law_4 24 rfl rfl
theorem dksL_law_6 : cL_law.data.toList.drop 192 = dktL_law_6 := dk_seg dksL_law_5 24 rfl rfl
theorem dksL_law_7 : cL_law.data.toList.drop 216 = dktL_law_7 := dk_seg dksL_law_6 24 rfl rfl
theorem dksL_law_8 : cL_law.data.toList.drop 239 = dktL_law_8 := dk_seg dksL_law_7 23 rfl rfl
theorem dksL_law_9 : cL_law.data.toList.drop 263 = dktL_law_9 := dk_seg dksL_law_8 24 rfl rfl
theorem dksL_law_10 : cL_law.data.toList.drop 286 = dktL_law_10 := dk_seg dksL_law_9 23 rfl rfl
theorem dksL_law_11 : cL_law.data.toList.drop 310 = dktL_law_11 := dk_seg dksL_law_10 24 rfl rfl
theorem dksL_law_12 : cL_law.data.toList.drop 334 = dktL_law_12 := dk_seg dksL_law_11 24 rfl rfl
theorem dksL_law_13 : cL_law.data.toList.drop 358 = dktL_law_13 := dk_seg dksL_law_12 24 rfl rfl
theorem dksL_law_14 : cL_law.data.toList.drop 382 = dktL_law_14 := dk_seg dksL_law_13 24 rfl rfl
theorem dksL_law_15 : cL_law.data.toList.drop 406 = dktL_law_15 := dk_seg dksL_law_14 24 rfl rfl
theorem dksL_law_16 : cL_law.data.toList.drop 430 = dktL_law_16 := dk_seg dksL_law_15 24 rfl rfl
theorem dksL_law_17 : cL_law.data.toList.drop 454 = dktL_law_17 := dk_seg dksL_law_16 24 rfl rfl
theorem dksL_law_18 : cL_law.data.toList.drop 478 = dktL_law_18 := dk_seg dksL_law_17 24 rfl rfl
theorem dksL_law_19 : cL_law.data.toList.drop 502 = dktL_law_19 := dk_seg dksL_law_18 24 rfl rfl
theorem dksL_law_20 : cL_law.data.toList.drop 526 = dktL_law_20 := dk_seg dksL_law_19 24 rfl rfl
theorem dksL_law_21 : cL_law.data.toList.drop 550 = dktL_law_21 := dk_seg dksL_law_20 24 rfl rfl
theorem dL_law_0 : decode cL_law 0 = .ok (.new 7, 3) := dk_187 0 7 (dk_at dksL_law_0 0 rfl rfl)
theorem dL_law_3 : decode cL_law 3 = .ok (.dup, 1) := dk_89 (dk_at dksL_law_0 3 rfl rfl)
theorem dL_law_4 : decode cL_law 4 = .ok (.invokespecial 9, 3) := dk_183 0 9 (dk_at dksL_law_0 4 rfl rfl)
theorem dL_law_7 : decode cL_law 7 = .ok (.astore_n 1, 1) := dk_76 (dk_at dksL_law_0 7 rfl rfl)
theorem dL_law_8 : decode cL_law 8 = .ok (.new 10, 3) := dk_187 0 10 (dk_at dksL_law_0 8 rfl rfl)
theorem dL_law_11 : decode cL_law 11 = .ok (.dup, 1) := dk_89 (dk_at dksL_law_0 11 rfl rfl)
theorem dL_law_12 : decode cL_law 12 = .ok (.invokespecial 12, 3) := dk_183 0 12 (dk_at dksL_law_0 12 rfl rfl)
theorem dL_law_15 : decode cL_law 15 = .ok (.astore_n 2, 1) := dk_77 (dk_at dksL_law_0 15 rfl rfl)
theorem dL_law_16 : decode cL_law 16 = .ok (.iconst 0, 1) := dk_3 (dk_at dksL_law_0 16 rfl rfl)
theorem dL_law_17 : decode cL_law 17 = .ok (.istore_n 3, 1) := dk_62 (dk_at dksL_law_0 17 rfl rfl)
theorem dL_law_18 : decode cL_law 18 = .ok (.iload_n 3, 1) := dk_29 (dk_at dksL_law_0 18 rfl rfl)
theorem dL_law_19 : decode cL_law 19 = .ok (.aload_n 0, 1) := dk_42 (dk_at dksL_law_0 19 rfl rfl)
theorem dL_law_20 : decode cL_law 20 = .ok (.arraylength, 1) := dk_190 (dk_at dksL_law_0 20 rfl rfl)
theorem dL_law_21 : decode cL_law 21 = .ok (.iconst 4, 1) := dk_7 (dk_at dksL_law_0 21 rfl rfl)
theorem dL_law_22 : decode cL_law 22 = .ok (.isub, 1) := dk_100 (dk_at dksL_law_0 22 rfl rfl)
theorem dL_law_23 : decode cL_law 23 = .ok (.if_icmp .gt 527, 3) := dk_163 2 15 (dk_at dksL_law_1 0 rfl rfl)
theorem dL_law_26 : decode cL_law 26 = .ok (.aload_n 0, 1) := dk_42 (dk_at dksL_law_1 3 rfl rfl)
theorem dL_law_27 : decode cL_law 27 = .ok (.iload_n 3, 1) := dk_29 (dk_at dksL_law_1 4 rfl rfl)
theorem dL_law_28 : decode cL_law 28 = .ok (.iaload, 1) := dk_46 (dk_at dksL_law_1 5 rfl rfl)
theorem dL_law_29 : decode cL_law 29 = .ok (.bipush 31, 2) := dk_16 31 (dk_at dksL_law_1 6 rfl rfl)
theorem dL_law_31 : decode cL_law 31 = .ok (.iand, 1) := dk_126 (dk_at dksL_law_1 8 rfl rfl)
theorem dL_law_32 : decode cL_law 32 = .ok (.tableswitch 512 0 17 #[88, 111, 124, 137, 160, 183, 196, 229, 262, 295, 328, 341, 364, 407, 420, 443, 466, 489], 88) := by decide +kernel
theorem dL_law_120 : decode cL_law 120 = .ok (.aload_n 1, 1) := dk_43 (dk_at dksL_law_3 0 rfl rfl)
theorem dL_law_121 : decode cL_law 121 = .ok (.aload_n 0, 1) := dk_42 (dk_at dksL_law_3 1 rfl rfl)
theorem dL_law_122 : decode cL_law 122 = .ok (.iload_n 3, 1) := dk_29 (dk_at dksL_law_3 2 rfl rfl)
theorem dL_law_123 : decode cL_law 123 = .ok (.iconst 1, 1) := dk_4 (dk_at dksL_law_3 3 rfl rfl)
theorem dL_law_124 : decode cL_law 124 = .ok (.iadd, 1) := dk_96 (dk_at dksL_law_3 4 rfl rfl)
theorem dL_law_125 : decode cL_law 125 = .ok (.iaload, 1) := dk_46 (dk_at dksL_law_3 5 rfl rfl)
theorem dL_law_126 : decode cL_law 126 = .ok (.invokevirtual 13, 3) := dk_182 0 13 (dk_at dksL_law_3 6 rfl rfl)
theorem dL_law_129 : decode cL_law 129 = .ok (.aload_n 2, 1) := dk_44 (dk_at dksL_law_3 9 rfl rfl)
theorem dL_law_130 : decode cL_law 130 = .ok (.aload_n 0, 1) := dk_42 (dk_at dksL_law_3 10 rfl rfl)
theorem dL_law_131 : decode cL_law 131 = .ok (.iload_n 3, 1) := dk_29 (dk_at dksL_law_3 11 rfl rfl)
theorem dL_law_132 : decode cL_law 132 = .ok (.iconst 1, 1) := dk_4 (dk_at dksL_law_3 12 rfl rfl)
theorem dL_law_133 : decode cL_law 133 = .ok (.iadd, 1) := dk_96 (dk_at dksL_law_3 13 rfl rfl)
theorem dL_law_134 : decode cL_law 134 = .ok (.iaload, 1) := dk_46 (dk_at dksL_law_3 14 rfl rfl)
theorem dL_law_135 : decode cL_law 135 = .ok (.invokevirtual 17, 3) := dk_182 0 17 (dk_at dksL_law_3 15 rfl rfl)
theorem dL_law_138 : decode cL_law 138 = .ok (.if_icmp .eq 406, 3) := dk_159 1 150 (dk_at dksL_law_3 18 rfl rfl)
theorem dL_law_141 : decode cL_law 141 = .ok (.iconst 0, 1) := dk_3 (dk_at dksL_law_3 21 rfl rfl)
theorem dL_law_142 : decode cL_law 142 = .ok (.ireturn, 1) := dk_172 (dk_at dksL_law_3 22 rfl rfl)
theorem dL_law_143 : decode cL_law 143 = .ok (.aload_n 1, 1) := dk_43 (dk_at dksL_law_3 23 rfl rfl)
theorem dL_law_144 : decode cL_law 144 = .ok (.invokevirtual 18, 3) := dk_182 0 18 (dk_at dksL_law_4 0 rfl rfl)
theorem dL_law_147 : decode cL_law 147 = .ok (.aload_n 2, 1) := dk_44 (dk_at dksL_law_4 3 rfl rfl)
theorem dL_law_148 : decode cL_law 148 = .ok (.invokevirtual 22, 3) := dk_182 0 22 (dk_at dksL_law_4 4 rfl rfl)
theorem dL_law_151 : decode cL_law 151 = .ok (.if_icmp .eq 393, 3) := dk_159 1 137 (dk_at dksL_law_4 7 rfl rfl)
theorem dL_law_154 : decode cL_law 154 = .ok (.iconst 0, 1) := dk_3 (dk_at dksL_law_4 10 rfl rfl)
theorem dL_law_155 : decode cL_law 155 = .ok (.ireturn, 1) := dk_172 (dk_at dksL_law_4 11 rfl rfl)
theorem dL_law_156 : decode cL_law 156 = .ok (.aload_n 1, 1) := dk_43 (dk_at dksL_law_4 12 rfl rfl)
theorem dL_law_157 : decode cL_law 157 = .ok (.invokevirtual 23, 3) := dk_182 0 23 (dk_at dksL_law_4 13 rfl rfl)
theorem dL_law_160 : decode cL_law 160 = .ok (.aload_n 2, 1) := dk_44 (dk_at dksL_law_4 16 rfl rfl)
theorem dL_law_161 : decode cL_law 161 = .ok (.invokevirtual 26, 3) := dk_182 0 26 (dk_at dksL_law_4 17 rfl rfl)
theorem dL_law_164 : decode cL_law 164 = .ok (.if_icmp .eq 380, 3) := dk_159 1 124 (dk_at dksL_law_4 20 rfl rfl)
theorem dL_law_167 : decode cL_law 167 = .ok (.iconst 0, 1) := dk_3 (dk_at dksL_law_4 23 rfl rfl)
theorem dL_law_168 : decode cL_law 168 = .ok (.ireturn, 1) := dk_172 (dk_at dksL_law_5 0 rfl rfl)
theorem dL_law_169 : decode cL_law 169 = .ok (.aload_n 1, 1) := dk_43 (dk_at dksL_law_5 1 rfl rfl)
theorem dL_law_170 : decode cL_law 170 = .ok (.aload_n 0, 1) := dk_42 (dk_at dksL_law_5 2 rfl rfl)
theorem dL_law_171 : decode cL_law 171 = .ok (.iload_n 3, 1) := dk_29 (dk_at dksL_law_5 3 rfl rfl)
theorem dL_law_172 : decode cL_law 172 = .ok (.iconst 1, 1) := dk_4 (dk_at dksL_law_5 4 rfl rfl)
theorem dL_law_173 : decode cL_law 173 = .ok (.iadd, 1) := dk_96 (dk_at dksL_law_5 5 rfl rfl)
theorem dL_law_174 : decode cL_law 174 = .ok (.iaload, 1) := dk_46 (dk_at dksL_law_5 6 rfl rfl)
theorem dL_law_175 : decode cL_law 175 = .ok (.invokevirtual 27, 3) := dk_182 0 27 (dk_at dksL_law_5 7 rfl rfl)
theorem dL_law_178 : decode cL_law 178 = .ok (.aload_n 2, 1) := dk_44 (dk_at dksL_law_5 10 rfl rfl)
theorem dL_law_179 : decode cL_law 179 = .ok (.aload_n 0, 1) := dk_42 (dk_at dksL_law_5 11 rfl rfl)
theorem dL_law_180 : decode cL_law 180 = .ok (.iload_n 3, 1) := dk_29 (dk_at dksL_law_5 12 rfl rfl)
theorem dL_law_181 : decode cL_law 181 = .ok (.iconst 1, 1) := dk_4 (dk_at dksL_law_5 13 rfl rfl)
theorem dL_law_182 : decode cL_law 182 = .ok (.iadd, 1) := dk_96 (dk_at dksL_law_5 14 rfl rfl)
theorem dL_law_183 : decode cL_law 183 = .ok (.iaload, 1) := dk_46 (dk_at dksL_law_5 15 rfl rfl)
theorem dL_law_184 : decode cL_law 184 = .ok (.invokevirtual 30, 3) := dk_182 0 30 (dk_at dksL_law_5 16 rfl rfl)
theorem dL_law_187 : decode cL_law 187 = .ok (.if_icmp .eq 357, 3) := dk_159 1 101 (dk_at dksL_law_5 19 rfl rfl)
theorem dL_law_190 : decode cL_law 190 = .ok (.iconst 0, 1) := dk_3 (dk_at dksL_law_5 22 rfl rfl)
theorem dL_law_191 : decode cL_law 191 = .ok (.ireturn, 1) := dk_172 (dk_at dksL_law_5 23 rfl rfl)
theorem dL_law_192 : decode cL_law 192 = .ok (.aload_n 1, 1) := dk_43 (dk_at dksL_law_6 0 rfl rfl)
theorem dL_law_193 : decode cL_law 193 = .ok (.aload_n 0, 1) := dk_42 (dk_at dksL_law_6 1 rfl rfl)
theorem dL_law_194 : decode cL_law 194 = .ok (.iload_n 3, 1) := dk_29 (dk_at dksL_law_6 2 rfl rfl)
theorem dL_law_195 : decode cL_law 195 = .ok (.iconst 1, 1) := dk_4 (dk_at dksL_law_6 3 rfl rfl)
theorem dL_law_196 : decode cL_law 196 = .ok (.iadd, 1) := dk_96 (dk_at dksL_law_6 4 rfl rfl)
theorem dL_law_197 : decode cL_law 197 = .ok (.iaload, 1) := dk_46 (dk_at dksL_law_6 5 rfl rfl)
theorem dL_law_198 : decode cL_law 198 = .ok (.invokevirtual 31, 3) := dk_182 0 31 (dk_at dksL_law_6 6 rfl rfl)
theorem dL_law_201 : decode cL_law 201 = .ok (.aload_n 2, 1) := dk_44 (dk_at dksL_law_6 9 rfl rfl)
theorem dL_law_202 : decode cL_law 202 = .ok (.aload_n 0, 1) := dk_42 (dk_at dksL_law_6 10 rfl rfl)
theorem dL_law_203 : decode cL_law 203 = .ok (.iload_n 3, 1) := dk_29 (dk_at dksL_law_6 11 rfl rfl)
theorem dL_law_204 : decode cL_law 204 = .ok (.iconst 1, 1) := dk_4 (dk_at dksL_law_6 12 rfl rfl)
theorem dL_law_205 : decode cL_law 205 = .ok (.iadd, 1) := dk_96 (dk_at dksL_law_6 13 rfl rfl)
theorem dL_law_206 : decode cL_law 206 = .ok (.iaload, 1) := dk_46 (dk_at dksL_law_6 14 rfl rfl)
theorem dL_law_207 : decode cL_law 207 = .ok (.invokevirtual 34, 3) := dk_182 0 34 (dk_at dksL_law_6 15 rfl rfl)
theorem dL_law_210 : decode cL_law 210 = .ok (.if_icmp .eq 334, 3) := dk_159 1 78 (dk_at dksL_law_6 18 rfl rfl)
theorem dL_law_213 : decode cL_law 213 = .ok (.iconst 0, 1) := dk_3 (dk_at dksL_law_6 21 rfl rfl)
theorem dL_law_214 : decode cL_law 214 = .ok (.ireturn, 1) := dk_172 (dk_at dksL_law_6 22 rfl rfl)
theorem dL_law_215 : decode cL_law 215 = .ok (.aload_n 1, 1) := dk_43 (dk_at dksL_law_6 23 rfl rfl)
theorem dL_law_216 : decode cL_law 216 = .ok (.invokevirtual 35, 3) := dk_182 0 35 (dk_at dksL_law_7 0 rfl rfl)
theorem dL_law_219 : decode cL_law 219 = .ok (.aload_n 2, 1) := dk_44 (dk_at dksL_law_7 3 rfl rfl)
theorem dL_law_220 : decode cL_law 220 = .ok (.invokevirtual 38, 3) := dk_182 0 38 (dk_at dksL_law_7 4 rfl rfl)
theorem dL_law_223 : decode cL_law 223 = .ok (.if_icmp .eq 321, 3) := dk_159 1 65 (dk_at dksL_law_7 7 rfl rfl)
theorem dL_law_226 : decode cL_law 226 = .ok (.iconst 0, 1) := dk_3 (dk_at dksL_law_7 10 rfl rfl)
theorem dL_law_227 : decode cL_law 227 = .ok (.ireturn, 1) := dk_172 (dk_at dksL_law_7 11 rfl rfl)
theorem dL_law_228 : decode cL_law 228 = .ok (.aload_n 1, 1) := dk_43 (dk_at dksL_law_7 12 rfl rfl)
theorem dL_law_229 : decode cL_law 229 = .ok (.aload_n 0, 1) := dk_42 (dk_at dksL_law_7 13 rfl rfl)
theorem dL_law_230 : decode cL_law 230 = .ok (.iload_n 3, 1) := dk_29 (dk_at dksL_law_7 14 rfl rfl)
theorem dL_law_231 : decode cL_law 231 = .ok (.iconst 1, 1) := dk_4 (dk_at dksL_law_7 15 rfl rfl)
theorem dL_law_232 : decode cL_law 232 = .ok (.iadd, 1) := dk_96 (dk_at dksL_law_7 16 rfl rfl)
theorem dL_law_233 : decode cL_law 233 = .ok (.iaload, 1) := dk_46 (dk_at dksL_law_7 17 rfl rfl)
theorem dL_law_234 : decode cL_law 234 = .ok (.aload_n 0, 1) := dk_42 (dk_at dksL_law_7 18 rfl rfl)
theorem dL_law_235 : decode cL_law 235 = .ok (.iload_n 3, 1) := dk_29 (dk_at dksL_law_7 19 rfl rfl)
theorem dL_law_236 : decode cL_law 236 = .ok (.iconst 2, 1) := dk_5 (dk_at dksL_law_7 20 rfl rfl)
theorem dL_law_237 : decode cL_law 237 = .ok (.iadd, 1) := dk_96 (dk_at dksL_law_7 21 rfl rfl)
theorem dL_law_238 : decode cL_law 238 = .ok (.iaload, 1) := dk_46 (dk_at dksL_law_7 22 rfl rfl)
theorem dL_law_239 : decode cL_law 239 = .ok (.invokevirtual 39, 3) := dk_182 0 39 (dk_at dksL_law_8 0 rfl rfl)
theorem dL_law_242 : decode cL_law 242 = .ok (.aload_n 2, 1) := dk_44 (dk_at dksL_law_8 3 rfl rfl)
theorem dL_law_243 : decode cL_law 243 = .ok (.aload_n 0, 1) := dk_42 (dk_at dksL_law_8 4 rfl rfl)
theorem dL_law_244 : decode cL_law 244 = .ok (.iload_n 3, 1) := dk_29 (dk_at dksL_law_8 5 rfl rfl)
theorem dL_law_245 : decode cL_law 245 = .ok (.iconst 1, 1) := dk_4 (dk_at dksL_law_8 6 rfl rfl)
theorem dL_law_246 : decode cL_law 246 = .ok (.iadd, 1) := dk_96 (dk_at dksL_law_8 7 rfl rfl)
theorem dL_law_247 : decode cL_law 247 = .ok (.iaload, 1) := dk_46 (dk_at dksL_law_8 8 rfl rfl)
theorem dL_law_248 : decode cL_law 248 = .ok (.aload_n 0, 1) := dk_42 (dk_at dksL_law_8 9 rfl rfl)
theorem dL_law_249 : decode cL_law 249 = .ok (.iload_n 3, 1) := dk_29 (dk_at dksL_law_8 10 rfl rfl)
theorem dL_law_250 : decode cL_law 250 = .ok (.iconst 2, 1) := dk_5 (dk_at dksL_law_8 11 rfl rfl)
theorem dL_law_251 : decode cL_law 251 = .ok (.iadd, 1) := dk_96 (dk_at dksL_law_8 12 rfl rfl)
theorem dL_law_252 : decode cL_law 252 = .ok (.iaload, 1) := dk_46 (dk_at dksL_law_8 13 rfl rfl)
theorem dL_law_253 : decode cL_law 253 = .ok (.invokevirtual 43, 3) := dk_182 0 43 (dk_at dksL_law_8 14 rfl rfl)
theorem dL_law_256 : decode cL_law 256 = .ok (.if_icmp .eq 288, 3) := dk_159 1 32 (dk_at dksL_law_8 17 rfl rfl)
theorem dL_law_259 : decode cL_law 259 = .ok (.iconst 0, 1) := dk_3 (dk_at dksL_law_8 20 rfl rfl)
theorem dL_law_260 : decode cL_law 260 = .ok (.ireturn, 1) := dk_172 (dk_at dksL_law_8 21 rfl rfl)
theorem dL_law_261 : decode cL_law 261 = .ok (.aload_n 1, 1) := dk_43 (dk_at dksL_law_8 22 rfl rfl)
theorem dL_law_262 : decode cL_law 262 = .ok (.aload_n 0, 1) := dk_42 (dk_at dksL_law_8 23 rfl rfl)
theorem dL_law_263 : decode cL_law 263 = .ok (.iload_n 3, 1) := dk_29 (dk_at dksL_law_9 0 rfl rfl)
theorem dL_law_264 : decode cL_law 264 = .ok (.iconst 1, 1) := dk_4 (dk_at dksL_law_9 1 rfl rfl)
theorem dL_law_265 : decode cL_law 265 = .ok (.iadd, 1) := dk_96 (dk_at dksL_law_9 2 rfl rfl)
theorem dL_law_266 : decode cL_law 266 = .ok (.iaload, 1) := dk_46 (dk_at dksL_law_9 3 rfl rfl)
theorem dL_law_267 : decode cL_law 267 = .ok (.aload_n 0, 1) := dk_42 (dk_at dksL_law_9 4 rfl rfl)
theorem dL_law_268 : decode cL_law 268 = .ok (.iload_n 3, 1) := dk_29 (dk_at dksL_law_9 5 rfl rfl)
theorem dL_law_269 : decode cL_law 269 = .ok (.iconst 2, 1) := dk_5 (dk_at dksL_law_9 6 rfl rfl)
theorem dL_law_270 : decode cL_law 270 = .ok (.iadd, 1) := dk_96 (dk_at dksL_law_9 7 rfl rfl)
theorem dL_law_271 : decode cL_law 271 = .ok (.iaload, 1) := dk_46 (dk_at dksL_law_9 8 rfl rfl)
theorem dL_law_272 : decode cL_law 272 = .ok (.invokevirtual 44, 3) := dk_182 0 44 (dk_at dksL_law_9 9 rfl rfl)
theorem dL_law_275 : decode cL_law 275 = .ok (.aload_n 2, 1) := dk_44 (dk_at dksL_law_9 12 rfl rfl)
theorem dL_law_276 : decode cL_law 276 = .ok (.aload_n 0, 1) := dk_42 (dk_at dksL_law_9 13 rfl rfl)
theorem dL_law_277 : decode cL_law 277 = .ok (.iload_n 3, 1) := dk_29 (dk_at dksL_law_9 14 rfl rfl)
theorem dL_law_278 : decode cL_law 278 = .ok (.iconst 1, 1) := dk_4 (dk_at dksL_law_9 15 rfl rfl)
theorem dL_law_279 : decode cL_law 279 = .ok (.iadd, 1) := dk_96 (dk_at dksL_law_9 16 rfl rfl)
theorem dL_law_280 : decode cL_law 280 = .ok (.iaload, 1) := dk_46 (dk_at dksL_law_9 17 rfl rfl)
theorem dL_law_281 : decode cL_law 281 = .ok (.aload_n 0, 1) := dk_42 (dk_at dksL_law_9 18 rfl rfl)
theorem dL_law_282 : decode cL_law 282 = .ok (.iload_n 3, 1) := dk_29 (dk_at dksL_law_9 19 rfl rfl)
theorem dL_law_283 : decode cL_law 283 = .ok (.iconst 2, 1) := dk_5 (dk_at dksL_law_9 20 rfl rfl)
theorem dL_law_284 : decode cL_law 284 = .ok (.iadd, 1) := dk_96 (dk_at dksL_law_9 21 rfl rfl)
theorem dL_law_285 : decode cL_law 285 = .ok (.iaload, 1) := dk_46 (dk_at dksL_law_9 22 rfl rfl)
theorem dL_law_286 : decode cL_law 286 = .ok (.invokevirtual 47, 3) := dk_182 0 47 (dk_at dksL_law_10 0 rfl rfl)
theorem dL_law_289 : decode cL_law 289 = .ok (.if_icmp .eq 255, 3) := dk_159 0 255 (dk_at dksL_law_10 3 rfl rfl)
theorem dL_law_292 : decode cL_law 292 = .ok (.iconst 0, 1) := dk_3 (dk_at dksL_law_10 6 rfl rfl)
theorem dL_law_293 : decode cL_law 293 = .ok (.ireturn, 1) := dk_172 (dk_at dksL_law_10 7 rfl rfl)
theorem dL_law_294 : decode cL_law 294 = .ok (.aload_n 1, 1) := dk_43 (dk_at dksL_law_10 8 rfl rfl)
theorem dL_law_295 : decode cL_law 295 = .ok (.aload_n 0, 1) := dk_42 (dk_at dksL_law_10 9 rfl rfl)
theorem dL_law_296 : decode cL_law 296 = .ok (.iload_n 3, 1) := dk_29 (dk_at dksL_law_10 10 rfl rfl)
theorem dL_law_297 : decode cL_law 297 = .ok (.iconst 1, 1) := dk_4 (dk_at dksL_law_10 11 rfl rfl)
theorem dL_law_298 : decode cL_law 298 = .ok (.iadd, 1) := dk_96 (dk_at dksL_law_10 12 rfl rfl)
theorem dL_law_299 : decode cL_law 299 = .ok (.iaload, 1) := dk_46 (dk_at dksL_law_10 13 rfl rfl)
theorem dL_law_300 : decode cL_law 300 = .ok (.aload_n 0, 1) := dk_42 (dk_at dksL_law_10 14 rfl rfl)
theorem dL_law_301 : decode cL_law 301 = .ok (.iload_n 3, 1) := dk_29 (dk_at dksL_law_10 15 rfl rfl)
theorem dL_law_302 : decode cL_law 302 = .ok (.iconst 2, 1) := dk_5 (dk_at dksL_law_10 16 rfl rfl)
theorem dL_law_303 : decode cL_law 303 = .ok (.iadd, 1) := dk_96 (dk_at dksL_law_10 17 rfl rfl)
theorem dL_law_304 : decode cL_law 304 = .ok (.iaload, 1) := dk_46 (dk_at dksL_law_10 18 rfl rfl)
theorem dL_law_305 : decode cL_law 305 = .ok (.invokevirtual 48, 3) := dk_182 0 48 (dk_at dksL_law_10 19 rfl rfl)
theorem dL_law_308 : decode cL_law 308 = .ok (.aload_n 2, 1) := dk_44 (dk_at dksL_law_10 22 rfl rfl)
theorem dL_law_309 : decode cL_law 309 = .ok (.aload_n 0, 1) := dk_42 (dk_at dksL_law_10 23 rfl rfl)
theorem dL_law_310 : decode cL_law 310 = .ok (.iload_n 3, 1) := dk_29 (dk_at dksL_law_11 0 rfl rfl)
theorem dL_law_311 : decode cL_law 311 = .ok (.iconst 1, 1) := dk_4 (dk_at dksL_law_11 1 rfl rfl)
theorem dL_law_312 : decode cL_law 312 = .ok (.iadd, 1) := dk_96 (dk_at dksL_law_11 2 rfl rfl)
theorem dL_law_313 : decode cL_law 313 = .ok (.iaload, 1) := dk_46 (dk_at dksL_law_11 3 rfl rfl)
theorem dL_law_314 : decode cL_law 314 = .ok (.aload_n 0, 1) := dk_42 (dk_at dksL_law_11 4 rfl rfl)
theorem dL_law_315 : decode cL_law 315 = .ok (.iload_n 3, 1) := dk_29 (dk_at dksL_law_11 5 rfl rfl)
theorem dL_law_316 : decode cL_law 316 = .ok (.iconst 2, 1) := dk_5 (dk_at dksL_law_11 6 rfl rfl)
theorem dL_law_317 : decode cL_law 317 = .ok (.iadd, 1) := dk_96 (dk_at dksL_law_11 7 rfl rfl)
theorem dL_law_318 : decode cL_law 318 = .ok (.iaload, 1) := dk_46 (dk_at dksL_law_11 8 rfl rfl)
theorem dL_law_319 : decode cL_law 319 = .ok (.invokevirtual 51, 3) := dk_182 0 51 (dk_at dksL_law_11 9 rfl rfl)
theorem dL_law_322 : decode cL_law 322 = .ok (.if_icmp .eq 222, 3) := dk_159 0 222 (dk_at dksL_law_11 12 rfl rfl)
theorem dL_law_325 : decode cL_law 325 = .ok (.iconst 0, 1) := dk_3 (dk_at dksL_law_11 15 rfl rfl)
theorem dL_law_326 : decode cL_law 326 = .ok (.ireturn, 1) := dk_172 (dk_at dksL_law_11 16 rfl rfl)
theorem dL_law_327 : decode cL_law 327 = .ok (.aload_n 1, 1) := dk_43 (dk_at dksL_law_11 17 rfl rfl)
theorem dL_law_328 : decode cL_law 328 = .ok (.aload_n 0, 1) := dk_42 (dk_at dksL_law_11 18 rfl rfl)
theorem dL_law_329 : decode cL_law 329 = .ok (.iload_n 3, 1) := dk_29 (dk_at dksL_law_11 19 rfl rfl)
theorem dL_law_330 : decode cL_law 330 = .ok (.iconst 1, 1) := dk_4 (dk_at dksL_law_11 20 rfl rfl)
theorem dL_law_331 : decode cL_law 331 = .ok (.iadd, 1) := dk_96 (dk_at dksL_law_11 21 rfl rfl)
theorem dL_law_332 : decode cL_law 332 = .ok (.iaload, 1) := dk_46 (dk_at dksL_law_11 22 rfl rfl)
theorem dL_law_333 : decode cL_law 333 = .ok (.aload_n 0, 1) := dk_42 (dk_at dksL_law_11 23 rfl rfl)
theorem dL_law_334 : decode cL_law 334 = .ok (.iload_n 3, 1) := dk_29 (dk_at dksL_law_12 0 rfl rfl)
theorem dL_law_335 : decode cL_law 335 = .ok (.iconst 2, 1) := dk_5 (dk_at dksL_law_12 1 rfl rfl)
theorem dL_law_336 : decode cL_law 336 = .ok (.iadd, 1) := dk_96 (dk_at dksL_law_12 2 rfl rfl)
theorem dL_law_337 : decode cL_law 337 = .ok (.iaload, 1) := dk_46 (dk_at dksL_law_12 3 rfl rfl)
theorem dL_law_338 : decode cL_law 338 = .ok (.invokevirtual 52, 3) := dk_182 0 52 (dk_at dksL_law_12 4 rfl rfl)
theorem dL_law_341 : decode cL_law 341 = .ok (.aload_n 2, 1) := dk_44 (dk_at dksL_law_12 7 rfl rfl)
theorem dL_law_342 : decode cL_law 342 = .ok (.aload_n 0, 1) := dk_42 (dk_at dksL_law_12 8 rfl rfl)
theorem dL_law_343 : decode cL_law 343 = .ok (.iload_n 3, 1) := dk_29 (dk_at dksL_law_12 9 rfl rfl)
theorem dL_law_344 : decode cL_law 344 = .ok (.iconst 1, 1) := dk_4 (dk_at dksL_law_12 10 rfl rfl)
theorem dL_law_345 : decode cL_law 345 = .ok (.iadd, 1) := dk_96 (dk_at dksL_law_12 11 rfl rfl)
theorem dL_law_346 : decode cL_law 346 = .ok (.iaload, 1) := dk_46 (dk_at dksL_law_12 12 rfl rfl)
theorem dL_law_347 : decode cL_law 347 = .ok (.aload_n 0, 1) := dk_42 (dk_at dksL_law_12 13 rfl rfl)
theorem dL_law_348 : decode cL_law 348 = .ok (.iload_n 3, 1) := dk_29 (dk_at dksL_law_12 14 rfl rfl)
theorem dL_law_349 : decode cL_law 349 = .ok (.iconst 2, 1) := dk_5 (dk_at dksL_law_12 15 rfl rfl)
theorem dL_law_350 : decode cL_law 350 = .ok (.iadd, 1) := dk_96 (dk_at dksL_law_12 16 rfl rfl)
theorem dL_law_351 : decode cL_law 351 = .ok (.iaload, 1) := dk_46 (dk_at dksL_law_12 17 rfl rfl)
theorem dL_law_352 : decode cL_law 352 = .ok (.invokevirtual 55, 3) := dk_182 0 55 (dk_at dksL_law_12 18 rfl rfl)
theorem dL_law_355 : decode cL_law 355 = .ok (.if_icmp .eq 189, 3) := dk_159 0 189 (dk_at dksL_law_12 21 rfl rfl)
theorem dL_law_358 : decode cL_law 358 = .ok (.iconst 0, 1) := dk_3 (dk_at dksL_law_13 0 rfl rfl)
theorem dL_law_359 : decode cL_law 359 = .ok (.ireturn, 1) := dk_172 (dk_at dksL_law_13 1 rfl rfl)
theorem dL_law_360 : decode cL_law 360 = .ok (.aload_n 1, 1) := dk_43 (dk_at dksL_law_13 2 rfl rfl)
theorem dL_law_361 : decode cL_law 361 = .ok (.invokevirtual 56, 3) := dk_182 0 56 (dk_at dksL_law_13 3 rfl rfl)
theorem dL_law_364 : decode cL_law 364 = .ok (.aload_n 2, 1) := dk_44 (dk_at dksL_law_13 6 rfl rfl)
theorem dL_law_365 : decode cL_law 365 = .ok (.invokevirtual 59, 3) := dk_182 0 59 (dk_at dksL_law_13 7 rfl rfl)
theorem dL_law_368 : decode cL_law 368 = .ok (.if_icmp .eq 176, 3) := dk_159 0 176 (dk_at dksL_law_13 10 rfl rfl)
theorem dL_law_371 : decode cL_law 371 = .ok (.iconst 0, 1) := dk_3 (dk_at dksL_law_13 13 rfl rfl)
theorem dL_law_372 : decode cL_law 372 = .ok (.ireturn, 1) := dk_172 (dk_at dksL_law_13 14 rfl rfl)
theorem dL_law_373 : decode cL_law 373 = .ok (.aload_n 1, 1) := dk_43 (dk_at dksL_law_13 15 rfl rfl)
theorem dL_law_374 : decode cL_law 374 = .ok (.aload_n 0, 1) := dk_42 (dk_at dksL_law_13 16 rfl rfl)
theorem dL_law_375 : decode cL_law 375 = .ok (.iload_n 3, 1) := dk_29 (dk_at dksL_law_13 17 rfl rfl)
theorem dL_law_376 : decode cL_law 376 = .ok (.iconst 1, 1) := dk_4 (dk_at dksL_law_13 18 rfl rfl)
theorem dL_law_377 : decode cL_law 377 = .ok (.iadd, 1) := dk_96 (dk_at dksL_law_13 19 rfl rfl)
theorem dL_law_378 : decode cL_law 378 = .ok (.iaload, 1) := dk_46 (dk_at dksL_law_13 20 rfl rfl)
theorem dL_law_379 : decode cL_law 379 = .ok (.invokevirtual 60, 3) := dk_182 0 60 (dk_at dksL_law_13 21 rfl rfl)
theorem dL_law_382 : decode cL_law 382 = .ok (.aload_n 2, 1) := dk_44 (dk_at dksL_law_14 0 rfl rfl)
theorem dL_law_383 : decode cL_law 383 = .ok (.aload_n 0, 1) := dk_42 (dk_at dksL_law_14 1 rfl rfl)
theorem dL_law_384 : decode cL_law 384 = .ok (.iload_n 3, 1) := dk_29 (dk_at dksL_law_14 2 rfl rfl)
theorem dL_law_385 : decode cL_law 385 = .ok (.iconst 1, 1) := dk_4 (dk_at dksL_law_14 3 rfl rfl)
theorem dL_law_386 : decode cL_law 386 = .ok (.iadd, 1) := dk_96 (dk_at dksL_law_14 4 rfl rfl)
theorem dL_law_387 : decode cL_law 387 = .ok (.iaload, 1) := dk_46 (dk_at dksL_law_14 5 rfl rfl)
theorem dL_law_388 : decode cL_law 388 = .ok (.invokevirtual 63, 3) := dk_182 0 63 (dk_at dksL_law_14 6 rfl rfl)
theorem dL_law_391 : decode cL_law 391 = .ok (.if_icmp .eq 153, 3) := dk_159 0 153 (dk_at dksL_law_14 9 rfl rfl)
theorem dL_law_394 : decode cL_law 394 = .ok (.iconst 0, 1) := dk_3 (dk_at dksL_law_14 12 rfl rfl)
theorem dL_law_395 : decode cL_law 395 = .ok (.ireturn, 1) := dk_172 (dk_at dksL_law_14 13 rfl rfl)
theorem dL_law_396 : decode cL_law 396 = .ok (.aload_n 1, 1) := dk_43 (dk_at dksL_law_14 14 rfl rfl)
theorem dL_law_397 : decode cL_law 397 = .ok (.aload_n 0, 1) := dk_42 (dk_at dksL_law_14 15 rfl rfl)
theorem dL_law_398 : decode cL_law 398 = .ok (.iload_n 3, 1) := dk_29 (dk_at dksL_law_14 16 rfl rfl)
theorem dL_law_399 : decode cL_law 399 = .ok (.iconst 1, 1) := dk_4 (dk_at dksL_law_14 17 rfl rfl)
theorem dL_law_400 : decode cL_law 400 = .ok (.iadd, 1) := dk_96 (dk_at dksL_law_14 18 rfl rfl)
theorem dL_law_401 : decode cL_law 401 = .ok (.iaload, 1) := dk_46 (dk_at dksL_law_14 19 rfl rfl)
theorem dL_law_402 : decode cL_law 402 = .ok (.aload_n 0, 1) := dk_42 (dk_at dksL_law_14 20 rfl rfl)
theorem dL_law_403 : decode cL_law 403 = .ok (.iload_n 3, 1) := dk_29 (dk_at dksL_law_14 21 rfl rfl)
theorem dL_law_404 : decode cL_law 404 = .ok (.iconst 2, 1) := dk_5 (dk_at dksL_law_14 22 rfl rfl)
theorem dL_law_405 : decode cL_law 405 = .ok (.iadd, 1) := dk_96 (dk_at dksL_law_14 23 rfl rfl)
theorem dL_law_406 : decode cL_law 406 = .ok (.iaload, 1) := dk_46 (dk_at dksL_law_15 0 rfl rfl)
theorem dL_law_407 : decode cL_law 407 = .ok (.aload_n 0, 1) := dk_42 (dk_at dksL_law_15 1 rfl rfl)
theorem dL_law_408 : decode cL_law 408 = .ok (.iload_n 3, 1) := dk_29 (dk_at dksL_law_15 2 rfl rfl)
theorem dL_law_409 : decode cL_law 409 = .ok (.iconst 3, 1) := dk_6 (dk_at dksL_law_15 3 rfl rfl)
theorem dL_law_410 : decode cL_law 410 = .ok (.iadd, 1) := dk_96 (dk_at dksL_law_15 4 rfl rfl)
theorem dL_law_411 : decode cL_law 411 = .ok (.iaload, 1) := dk_46 (dk_at dksL_law_15 5 rfl rfl)
theorem dL_law_412 : decode cL_law 412 = .ok (.invokevirtual 64, 3) := dk_182 0 64 (dk_at dksL_law_15 6 rfl rfl)
theorem dL_law_415 : decode cL_law 415 = .ok (.aload_n 2, 1) := dk_44 (dk_at dksL_law_15 9 rfl rfl)
theorem dL_law_416 : decode cL_law 416 = .ok (.aload_n 0, 1) := dk_42 (dk_at dksL_law_15 10 rfl rfl)
theorem dL_law_417 : decode cL_law 417 = .ok (.iload_n 3, 1) := dk_29 (dk_at dksL_law_15 11 rfl rfl)
theorem dL_law_418 : decode cL_law 418 = .ok (.iconst 1, 1) := dk_4 (dk_at dksL_law_15 12 rfl rfl)
theorem dL_law_419 : decode cL_law 419 = .ok (.iadd, 1) := dk_96 (dk_at dksL_law_15 13 rfl rfl)
theorem dL_law_420 : decode cL_law 420 = .ok (.iaload, 1) := dk_46 (dk_at dksL_law_15 14 rfl rfl)
theorem dL_law_421 : decode cL_law 421 = .ok (.aload_n 0, 1) := dk_42 (dk_at dksL_law_15 15 rfl rfl)
theorem dL_law_422 : decode cL_law 422 = .ok (.iload_n 3, 1) := dk_29 (dk_at dksL_law_15 16 rfl rfl)
theorem dL_law_423 : decode cL_law 423 = .ok (.iconst 2, 1) := dk_5 (dk_at dksL_law_15 17 rfl rfl)
theorem dL_law_424 : decode cL_law 424 = .ok (.iadd, 1) := dk_96 (dk_at dksL_law_15 18 rfl rfl)
theorem dL_law_425 : decode cL_law 425 = .ok (.iaload, 1) := dk_46 (dk_at dksL_law_15 19 rfl rfl)
theorem dL_law_426 : decode cL_law 426 = .ok (.aload_n 0, 1) := dk_42 (dk_at dksL_law_15 20 rfl rfl)
theorem dL_law_427 : decode cL_law 427 = .ok (.iload_n 3, 1) := dk_29 (dk_at dksL_law_15 21 rfl rfl)
theorem dL_law_428 : decode cL_law 428 = .ok (.iconst 3, 1) := dk_6 (dk_at dksL_law_15 22 rfl rfl)
theorem dL_law_429 : decode cL_law 429 = .ok (.iadd, 1) := dk_96 (dk_at dksL_law_15 23 rfl rfl)
theorem dL_law_430 : decode cL_law 430 = .ok (.iaload, 1) := dk_46 (dk_at dksL_law_16 0 rfl rfl)
theorem dL_law_431 : decode cL_law 431 = .ok (.invokevirtual 68, 3) := dk_182 0 68 (dk_at dksL_law_16 1 rfl rfl)
theorem dL_law_434 : decode cL_law 434 = .ok (.if_icmp .eq 110, 3) := dk_159 0 110 (dk_at dksL_law_16 4 rfl rfl)
theorem dL_law_437 : decode cL_law 437 = .ok (.iconst 0, 1) := dk_3 (dk_at dksL_law_16 7 rfl rfl)
theorem dL_law_438 : decode cL_law 438 = .ok (.ireturn, 1) := dk_172 (dk_at dksL_law_16 8 rfl rfl)
theorem dL_law_439 : decode cL_law 439 = .ok (.aload_n 1, 1) := dk_43 (dk_at dksL_law_16 9 rfl rfl)
theorem dL_law_440 : decode cL_law 440 = .ok (.invokevirtual 69, 3) := dk_182 0 69 (dk_at dksL_law_16 10 rfl rfl)
theorem dL_law_443 : decode cL_law 443 = .ok (.aload_n 2, 1) := dk_44 (dk_at dksL_law_16 13 rfl rfl)
theorem dL_law_444 : decode cL_law 444 = .ok (.invokevirtual 72, 3) := dk_182 0 72 (dk_at dksL_law_16 14 rfl rfl)
theorem dL_law_447 : decode cL_law 447 = .ok (.if_icmp .eq 97, 3) := dk_159 0 97 (dk_at dksL_law_16 17 rfl rfl)
theorem dL_law_450 : decode cL_law 450 = .ok (.iconst 0, 1) := dk_3 (dk_at dksL_law_16 20 rfl rfl)
theorem dL_law_451 : decode cL_law 451 = .ok (.ireturn, 1) := dk_172 (dk_at dksL_law_16 21 rfl rfl)
theorem dL_law_452 : decode cL_law 452 = .ok (.aload_n 1, 1) := dk_43 (dk_at dksL_law_16 22 rfl rfl)
theorem dL_law_453 : decode cL_law 453 = .ok (.aload_n 0, 1) := dk_42 (dk_at dksL_law_16 23 rfl rfl)
theorem dL_law_454 : decode cL_law 454 = .ok (.iload_n 3, 1) := dk_29 (dk_at dksL_law_17 0 rfl rfl)
theorem dL_law_455 : decode cL_law 455 = .ok (.iconst 1, 1) := dk_4 (dk_at dksL_law_17 1 rfl rfl)
theorem dL_law_456 : decode cL_law 456 = .ok (.iadd, 1) := dk_96 (dk_at dksL_law_17 2 rfl rfl)
theorem dL_law_457 : decode cL_law 457 = .ok (.iaload, 1) := dk_46 (dk_at dksL_law_17 3 rfl rfl)
theorem dL_law_458 : decode cL_law 458 = .ok (.invokevirtual 73, 3) := dk_182 0 73 (dk_at dksL_law_17 4 rfl rfl)
theorem dL_law_461 : decode cL_law 461 = .ok (.aload_n 2, 1) := dk_44 (dk_at dksL_law_17 7 rfl rfl)
theorem dL_law_462 : decode cL_law 462 = .ok (.aload_n 0, 1) := dk_42 (dk_at dksL_law_17 8 rfl rfl)
theorem dL_law_463 : decode cL_law 463 = .ok (.iload_n 3, 1) := dk_29 (dk_at dksL_law_17 9 rfl rfl)
theorem dL_law_464 : decode cL_law 464 = .ok (.iconst 1, 1) := dk_4 (dk_at dksL_law_17 10 rfl rfl)
theorem dL_law_465 : decode cL_law 465 = .ok (.iadd, 1) := dk_96 (dk_at dksL_law_17 11 rfl rfl)
theorem dL_law_466 : decode cL_law 466 = .ok (.iaload, 1) := dk_46 (dk_at dksL_law_17 12 rfl rfl)
theorem dL_law_467 : decode cL_law 467 = .ok (.invokevirtual 76, 3) := dk_182 0 76 (dk_at dksL_law_17 13 rfl rfl)
theorem dL_law_470 : decode cL_law 470 = .ok (.if_icmp .eq 74, 3) := dk_159 0 74 (dk_at dksL_law_17 16 rfl rfl)
theorem dL_law_473 : decode cL_law 473 = .ok (.iconst 0, 1) := dk_3 (dk_at dksL_law_17 19 rfl rfl)
theorem dL_law_474 : decode cL_law 474 = .ok (.ireturn, 1) := dk_172 (dk_at dksL_law_17 20 rfl rfl)
theorem dL_law_475 : decode cL_law 475 = .ok (.aload_n 1, 1) := dk_43 (dk_at dksL_law_17 21 rfl rfl)
theorem dL_law_476 : decode cL_law 476 = .ok (.aload_n 0, 1) := dk_42 (dk_at dksL_law_17 22 rfl rfl)
theorem dL_law_477 : decode cL_law 477 = .ok (.iload_n 3, 1) := dk_29 (dk_at dksL_law_17 23 rfl rfl)
theorem dL_law_478 : decode cL_law 478 = .ok (.iconst 1, 1) := dk_4 (dk_at dksL_law_18 0 rfl rfl)
theorem dL_law_479 : decode cL_law 479 = .ok (.iadd, 1) := dk_96 (dk_at dksL_law_18 1 rfl rfl)
theorem dL_law_480 : decode cL_law 480 = .ok (.iaload, 1) := dk_46 (dk_at dksL_law_18 2 rfl rfl)
theorem dL_law_481 : decode cL_law 481 = .ok (.invokevirtual 77, 3) := dk_182 0 77 (dk_at dksL_law_18 3 rfl rfl)
theorem dL_law_484 : decode cL_law 484 = .ok (.aload_n 2, 1) := dk_44 (dk_at dksL_law_18 6 rfl rfl)
theorem dL_law_485 : decode cL_law 485 = .ok (.aload_n 0, 1) := dk_42 (dk_at dksL_law_18 7 rfl rfl)
theorem dL_law_486 : decode cL_law 486 = .ok (.iload_n 3, 1) := dk_29 (dk_at dksL_law_18 8 rfl rfl)
theorem dL_law_487 : decode cL_law 487 = .ok (.iconst 1, 1) := dk_4 (dk_at dksL_law_18 9 rfl rfl)
theorem dL_law_488 : decode cL_law 488 = .ok (.iadd, 1) := dk_96 (dk_at dksL_law_18 10 rfl rfl)
theorem dL_law_489 : decode cL_law 489 = .ok (.iaload, 1) := dk_46 (dk_at dksL_law_18 11 rfl rfl)
theorem dL_law_490 : decode cL_law 490 = .ok (.invokevirtual 80, 3) := dk_182 0 80 (dk_at dksL_law_18 12 rfl rfl)
theorem dL_law_493 : decode cL_law 493 = .ok (.if_icmp .eq 51, 3) := dk_159 0 51 (dk_at dksL_law_18 15 rfl rfl)
theorem dL_law_496 : decode cL_law 496 = .ok (.iconst 0, 1) := dk_3 (dk_at dksL_law_18 18 rfl rfl)
theorem dL_law_497 : decode cL_law 497 = .ok (.ireturn, 1) := dk_172 (dk_at dksL_law_18 19 rfl rfl)
theorem dL_law_498 : decode cL_law 498 = .ok (.aload_n 1, 1) := dk_43 (dk_at dksL_law_18 20 rfl rfl)
theorem dL_law_499 : decode cL_law 499 = .ok (.aload_n 0, 1) := dk_42 (dk_at dksL_law_18 21 rfl rfl)
theorem dL_law_500 : decode cL_law 500 = .ok (.iload_n 3, 1) := dk_29 (dk_at dksL_law_18 22 rfl rfl)
theorem dL_law_501 : decode cL_law 501 = .ok (.iconst 1, 1) := dk_4 (dk_at dksL_law_18 23 rfl rfl)
theorem dL_law_502 : decode cL_law 502 = .ok (.iadd, 1) := dk_96 (dk_at dksL_law_19 0 rfl rfl)
theorem dL_law_503 : decode cL_law 503 = .ok (.iaload, 1) := dk_46 (dk_at dksL_law_19 1 rfl rfl)
theorem dL_law_504 : decode cL_law 504 = .ok (.invokevirtual 81, 3) := dk_182 0 81 (dk_at dksL_law_19 2 rfl rfl)
theorem dL_law_507 : decode cL_law 507 = .ok (.aload_n 2, 1) := dk_44 (dk_at dksL_law_19 5 rfl rfl)
theorem dL_law_508 : decode cL_law 508 = .ok (.aload_n 0, 1) := dk_42 (dk_at dksL_law_19 6 rfl rfl)
theorem dL_law_509 : decode cL_law 509 = .ok (.iload_n 3, 1) := dk_29 (dk_at dksL_law_19 7 rfl rfl)
theorem dL_law_510 : decode cL_law 510 = .ok (.iconst 1, 1) := dk_4 (dk_at dksL_law_19 8 rfl rfl)
theorem dL_law_511 : decode cL_law 511 = .ok (.iadd, 1) := dk_96 (dk_at dksL_law_19 9 rfl rfl)
theorem dL_law_512 : decode cL_law 512 = .ok (.iaload, 1) := dk_46 (dk_at dksL_law_19 10 rfl rfl)
theorem dL_law_513 : decode cL_law 513 = .ok (.invokevirtual 84, 3) := dk_182 0 84 (dk_at dksL_law_19 11 rfl rfl)
theorem dL_law_516 : decode cL_law 516 = .ok (.if_icmp .eq 28, 3) := dk_159 0 28 (dk_at dksL_law_19 14 rfl rfl)
theorem dL_law_519 : decode cL_law 519 = .ok (.iconst 0, 1) := dk_3 (dk_at dksL_law_19 17 rfl rfl)
theorem dL_law_520 : decode cL_law 520 = .ok (.ireturn, 1) := dk_172 (dk_at dksL_law_19 18 rfl rfl)
theorem dL_law_521 : decode cL_law 521 = .ok (.aload_n 1, 1) := dk_43 (dk_at dksL_law_19 19 rfl rfl)
theorem dL_law_522 : decode cL_law 522 = .ok (.aload_n 0, 1) := dk_42 (dk_at dksL_law_19 20 rfl rfl)
theorem dL_law_523 : decode cL_law 523 = .ok (.iload_n 3, 1) := dk_29 (dk_at dksL_law_19 21 rfl rfl)
theorem dL_law_524 : decode cL_law 524 = .ok (.iconst 1, 1) := dk_4 (dk_at dksL_law_19 22 rfl rfl)
theorem dL_law_525 : decode cL_law 525 = .ok (.iadd, 1) := dk_96 (dk_at dksL_law_19 23 rfl rfl)
theorem dL_law_526 : decode cL_law 526 = .ok (.iaload, 1) := dk_46 (dk_at dksL_law_20 0 rfl rfl)
theorem dL_law_527 : decode cL_law 527 = .ok (.invokevirtual 85, 3) := dk_182 0 85 (dk_at dksL_law_20 1 rfl rfl)
theorem dL_law_530 : decode cL_law 530 = .ok (.aload_n 2, 1) := dk_44 (dk_at dksL_law_20 4 rfl rfl)
theorem dL_law_531 : decode cL_law 531 = .ok (.aload_n 0, 1) := dk_42 (dk_at dksL_law_20 5 rfl rfl)
theorem dL_law_532 : decode cL_law 532 = .ok (.iload_n 3, 1) := dk_29 (dk_at dksL_law_20 6 rfl rfl)
theorem dL_law_533 : decode cL_law 533 = .ok (.iconst 1, 1) := dk_4 (dk_at dksL_law_20 7 rfl rfl)
theorem dL_law_534 : decode cL_law 534 = .ok (.iadd, 1) := dk_96 (dk_at dksL_law_20 8 rfl rfl)
theorem dL_law_535 : decode cL_law 535 = .ok (.iaload, 1) := dk_46 (dk_at dksL_law_20 9 rfl rfl)
theorem dL_law_536 : decode cL_law 536 = .ok (.invokevirtual 88, 3) := dk_182 0 88 (dk_at dksL_law_20 10 rfl rfl)
theorem dL_law_539 : decode cL_law 539 = .ok (.if_icmp .eq 5, 3) := dk_159 0 5 (dk_at dksL_law_20 13 rfl rfl)
theorem dL_law_542 : decode cL_law 542 = .ok (.iconst 0, 1) := dk_3 (dk_at dksL_law_20 16 rfl rfl)
theorem dL_law_543 : decode cL_law 543 = .ok (.ireturn, 1) := dk_172 (dk_at dksL_law_20 17 rfl rfl)
theorem dL_law_544 : decode cL_law 544 = .ok (.iinc 3 4, 3) := dk_132 3 4 (dk_at dksL_law_20 18 rfl rfl)
theorem dL_law_547 : decode cL_law 547 = .ok (.goto (-529), 3) := dk_167 253 239 (dk_at dksL_law_20 21 rfl rfl)
theorem dL_law_550 : decode cL_law 550 = .ok (.iconst 1, 1) := dk_4 (dk_at dksL_law_21 0 rfl rfl)
theorem dL_law_551 : decode cL_law 551 = .ok (.ireturn, 1) := dk_172 (dk_at dksL_law_21 1 rfl rfl)
/-! ScopeTasks$Reader -/
set_option maxRecDepth 100000
def RX4 : String := "ScopeTasks$Reader"
def TX4 : u_T := fun k => match k with
  | 0 => ("ScopeTasks$Reader", "at", "I", false)
  | 1 => ("ScopeTasks$Reader", "from", "I", false)
  | 2 => ("ScopeTasks$Reader", "sort", "I", false)
  | 3 => ("ScopeTasks$Reader", "value", "I", false)
  | 4 => ("ScopeTasks$Reader", "items", "I", false)
  | _ => ("ScopeTasks$Reader", "this$0", "LScopeTasks;", true)
def tyX4 : Nat → FieldType := fun k => match k with
  | 0 => .int
  | 1 => .int
  | 2 => .int
  | 3 => .int
  | 4 => .int
  | _ => .object "ScopeTasks"
abbrev wsX40 : List Cond := u_ws RX4 TX4 6
theorem nmX4 : ∀ a, a < 6 → ∀ b, b < 6 → a ≠ b → (TX4 a).2.1 ≠ (TX4 b).2.1 := by decide +kernel
theorem tyX4_ok : ∀ k, k < 6 → parseFieldDescriptor (TX4 k).2.2.1 = some (tyX4 k) := by decide +kernel
abbrev cX4_init : ByteArray := prog_2_method_1_code
def yX4_init : MethodName := ⟨RX4, "<init>", "(LScopeTasks;)V"⟩
def dkwX4_init_0 : List UInt8 := [42, 43, 181, 0, 3, 42, 183, 0, 9, 177]
abbrev dktX4_init_0 : List UInt8 := dkwX4_init_0 ++ []
theorem dksX4_init_0 : cX4_init.data.toList.drop 0 = dktX4_init_0 := by decide +kernel
theorem dX4_init_0 : decode cX4_init 0 = .ok (.aload_n 0, 1) := dk_42 (dk_at dksX4_init_0 0 rfl rfl)
theorem dX4_init_1 : decode cX4_init 1 = .ok (.aload_n 1, 1) := dk_43 (dk_at dksX4_init_0 1 rfl rfl)
theorem dX4_init_2 : decode cX4_init 2 = .ok (.putfield 3, 3) := dk_181 0 3 (dk_at dksX4_init_0 2 rfl rfl)
theorem dX4_init_5 : decode cX4_init 5 = .ok (.aload_n 0, 1) := dk_42 (dk_at dksX4_init_0 5 rfl rfl)
theorem dX4_init_6 : decode cX4_init 6 = .ok (.invokespecial 9, 3) := dk_183 0 9 (dk_at dksX4_init_0 6 rfl rfl)
theorem dX4_init_9 : decode cX4_init 9 = .ok (.return_, 1) := dk_177 (dk_at dksX4_init_0 9 rfl rfl)
abbrev cX4_read : ByteArray := prog_2_method_10_code
def yX4_read : MethodName := ⟨RX4, "read", "()V"⟩
def dkwX4_read_3 : List UInt8 := [167, 255, 198, 177]
abbrev dktX4_read_3 : List UInt8 := dkwX4_read_3 ++ []
def dkwX4_read_2 : List UInt8 := [16, 12, 160, 0, 7, 4, 167, 0, 4, 3, 182, 0, 65, 87, 42, 89, 180, 0, 123, 4, 96, 181, 0, 123]
abbrev dktX4_read_2 : List UInt8 := dkwX4_read_2 ++ dktX4_read_3
def dkwX4_read_1 : List UInt8 := [180, 0, 36, 60, 42, 42, 27, 182, 0, 129, 182, 0, 65, 87, 42, 27, 182, 0, 132, 42, 42, 180, 0, 36]
abbrev dktX4_read_1 : List UInt8 := dkwX4_read_1 ++ dktX4_read_2
def dkwX4_read_0 : List UInt8 := [42, 180, 0, 3, 180, 0, 69, 182, 0, 126, 42, 182, 0, 62, 42, 180, 0, 36, 16, 13, 159, 0, 55, 42]
abbrev dktX4_read_0 : List UInt8 := dkwX4_read_0 ++ dktX4_read_1
theorem dksX4_read_0 : cX4_read.data.toList.drop 0 = dktX4_read_0 := by decide +kernel
theorem dksX4_read_1 : cX4_read.data.toList.drop 24 = dktX4_read_1 := dk_seg dksX4_read_0 24 rfl rfl
theorem dksX4_read_2 : cX4_read.data.toList.drop 48 = dktX4_read_2 := dk_seg dksX4_read_1 24 rfl rfl
theorem dksX4_read_3 : cX4_read.data.toList.drop 72 = dktX4_read_3 := dk_seg dksX4_read_2 24 rfl rfl
theorem dX4_read_0 : decode cX4_read 0 = .ok (.aload_n 0, 1) := dk_42 (dk_at dksX4_read_0 0 rfl rfl)
theorem dX4_read_1 : decode cX4_read 1 = .ok (.getfield 3, 3) := dk_180 0 3 (dk_at dksX4_read_0 1 rfl rfl)
theorem dX4_read_4 : decode cX4_read 4 = .ok (.getfield 69, 3) := dk_180 0 69 (dk_at dksX4_read_0 4 rfl rfl)
theorem dX4_read_7 : decode cX4_read 7 = .ok (.invokevirtual 126, 3) := dk_182 0 126 (dk_at dksX4_read_0 7 rfl rfl)
theorem dX4_read_10 : decode cX4_read 10 = .ok (.aload_n 0, 1) := dk_42 (dk_at dksX4_read_0 10 rfl rfl)
theorem dX4_read_11 : decode cX4_read 11 = .ok (.invokevirtual 62, 3) := dk_182 0 62 (dk_at dksX4_read_0 11 rfl rfl)
theorem dX4_read_14 : decode cX4_read 14 = .ok (.aload_n 0, 1) := dk_42 (dk_at dksX4_read_0 14 rfl rfl)
theorem dX4_read_15 : decode cX4_read 15 = .ok (.getfield 36, 3) := dk_180 0 36 (dk_at dksX4_read_0 15 rfl rfl)
theorem dX4_read_18 : decode cX4_read 18 = .ok (.bipush 13, 2) := dk_16 13 (dk_at dksX4_read_0 18 rfl rfl)
theorem dX4_read_20 : decode cX4_read 20 = .ok (.if_icmp .eq 55, 3) := dk_159 0 55 (dk_at dksX4_read_0 20 rfl rfl)
theorem dX4_read_23 : decode cX4_read 23 = .ok (.aload_n 0, 1) := dk_42 (dk_at dksX4_read_0 23 rfl rfl)
theorem dX4_read_24 : decode cX4_read 24 = .ok (.getfield 36, 3) := dk_180 0 36 (dk_at dksX4_read_1 0 rfl rfl)
theorem dX4_read_27 : decode cX4_read 27 = .ok (.istore_n 1, 1) := dk_60 (dk_at dksX4_read_1 3 rfl rfl)
theorem dX4_read_28 : decode cX4_read 28 = .ok (.aload_n 0, 1) := dk_42 (dk_at dksX4_read_1 4 rfl rfl)
theorem dX4_read_29 : decode cX4_read 29 = .ok (.aload_n 0, 1) := dk_42 (dk_at dksX4_read_1 5 rfl rfl)
theorem dX4_read_30 : decode cX4_read 30 = .ok (.iload_n 1, 1) := dk_27 (dk_at dksX4_read_1 6 rfl rfl)
theorem dX4_read_31 : decode cX4_read 31 = .ok (.invokevirtual 129, 3) := dk_182 0 129 (dk_at dksX4_read_1 7 rfl rfl)
theorem dX4_read_34 : decode cX4_read 34 = .ok (.invokevirtual 65, 3) := dk_182 0 65 (dk_at dksX4_read_1 10 rfl rfl)
theorem dX4_read_37 : decode cX4_read 37 = .ok (.pop, 1) := dk_87 (dk_at dksX4_read_1 13 rfl rfl)
theorem dX4_read_38 : decode cX4_read 38 = .ok (.aload_n 0, 1) := dk_42 (dk_at dksX4_read_1 14 rfl rfl)
theorem dX4_read_39 : decode cX4_read 39 = .ok (.iload_n 1, 1) := dk_27 (dk_at dksX4_read_1 15 rfl rfl)
theorem dX4_read_40 : decode cX4_read 40 = .ok (.invokevirtual 132, 3) := dk_182 0 132 (dk_at dksX4_read_1 16 rfl rfl)
theorem dX4_read_43 : decode cX4_read 43 = .ok (.aload_n 0, 1) := dk_42 (dk_at dksX4_read_1 19 rfl rfl)
theorem dX4_read_44 : decode cX4_read 44 = .ok (.aload_n 0, 1) := dk_42 (dk_at dksX4_read_1 20 rfl rfl)
theorem dX4_read_45 : decode cX4_read 45 = .ok (.getfield 36, 3) := dk_180 0 36 (dk_at dksX4_read_1 21 rfl rfl)
theorem dX4_read_48 : decode cX4_read 48 = .ok (.bipush 12, 2) := dk_16 12 (dk_at dksX4_read_2 0 rfl rfl)
theorem dX4_read_50 : decode cX4_read 50 = .ok (.if_icmp .ne 7, 3) := dk_160 0 7 (dk_at dksX4_read_2 2 rfl rfl)
theorem dX4_read_53 : decode cX4_read 53 = .ok (.iconst 1, 1) := dk_4 (dk_at dksX4_read_2 5 rfl rfl)
theorem dX4_read_54 : decode cX4_read 54 = .ok (.goto 4, 3) := dk_167 0 4 (dk_at dksX4_read_2 6 rfl rfl)
theorem dX4_read_57 : decode cX4_read 57 = .ok (.iconst 0, 1) := dk_3 (dk_at dksX4_read_2 9 rfl rfl)
theorem dX4_read_58 : decode cX4_read 58 = .ok (.invokevirtual 65, 3) := dk_182 0 65 (dk_at dksX4_read_2 10 rfl rfl)
theorem dX4_read_61 : decode cX4_read 61 = .ok (.pop, 1) := dk_87 (dk_at dksX4_read_2 13 rfl rfl)
theorem dX4_read_62 : decode cX4_read 62 = .ok (.aload_n 0, 1) := dk_42 (dk_at dksX4_read_2 14 rfl rfl)
theorem dX4_read_63 : decode cX4_read 63 = .ok (.dup, 1) := dk_89 (dk_at dksX4_read_2 15 rfl rfl)
theorem dX4_read_64 : decode cX4_read 64 = .ok (.getfield 123, 3) := dk_180 0 123 (dk_at dksX4_read_2 16 rfl rfl)
theorem dX4_read_67 : decode cX4_read 67 = .ok (.iconst 1, 1) := dk_4 (dk_at dksX4_read_2 19 rfl rfl)
theorem dX4_read_68 : decode cX4_read 68 = .ok (.iadd, 1) := dk_96 (dk_at dksX4_read_2 20 rfl rfl)
theorem dX4_read_69 : decode cX4_read 69 = .ok (.putfield 123, 3) := dk_181 0 123 (dk_at dksX4_read_2 21 rfl rfl)
theorem dX4_read_72 : decode cX4_read 72 = .ok (.goto (-58), 3) := dk_167 255 198 (dk_at dksX4_read_3 0 rfl rfl)
theorem dX4_read_75 : decode cX4_read 75 = .ok (.return_, 1) := dk_177 (dk_at dksX4_read_3 3 rfl rfl)
abbrev cX4_step : ByteArray := prog_2_method_3_code
def yX4_step : MethodName := ⟨RX4, "step", "()V"⟩
def dkwX4_step_8 : List UInt8 := [155, 0, 7, 28, 167, 0, 5, 16, 14, 181, 0, 36, 177]
abbrev dktX4_step_8 : List UInt8 := dkwX4_step_8 ++ []
def dkwX4_step_7 : List UInt8 := [181, 0, 15, 18, 49, 27, 182, 0, 51, 61, 42, 27, 16, 59, 160, 0, 8, 16, 12, 167, 0, 13, 28]
abbrev dktX4_step_7 : List UInt8 := dkwX4_step_7 ++ dktX4_step_8
def dkwX4_step_6 : List UInt8 := [164, 0, 8, 16, 14, 167, 0, 5, 16, 11, 181, 0, 36, 167, 0, 45, 42, 89, 180, 0, 15, 4, 96]
abbrev dktX4_step_6 : List UInt8 := dkwX4_step_6 ++ dktX4_step_7
def dkwX4_step_5 : List UInt8 := [180, 0, 33, 16, 99, 163, 0, 22, 27, 16, 48, 160, 0, 21, 42, 180, 0, 15, 42, 180, 0, 30, 100, 4]
abbrev dktX4_step_5 : List UInt8 := dkwX4_step_5 ++ dktX4_step_6
def dkwX4_step_4 : List UInt8 := [16, 48, 100, 184, 0, 43, 181, 0, 33, 42, 89, 180, 0, 15, 4, 96, 181, 0, 15, 167, 255, 208, 42, 42]
abbrev dktX4_step_4 : List UInt8 := dkwX4_step_4 ++ dktX4_step_5
def dkwX4_step_3 : List UInt8 := [16, 57, 184, 0, 39, 153, 0, 40, 42, 16, 100, 16, 10, 42, 180, 0, 33, 104, 42, 182, 0, 26, 96]
abbrev dktX4_step_3 : List UInt8 := dkwX4_step_3 ++ dktX4_step_4
def dkwX4_step_2 : List UInt8 := [181, 0, 36, 167, 0, 149, 27, 16, 48, 16, 57, 184, 0, 39, 153, 0, 96, 42, 182, 0, 26, 16, 48]
abbrev dktX4_step_2 : List UInt8 := dkwX4_step_2 ++ dktX4_step_3
def dkwX4_step_1 : List UInt8 := [180, 0, 15, 181, 0, 30, 42, 3, 181, 0, 33, 42, 182, 0, 26, 60, 27, 156, 0, 12, 42, 16, 13]
abbrev dktX4_step_1 : List UInt8 := dkwX4_step_1 ++ dktX4_step_2
def dkwX4_step_0 : List UInt8 := [42, 182, 0, 26, 16, 32, 160, 0, 16, 42, 89, 180, 0, 15, 4, 96, 181, 0, 15, 167, 255, 237, 42, 42]
abbrev dktX4_step_0 : List UInt8 := dkwX4_step_0 ++ dktX4_step_1
theorem dksX4_step_0 : cX4_step.data.toList.drop 0 = dktX4_step_0 := by decide +kernel
theorem dksX4_step_1 : cX4_step.data.toList.drop 24 = dktX4_step_1 := dk_seg dksX4_step_0 24 rfl rfl
theorem dksX4_step_2 : cX4_step.data.toList.drop 47 = dktX4_step_2 := dk_seg dksX4_step_1 23 rfl rfl
theorem dksX4_step_3 : cX4_step.data.toList.drop 70 = dktX4_step_3 := dk_seg dksX4_step_2 23 rfl rfl
theorem dksX4_step_4 : cX4_step.data.toList.drop 93 = dktX4_step_4 := dk_seg dksX4_step_3 23 rfl rfl
theorem dksX4_step_5 : cX4_step.data.toList.drop 117 = dktX4_step_5 := dk_seg dksX4_step_4 24 rfl rfl
theorem dksX4_step_6 : cX4_step.data.toList.drop 141 = dktX4_step_6 := dk_seg dksX4_step_5 24 rfl rfl
theorem dksX4_step_7 : cX4_step.data.toList.drop 164 = dktX4_step_7 := dk_seg dksX4_step_6 23 rfl rfl
theorem dksX4_step_8 : cX4_step.data.toList.drop 187 = dktX4_step_8 := dk_seg dksX4_step_7 23 rfl rfl
theorem dX4_step_0 : decode cX4_step 0 = .ok (.aload_n 0, 1) := dk_42 (dk_at dksX4_step_0 0 rfl rfl)
theorem dX4_step_1 : decode cX4_step 1 = .ok (.invokevirtual 26, 3) := dk_182 0 26 (dk_at dksX4_step_0 1 rfl rfl)
theorem dX4_step_4 : decode cX4_step 4 = .ok (.bipush 32, 2) := dk_16 32 (dk_at dksX4_step_0 4 rfl rfl)
theorem dX4_step_6 : decode cX4_step 6 = .ok (.if_icmp .ne 16, 3) := dk_160 0 16 (dk_at dksX4_step_0 6 rfl rfl)
theorem dX4_step_9 : decode cX4_step 9 = .ok (.aload_n 0, 1) := dk_42 (dk_at dksX4_step_0 9 rfl rfl)
theorem dX4_step_10 : decode cX4_step 10 = .ok (.dup, 1) := dk_89 (dk_at dksX4_step_0 10 rfl rfl)
theorem dX4_step_11 : decode cX4_step 11 = .ok (.getfield 15, 3) := dk_180 0 15 (dk_at dksX4_step_0 11 rfl rfl)
theorem dX4_step_14 : decode cX4_step 14 = .ok (.iconst 1, 1) := dk_4 (dk_at dksX4_step_0 14 rfl rfl)
theorem dX4_step_15 : decode cX4_step 15 = .ok (.iadd, 1) := dk_96 (dk_at dksX4_step_0 15 rfl rfl)
theorem dX4_step_16 : decode cX4_step 16 = .ok (.putfield 15, 3) := dk_181 0 15 (dk_at dksX4_step_0 16 rfl rfl)
theorem dX4_step_19 : decode cX4_step 19 = .ok (.goto (-19), 3) := dk_167 255 237 (dk_at dksX4_step_0 19 rfl rfl)
theorem dX4_step_22 : decode cX4_step 22 = .ok (.aload_n 0, 1) := dk_42 (dk_at dksX4_step_0 22 rfl rfl)
theorem dX4_step_23 : decode cX4_step 23 = .ok (.aload_n 0, 1) := dk_42 (dk_at dksX4_step_0 23 rfl rfl)
theorem dX4_step_24 : decode cX4_step 24 = .ok (.getfield 15, 3) := dk_180 0 15 (dk_at dksX4_step_1 0 rfl rfl)
theorem dX4_step_27 : decode cX4_step 27 = .ok (.putfield 30, 3) := dk_181 0 30 (dk_at dksX4_step_1 3 rfl rfl)
theorem dX4_step_30 : decode cX4_step 30 = .ok (.aload_n 0, 1) := dk_42 (dk_at dksX4_step_1 6 rfl rfl)
theorem dX4_step_31 : decode cX4_step 31 = .ok (.iconst 0, 1) := dk_3 (dk_at dksX4_step_1 7 rfl rfl)
theorem dX4_step_32 : decode cX4_step 32 = .ok (.putfield 33, 3) := dk_181 0 33 (dk_at dksX4_step_1 8 rfl rfl)
theorem dX4_step_35 : decode cX4_step 35 = .ok (.aload_n 0, 1) := dk_42 (dk_at dksX4_step_1 11 rfl rfl)
theorem dX4_step_36 : decode cX4_step 36 = .ok (.invokevirtual 26, 3) := dk_182 0 26 (dk_at dksX4_step_1 12 rfl rfl)
theorem dX4_step_39 : decode cX4_step 39 = .ok (.istore_n 1, 1) := dk_60 (dk_at dksX4_step_1 15 rfl rfl)
theorem dX4_step_40 : decode cX4_step 40 = .ok (.iload_n 1, 1) := dk_27 (dk_at dksX4_step_1 16 rfl rfl)
theorem dX4_step_41 : decode cX4_step 41 = .ok (.ifCond .ge 12, 3) := dk_156 0 12 (dk_at dksX4_step_1 17 rfl rfl)
theorem dX4_step_44 : decode cX4_step 44 = .ok (.aload_n 0, 1) := dk_42 (dk_at dksX4_step_1 20 rfl rfl)
theorem dX4_step_45 : decode cX4_step 45 = .ok (.bipush 13, 2) := dk_16 13 (dk_at dksX4_step_1 21 rfl rfl)
theorem dX4_step_47 : decode cX4_step 47 = .ok (.putfield 36, 3) := dk_181 0 36 (dk_at dksX4_step_2 0 rfl rfl)
theorem dX4_step_50 : decode cX4_step 50 = .ok (.goto 149, 3) := dk_167 0 149 (dk_at dksX4_step_2 3 rfl rfl)
theorem dX4_step_53 : decode cX4_step 53 = .ok (.iload_n 1, 1) := dk_27 (dk_at dksX4_step_2 6 rfl rfl)
theorem dX4_step_54 : decode cX4_step 54 = .ok (.bipush 48, 2) := dk_16 48 (dk_at dksX4_step_2 7 rfl rfl)
theorem dX4_step_56 : decode cX4_step 56 = .ok (.bipush 57, 2) := dk_16 57 (dk_at dksX4_step_2 9 rfl rfl)
theorem dX4_step_58 : decode cX4_step 58 = .ok (.invokestatic 39, 3) := dk_184 0 39 (dk_at dksX4_step_2 11 rfl rfl)
theorem dX4_step_61 : decode cX4_step 61 = .ok (.ifCond .eq 96, 3) := dk_153 0 96 (dk_at dksX4_step_2 14 rfl rfl)
theorem dX4_step_64 : decode cX4_step 64 = .ok (.aload_n 0, 1) := dk_42 (dk_at dksX4_step_2 17 rfl rfl)
theorem dX4_step_65 : decode cX4_step 65 = .ok (.invokevirtual 26, 3) := dk_182 0 26 (dk_at dksX4_step_2 18 rfl rfl)
theorem dX4_step_68 : decode cX4_step 68 = .ok (.bipush 48, 2) := dk_16 48 (dk_at dksX4_step_2 21 rfl rfl)
theorem dX4_step_70 : decode cX4_step 70 = .ok (.bipush 57, 2) := dk_16 57 (dk_at dksX4_step_3 0 rfl rfl)
theorem dX4_step_72 : decode cX4_step 72 = .ok (.invokestatic 39, 3) := dk_184 0 39 (dk_at dksX4_step_3 2 rfl rfl)
theorem dX4_step_75 : decode cX4_step 75 = .ok (.ifCond .eq 40, 3) := dk_153 0 40 (dk_at dksX4_step_3 5 rfl rfl)
theorem dX4_step_78 : decode cX4_step 78 = .ok (.aload_n 0, 1) := dk_42 (dk_at dksX4_step_3 8 rfl rfl)
theorem dX4_step_79 : decode cX4_step 79 = .ok (.bipush 100, 2) := dk_16 100 (dk_at dksX4_step_3 9 rfl rfl)
theorem dX4_step_81 : decode cX4_step 81 = .ok (.bipush 10, 2) := dk_16 10 (dk_at dksX4_step_3 11 rfl rfl)
theorem dX4_step_83 : decode cX4_step 83 = .ok (.aload_n 0, 1) := dk_42 (dk_at dksX4_step_3 13 rfl rfl)
theorem dX4_step_84 : decode cX4_step 84 = .ok (.getfield 33, 3) := dk_180 0 33 (dk_at dksX4_step_3 14 rfl rfl)
theorem dX4_step_87 : decode cX4_step 87 = .ok (.imul, 1) := dk_104 (dk_at dksX4_step_3 17 rfl rfl)
theorem dX4_step_88 : decode cX4_step 88 = .ok (.aload_n 0, 1) := dk_42 (dk_at dksX4_step_3 18 rfl rfl)
theorem dX4_step_89 : decode cX4_step 89 = .ok (.invokevirtual 26, 3) := dk_182 0 26 (dk_at dksX4_step_3 19 rfl rfl)
theorem dX4_step_92 : decode cX4_step 92 = .ok (.iadd, 1) := dk_96 (dk_at dksX4_step_3 22 rfl rfl)
theorem dX4_step_93 : decode cX4_step 93 = .ok (.bipush 48, 2) := dk_16 48 (dk_at dksX4_step_4 0 rfl rfl)
theorem dX4_step_95 : decode cX4_step 95 = .ok (.isub, 1) := dk_100 (dk_at dksX4_step_4 2 rfl rfl)
theorem dX4_step_96 : decode cX4_step 96 = .ok (.invokestatic 43, 3) := dk_184 0 43 (dk_at dksX4_step_4 3 rfl rfl)
theorem dX4_step_99 : decode cX4_step 99 = .ok (.putfield 33, 3) := dk_181 0 33 (dk_at dksX4_step_4 6 rfl rfl)
theorem dX4_step_102 : decode cX4_step 102 = .ok (.aload_n 0, 1) := dk_42 (dk_at dksX4_step_4 9 rfl rfl)
theorem dX4_step_103 : decode cX4_step 103 = .ok (.dup, 1) := dk_89 (dk_at dksX4_step_4 10 rfl rfl)
theorem dX4_step_104 : decode cX4_step 104 = .ok (.getfield 15, 3) := dk_180 0 15 (dk_at dksX4_step_4 11 rfl rfl)
theorem dX4_step_107 : decode cX4_step 107 = .ok (.iconst 1, 1) := dk_4 (dk_at dksX4_step_4 14 rfl rfl)
theorem dX4_step_108 : decode cX4_step 108 = .ok (.iadd, 1) := dk_96 (dk_at dksX4_step_4 15 rfl rfl)
theorem dX4_step_109 : decode cX4_step 109 = .ok (.putfield 15, 3) := dk_181 0 15 (dk_at dksX4_step_4 16 rfl rfl)
theorem dX4_step_112 : decode cX4_step 112 = .ok (.goto (-48), 3) := dk_167 255 208 (dk_at dksX4_step_4 19 rfl rfl)
theorem dX4_step_115 : decode cX4_step 115 = .ok (.aload_n 0, 1) := dk_42 (dk_at dksX4_step_4 22 rfl rfl)
theorem dX4_step_116 : decode cX4_step 116 = .ok (.aload_n 0, 1) := dk_42 (dk_at dksX4_step_4 23 rfl rfl)
theorem dX4_step_117 : decode cX4_step 117 = .ok (.getfield 33, 3) := dk_180 0 33 (dk_at dksX4_step_5 0 rfl rfl)
theorem dX4_step_120 : decode cX4_step 120 = .ok (.bipush 99, 2) := dk_16 99 (dk_at dksX4_step_5 3 rfl rfl)
theorem dX4_step_122 : decode cX4_step 122 = .ok (.if_icmp .gt 22, 3) := dk_163 0 22 (dk_at dksX4_step_5 5 rfl rfl)
theorem dX4_step_125 : decode cX4_step 125 = .ok (.iload_n 1, 1) := dk_27 (dk_at dksX4_step_5 8 rfl rfl)
theorem dX4_step_126 : decode cX4_step 126 = .ok (.bipush 48, 2) := dk_16 48 (dk_at dksX4_step_5 9 rfl rfl)
theorem dX4_step_128 : decode cX4_step 128 = .ok (.if_icmp .ne 21, 3) := dk_160 0 21 (dk_at dksX4_step_5 11 rfl rfl)
theorem dX4_step_131 : decode cX4_step 131 = .ok (.aload_n 0, 1) := dk_42 (dk_at dksX4_step_5 14 rfl rfl)
theorem dX4_step_132 : decode cX4_step 132 = .ok (.getfield 15, 3) := dk_180 0 15 (dk_at dksX4_step_5 15 rfl rfl)
theorem dX4_step_135 : decode cX4_step 135 = .ok (.aload_n 0, 1) := dk_42 (dk_at dksX4_step_5 18 rfl rfl)
theorem dX4_step_136 : decode cX4_step 136 = .ok (.getfield 30, 3) := dk_180 0 30 (dk_at dksX4_step_5 19 rfl rfl)
theorem dX4_step_139 : decode cX4_step 139 = .ok (.isub, 1) := dk_100 (dk_at dksX4_step_5 22 rfl rfl)
theorem dX4_step_140 : decode cX4_step 140 = .ok (.iconst 1, 1) := dk_4 (dk_at dksX4_step_5 23 rfl rfl)
theorem dX4_step_141 : decode cX4_step 141 = .ok (.if_icmp .le 8, 3) := dk_164 0 8 (dk_at dksX4_step_6 0 rfl rfl)
theorem dX4_step_144 : decode cX4_step 144 = .ok (.bipush 14, 2) := dk_16 14 (dk_at dksX4_step_6 3 rfl rfl)
theorem dX4_step_146 : decode cX4_step 146 = .ok (.goto 5, 3) := dk_167 0 5 (dk_at dksX4_step_6 5 rfl rfl)
theorem dX4_step_149 : decode cX4_step 149 = .ok (.bipush 11, 2) := dk_16 11 (dk_at dksX4_step_6 8 rfl rfl)
theorem dX4_step_151 : decode cX4_step 151 = .ok (.putfield 36, 3) := dk_181 0 36 (dk_at dksX4_step_6 10 rfl rfl)
theorem dX4_step_154 : decode cX4_step 154 = .ok (.goto 45, 3) := dk_167 0 45 (dk_at dksX4_step_6 13 rfl rfl)
theorem dX4_step_157 : decode cX4_step 157 = .ok (.aload_n 0, 1) := dk_42 (dk_at dksX4_step_6 16 rfl rfl)
theorem dX4_step_158 : decode cX4_step 158 = .ok (.dup, 1) := dk_89 (dk_at dksX4_step_6 17 rfl rfl)
theorem dX4_step_159 : decode cX4_step 159 = .ok (.getfield 15, 3) := dk_180 0 15 (dk_at dksX4_step_6 18 rfl rfl)
theorem dX4_step_162 : decode cX4_step 162 = .ok (.iconst 1, 1) := dk_4 (dk_at dksX4_step_6 21 rfl rfl)
theorem dX4_step_163 : decode cX4_step 163 = .ok (.iadd, 1) := dk_96 (dk_at dksX4_step_6 22 rfl rfl)
theorem dX4_step_164 : decode cX4_step 164 = .ok (.putfield 15, 3) := dk_181 0 15 (dk_at dksX4_step_7 0 rfl rfl)
theorem dX4_step_167 : decode cX4_step 167 = .ok (.ldc 49, 2) := dk_18 49 (dk_at dksX4_step_7 3 rfl rfl)
theorem dX4_step_169 : decode cX4_step 169 = .ok (.iload_n 1, 1) := dk_27 (dk_at dksX4_step_7 5 rfl rfl)
theorem dX4_step_170 : decode cX4_step 170 = .ok (.invokevirtual 51, 3) := dk_182 0 51 (dk_at dksX4_step_7 6 rfl rfl)
theorem dX4_step_173 : decode cX4_step 173 = .ok (.istore_n 2, 1) := dk_61 (dk_at dksX4_step_7 9 rfl rfl)
theorem dX4_step_174 : decode cX4_step 174 = .ok (.aload_n 0, 1) := dk_42 (dk_at dksX4_step_7 10 rfl rfl)
theorem dX4_step_175 : decode cX4_step 175 = .ok (.iload_n 1, 1) := dk_27 (dk_at dksX4_step_7 11 rfl rfl)
theorem dX4_step_176 : decode cX4_step 176 = .ok (.bipush 59, 2) := dk_16 59 (dk_at dksX4_step_7 12 rfl rfl)
theorem dX4_step_178 : decode cX4_step 178 = .ok (.if_icmp .ne 8, 3) := dk_160 0 8 (dk_at dksX4_step_7 14 rfl rfl)
theorem dX4_step_181 : decode cX4_step 181 = .ok (.bipush 12, 2) := dk_16 12 (dk_at dksX4_step_7 17 rfl rfl)
theorem dX4_step_183 : decode cX4_step 183 = .ok (.goto 13, 3) := dk_167 0 13 (dk_at dksX4_step_7 19 rfl rfl)
theorem dX4_step_186 : decode cX4_step 186 = .ok (.iload_n 2, 1) := dk_28 (dk_at dksX4_step_7 22 rfl rfl)
theorem dX4_step_187 : decode cX4_step 187 = .ok (.ifCond .lt 7, 3) := dk_155 0 7 (dk_at dksX4_step_8 0 rfl rfl)
theorem dX4_step_190 : decode cX4_step 190 = .ok (.iload_n 2, 1) := dk_28 (dk_at dksX4_step_8 3 rfl rfl)
theorem dX4_step_191 : decode cX4_step 191 = .ok (.goto 5, 3) := dk_167 0 5 (dk_at dksX4_step_8 4 rfl rfl)
theorem dX4_step_194 : decode cX4_step 194 = .ok (.bipush 14, 2) := dk_16 14 (dk_at dksX4_step_8 7 rfl rfl)
theorem dX4_step_196 : decode cX4_step 196 = .ok (.putfield 36, 3) := dk_181 0 36 (dk_at dksX4_step_8 9 rfl rfl)
theorem dX4_step_199 : decode cX4_step 199 = .ok (.return_, 1) := dk_177 (dk_at dksX4_step_8 12 rfl rfl)
abbrev cX4_here : ByteArray := prog_2_method_2_code
def yX4_here : MethodName := ⟨RX4, "here", "()I"⟩
def dkwX4_here_1 : List UInt8 := [180, 0, 15, 51, 17, 0, 255, 126, 167, 0, 4, 2, 172]
abbrev dktX4_here_1 : List UInt8 := dkwX4_here_1 ++ []
def dkwX4_here_0 : List UInt8 := [42, 180, 0, 15, 42, 180, 0, 3, 180, 0, 19, 162, 0, 22, 42, 180, 0, 3, 180, 0, 22, 42]
abbrev dktX4_here_0 : List UInt8 := dkwX4_here_0 ++ dktX4_here_1
theorem dksX4_here_0 : cX4_here.data.toList.drop 0 = dktX4_here_0 := by decide +kernel
theorem dksX4_here_1 : cX4_here.data.toList.drop 22 = dktX4_here_1 := dk_seg dksX4_here_0 22 rfl rfl
theorem dX4_here_0 : decode cX4_here 0 = .ok (.aload_n 0, 1) := dk_42 (dk_at dksX4_here_0 0 rfl rfl)
theorem dX4_here_1 : decode cX4_here 1 = .ok (.getfield 15, 3) := dk_180 0 15 (dk_at dksX4_here_0 1 rfl rfl)
theorem dX4_here_4 : decode cX4_here 4 = .ok (.aload_n 0, 1) := dk_42 (dk_at dksX4_here_0 4 rfl rfl)
theorem dX4_here_5 : decode cX4_here 5 = .ok (.getfield 3, 3) := dk_180 0 3 (dk_at dksX4_here_0 5 rfl rfl)
theorem dX4_here_8 : decode cX4_here 8 = .ok (.getfield 19, 3) := dk_180 0 19 (dk_at dksX4_here_0 8 rfl rfl)
theorem dX4_here_11 : decode cX4_here 11 = .ok (.if_icmp .ge 22, 3) := dk_162 0 22 (dk_at dksX4_here_0 11 rfl rfl)
theorem dX4_here_14 : decode cX4_here 14 = .ok (.aload_n 0, 1) := dk_42 (dk_at dksX4_here_0 14 rfl rfl)
theorem dX4_here_15 : decode cX4_here 15 = .ok (.getfield 3, 3) := dk_180 0 3 (dk_at dksX4_here_0 15 rfl rfl)
theorem dX4_here_18 : decode cX4_here 18 = .ok (.getfield 22, 3) := dk_180 0 22 (dk_at dksX4_here_0 18 rfl rfl)
theorem dX4_here_21 : decode cX4_here 21 = .ok (.aload_n 0, 1) := dk_42 (dk_at dksX4_here_0 21 rfl rfl)
theorem dX4_here_22 : decode cX4_here 22 = .ok (.getfield 15, 3) := dk_180 0 15 (dk_at dksX4_here_1 0 rfl rfl)
theorem dX4_here_25 : decode cX4_here 25 = .ok (.baload, 1) := dk_51 (dk_at dksX4_here_1 3 rfl rfl)
theorem dX4_here_26 : decode cX4_here 26 = .ok (.sipush 255, 3) := dk_17 0 255 (dk_at dksX4_here_1 4 rfl rfl)
theorem dX4_here_29 : decode cX4_here 29 = .ok (.iand, 1) := dk_126 (dk_at dksX4_here_1 7 rfl rfl)
theorem dX4_here_30 : decode cX4_here 30 = .ok (.goto 4, 3) := dk_167 0 4 (dk_at dksX4_here_1 8 rfl rfl)
theorem dX4_here_33 : decode cX4_here 33 = .ok (.iconst (-1), 1) := dk_2 (dk_at dksX4_here_1 11 rfl rfl)
theorem dX4_here_34 : decode cX4_here 34 = .ok (.ireturn, 1) := dk_172 (dk_at dksX4_here_1 12 rfl rfl)
abbrev cX4_may : ByteArray := prog_2_method_9_code
def yX4_may : MethodName := ⟨RX4, "may", "(I)Z"⟩
def dkwX4_may_2 : List UInt8 := [27, 16, 7, 16, 10, 184, 0, 39, 153, 0, 7, 4, 167, 0, 4, 3, 172]
abbrev dktX4_may_2 : List UInt8 := dkwX4_may_2 ++ []
def dkwX4_may_1 : List UInt8 := [158, 0, 39, 27, 16, 6, 160, 0, 18, 42, 180, 0, 3, 180, 0, 69, 180, 0, 73, 16, 8, 161, 0, 14]
abbrev dktX4_may_1 : List UInt8 := dkwX4_may_1 ++ dktX4_may_2
def dkwX4_may_0 : List UInt8 := [27, 8, 160, 0, 16, 42, 180, 0, 123, 154, 0, 7, 4, 167, 0, 4, 3, 172, 42, 180, 0, 123]
abbrev dktX4_may_0 : List UInt8 := dkwX4_may_0 ++ dktX4_may_1
theorem dksX4_may_0 : cX4_may.data.toList.drop 0 = dktX4_may_0 := by decide +kernel
theorem dksX4_may_1 : cX4_may.data.toList.drop 22 = dktX4_may_1 := dk_seg dksX4_may_0 22 rfl rfl
theorem dksX4_may_2 : cX4_may.data.toList.drop 46 = dktX4_may_2 := dk_seg dksX4_may_1 24 rfl rfl
theorem dX4_may_0 : decode cX4_may 0 = .ok (.iload_n 1, 1) := dk_27 (dk_at dksX4_may_0 0 rfl rfl)
theorem dX4_may_1 : decode cX4_may 1 = .ok (.iconst 5, 1) := dk_8 (dk_at dksX4_may_0 1 rfl rfl)
theorem dX4_may_2 : decode cX4_may 2 = .ok (.if_icmp .ne 16, 3) := dk_160 0 16 (dk_at dksX4_may_0 2 rfl rfl)
theorem dX4_may_5 : decode cX4_may 5 = .ok (.aload_n 0, 1) := dk_42 (dk_at dksX4_may_0 5 rfl rfl)
theorem dX4_may_6 : decode cX4_may 6 = .ok (.getfield 123, 3) := dk_180 0 123 (dk_at dksX4_may_0 6 rfl rfl)
theorem dX4_may_9 : decode cX4_may 9 = .ok (.ifCond .ne 7, 3) := dk_154 0 7 (dk_at dksX4_may_0 9 rfl rfl)
theorem dX4_may_12 : decode cX4_may 12 = .ok (.iconst 1, 1) := dk_4 (dk_at dksX4_may_0 12 rfl rfl)
theorem dX4_may_13 : decode cX4_may 13 = .ok (.goto 4, 3) := dk_167 0 4 (dk_at dksX4_may_0 13 rfl rfl)
theorem dX4_may_16 : decode cX4_may 16 = .ok (.iconst 0, 1) := dk_3 (dk_at dksX4_may_0 16 rfl rfl)
theorem dX4_may_17 : decode cX4_may 17 = .ok (.ireturn, 1) := dk_172 (dk_at dksX4_may_0 17 rfl rfl)
theorem dX4_may_18 : decode cX4_may 18 = .ok (.aload_n 0, 1) := dk_42 (dk_at dksX4_may_0 18 rfl rfl)
theorem dX4_may_19 : decode cX4_may 19 = .ok (.getfield 123, 3) := dk_180 0 123 (dk_at dksX4_may_0 19 rfl rfl)
theorem dX4_may_22 : decode cX4_may 22 = .ok (.ifCond .le 39, 3) := dk_158 0 39 (dk_at dksX4_may_1 0 rfl rfl)
theorem dX4_may_25 : decode cX4_may 25 = .ok (.iload_n 1, 1) := dk_27 (dk_at dksX4_may_1 3 rfl rfl)
theorem dX4_may_26 : decode cX4_may 26 = .ok (.bipush 6, 2) := dk_16 6 (dk_at dksX4_may_1 4 rfl rfl)
theorem dX4_may_28 : decode cX4_may 28 = .ok (.if_icmp .ne 18, 3) := dk_160 0 18 (dk_at dksX4_may_1 6 rfl rfl)
theorem dX4_may_31 : decode cX4_may 31 = .ok (.aload_n 0, 1) := dk_42 (dk_at dksX4_may_1 9 rfl rfl)
theorem dX4_may_32 : decode cX4_may 32 = .ok (.getfield 3, 3) := dk_180 0 3 (dk_at dksX4_may_1 10 rfl rfl)
theorem dX4_may_35 : decode cX4_may 35 = .ok (.getfield 69, 3) := dk_180 0 69 (dk_at dksX4_may_1 13 rfl rfl)
theorem dX4_may_38 : decode cX4_may 38 = .ok (.getfield 73, 3) := dk_180 0 73 (dk_at dksX4_may_1 16 rfl rfl)
theorem dX4_may_41 : decode cX4_may 41 = .ok (.bipush 8, 2) := dk_16 8 (dk_at dksX4_may_1 19 rfl rfl)
theorem dX4_may_43 : decode cX4_may 43 = .ok (.if_icmp .lt 14, 3) := dk_161 0 14 (dk_at dksX4_may_1 21 rfl rfl)
theorem dX4_may_46 : decode cX4_may 46 = .ok (.iload_n 1, 1) := dk_27 (dk_at dksX4_may_2 0 rfl rfl)
theorem dX4_may_47 : decode cX4_may 47 = .ok (.bipush 7, 2) := dk_16 7 (dk_at dksX4_may_2 1 rfl rfl)
theorem dX4_may_49 : decode cX4_may 49 = .ok (.bipush 10, 2) := dk_16 10 (dk_at dksX4_may_2 3 rfl rfl)
theorem dX4_may_51 : decode cX4_may 51 = .ok (.invokestatic 39, 3) := dk_184 0 39 (dk_at dksX4_may_2 5 rfl rfl)
theorem dX4_may_54 : decode cX4_may 54 = .ok (.ifCond .eq 7, 3) := dk_153 0 7 (dk_at dksX4_may_2 8 rfl rfl)
theorem dX4_may_57 : decode cX4_may 57 = .ok (.iconst 1, 1) := dk_4 (dk_at dksX4_may_2 11 rfl rfl)
theorem dX4_may_58 : decode cX4_may 58 = .ok (.goto 4, 3) := dk_167 0 4 (dk_at dksX4_may_2 12 rfl rfl)
theorem dX4_may_61 : decode cX4_may 61 = .ok (.iconst 0, 1) := dk_3 (dk_at dksX4_may_2 15 rfl rfl)
theorem dX4_may_62 : decode cX4_may 62 = .ok (.ireturn, 1) := dk_172 (dk_at dksX4_may_2 16 rfl rfl)
abbrev cX4_due : ByteArray := prog_2_method_4_code
def yX4_due : MethodName := ⟨RX4, "due", "(Z)I"⟩
def dkwX4_due_1 : List UInt8 := [182, 0, 62, 28, 172]
abbrev dktX4_due_1 : List UInt8 := dkwX4_due_1 ++ []
def dkwX4_due_0 : List UInt8 := [27, 154, 0, 15, 187, 0, 57, 89, 42, 180, 0, 30, 183, 0, 59, 191, 42, 180, 0, 33, 61, 42]
abbrev dktX4_due_0 : List UInt8 := dkwX4_due_0 ++ dktX4_due_1
theorem dksX4_due_0 : cX4_due.data.toList.drop 0 = dktX4_due_0 := by decide +kernel
theorem dksX4_due_1 : cX4_due.data.toList.drop 22 = dktX4_due_1 := dk_seg dksX4_due_0 22 rfl rfl
theorem dX4_due_0 : decode cX4_due 0 = .ok (.iload_n 1, 1) := dk_27 (dk_at dksX4_due_0 0 rfl rfl)
theorem dX4_due_1 : decode cX4_due 1 = .ok (.ifCond .ne 15, 3) := dk_154 0 15 (dk_at dksX4_due_0 1 rfl rfl)
theorem dX4_due_4 : decode cX4_due 4 = .ok (.new 57, 3) := dk_187 0 57 (dk_at dksX4_due_0 4 rfl rfl)
theorem dX4_due_7 : decode cX4_due 7 = .ok (.dup, 1) := dk_89 (dk_at dksX4_due_0 7 rfl rfl)
theorem dX4_due_8 : decode cX4_due 8 = .ok (.aload_n 0, 1) := dk_42 (dk_at dksX4_due_0 8 rfl rfl)
theorem dX4_due_9 : decode cX4_due 9 = .ok (.getfield 30, 3) := dk_180 0 30 (dk_at dksX4_due_0 9 rfl rfl)
theorem dX4_due_12 : decode cX4_due 12 = .ok (.invokespecial 59, 3) := dk_183 0 59 (dk_at dksX4_due_0 12 rfl rfl)
theorem dX4_due_15 : decode cX4_due 15 = .ok (.athrow, 1) := dk_191 (dk_at dksX4_due_0 15 rfl rfl)
theorem dX4_due_16 : decode cX4_due 16 = .ok (.aload_n 0, 1) := dk_42 (dk_at dksX4_due_0 16 rfl rfl)
theorem dX4_due_17 : decode cX4_due 17 = .ok (.getfield 33, 3) := dk_180 0 33 (dk_at dksX4_due_0 17 rfl rfl)
theorem dX4_due_20 : decode cX4_due 20 = .ok (.istore_n 2, 1) := dk_61 (dk_at dksX4_due_0 20 rfl rfl)
theorem dX4_due_21 : decode cX4_due 21 = .ok (.aload_n 0, 1) := dk_42 (dk_at dksX4_due_0 21 rfl rfl)
theorem dX4_due_22 : decode cX4_due 22 = .ok (.invokevirtual 62, 3) := dk_182 0 62 (dk_at dksX4_due_1 0 rfl rfl)
theorem dX4_due_25 : decode cX4_due 25 = .ok (.iload_n 2, 1) := dk_28 (dk_at dksX4_due_1 3 rfl rfl)
theorem dX4_due_26 : decode cX4_due 26 = .ok (.ireturn, 1) := dk_172 (dk_at dksX4_due_1 4 rfl rfl)
abbrev cX4_item : ByteArray := prog_2_method_8_code
def yX4_item : MethodName := ⟨RX4, "item", "(I)V"⟩
def dkwX4_item_9 : List UInt8 := [180, 0, 69, 180, 0, 110, 28, 182, 0, 120, 177]
abbrev dktX4_item_9 : List UInt8 := dkwX4_item_9 ++ []
def dkwX4_item_8 : List UInt8 := [180, 0, 33, 182, 0, 114, 154, 0, 7, 4, 167, 0, 4, 3, 182, 0, 65, 61, 42, 180, 0, 3]
abbrev dktX4_item_8 : List UInt8 := dkwX4_item_8 ++ dktX4_item_9
def dkwX4_item_7 : List UInt8 := [180, 0, 3, 180, 0, 69, 180, 0, 73, 162, 0, 27, 42, 180, 0, 3, 180, 0, 69, 180, 0, 110, 42]
abbrev dktX4_item_7 : List UInt8 := dkwX4_item_7 ++ dktX4_item_8
def dkwX4_item_6 : List UInt8 := [182, 0, 92, 79, 167, 0, 73, 42, 42, 180, 0, 36, 16, 11, 160, 0, 44, 42, 180, 0, 33, 42]
abbrev dktX4_item_6 : List UInt8 := dkwX4_item_6 ++ dktX4_item_7
def dkwX4_item_5 : List UInt8 := [167, 0, 99, 42, 182, 0, 98, 61, 42, 180, 0, 3, 180, 0, 69, 180, 0, 107, 28, 42, 3, 8]
abbrev dktX4_item_5 : List UInt8 := dkwX4_item_5 ++ dktX4_item_6
def dkwX4_item_4 : List UInt8 := [182, 0, 98, 61, 42, 180, 0, 3, 180, 0, 69, 180, 0, 104, 28, 42, 3, 16, 6, 182, 0, 92, 79]
abbrev dktX4_item_4 : List UInt8 := dkwX4_item_4 ++ dktX4_item_5
def dkwX4_item_3 : List UInt8 := [61, 42, 180, 0, 3, 180, 0, 69, 180, 0, 101, 28, 42, 4, 16, 60, 182, 0, 92, 79, 167, 0, 126, 42]
abbrev dktX4_item_3 : List UInt8 := dkwX4_item_3 ++ dktX4_item_4
def dkwX4_item_2 : List UInt8 := [42, 16, 247, 182, 0, 95, 167, 0, 164, 42, 42, 182, 0, 98, 182, 0, 95, 167, 0, 153, 42, 182, 0, 98]
abbrev dktX4_item_2 : List UInt8 := dkwX4_item_2 ++ dktX4_item_3
def dkwX4_item_1 : List UInt8 := [170, 0, 0, 0, 0, 0, 135, 0, 0, 0, 5, 0, 0, 0, 9, 0, 0, 0, 35, 0, 0, 0, 44, 0, 0, 0, 55, 0, 0, 0, 82, 0, 0, 0, 109]
abbrev dktX4_item_1 : List UInt8 := dkwX4_item_1 ++ dktX4_item_2
def dkwX4_item_0 : List UInt8 := [27]
abbrev dktX4_item_0 : List UInt8 := dkwX4_item_0 ++ dktX4_item_1
theorem dksX4_item_0 : cX4_item.data.toList.drop 0 = dktX4_item_0 := by decide +kernel
theorem dksX4_item_1 : cX4_item.data.toList.drop 1 = dktX4_item_1 := dk_seg dksX4_item_0 1 rfl rfl
theorem dksX4_item_2 : cX4_item.data.toList.drop 36 = dktX4_item_2 := dk_seg dksX4_item_1 35 rfl rfl
theorem dksX4_item_3 : cX4_item.data.toList.drop 60 = dktX4_item_3 := dk_seg dksX4_item_2 24 rfl rfl
theorem dksX4_item_4 : cX4_item.data.toList.drop 84 = dktX4_item_4 := dk_seg dksX4_item_3 24 rfl rfl
theorem dksX4_item_5 : cX4_item.data.toList.drop 107 = dktX4_item_5 := dk_seg dksX4_item_4 23 rfl rfl
theorem dksX4_item_6 : cX4_item.data.toList.drop 129 = dktX4_item_6 := dk_seg dksX4_item_5 22 rfl rfl
theorem dksX4_item_7 : cX4_item.data.toList.drop 151 = dktX4_item_7 := dk_seg dksX4_item_6 22 rfl rfl
theorem dksX4_item_8 : cX4_item.data.toList.drop 174 = dktX4_item_8 := dk_seg dksX4_item_7 23 rfl rfl
theorem dksX4_item_9 : cX4_item.data.toList.drop 196 = dktX4_item_9 := dk_seg dksX4_item_8 22 rfl rfl
theorem dX4_item_0 : decode cX4_item 0 = .ok (.iload_n 1, 1) := dk_27 (dk_at dksX4_item_0 0 rfl rfl)
theorem dX4_item_1 : decode cX4_item 1 = .ok (.tableswitch 135 5 9 #[35, 44, 55, 82, 109], 35) := by decide +kernel
theorem dX4_item_36 : decode cX4_item 36 = .ok (.aload_n 0, 1) := dk_42 (dk_at dksX4_item_2 0 rfl rfl)
theorem dX4_item_37 : decode cX4_item 37 = .ok (.bipush (-9), 2) := dk_16 247 (dk_at dksX4_item_2 1 rfl rfl)
theorem dX4_item_39 : decode cX4_item 39 = .ok (.invokevirtual 95, 3) := dk_182 0 95 (dk_at dksX4_item_2 3 rfl rfl)
theorem dX4_item_42 : decode cX4_item 42 = .ok (.goto 164, 3) := dk_167 0 164 (dk_at dksX4_item_2 6 rfl rfl)
theorem dX4_item_45 : decode cX4_item 45 = .ok (.aload_n 0, 1) := dk_42 (dk_at dksX4_item_2 9 rfl rfl)
theorem dX4_item_46 : decode cX4_item 46 = .ok (.aload_n 0, 1) := dk_42 (dk_at dksX4_item_2 10 rfl rfl)
theorem dX4_item_47 : decode cX4_item 47 = .ok (.invokevirtual 98, 3) := dk_182 0 98 (dk_at dksX4_item_2 11 rfl rfl)
theorem dX4_item_50 : decode cX4_item 50 = .ok (.invokevirtual 95, 3) := dk_182 0 95 (dk_at dksX4_item_2 14 rfl rfl)
theorem dX4_item_53 : decode cX4_item 53 = .ok (.goto 153, 3) := dk_167 0 153 (dk_at dksX4_item_2 17 rfl rfl)
theorem dX4_item_56 : decode cX4_item 56 = .ok (.aload_n 0, 1) := dk_42 (dk_at dksX4_item_2 20 rfl rfl)
theorem dX4_item_57 : decode cX4_item 57 = .ok (.invokevirtual 98, 3) := dk_182 0 98 (dk_at dksX4_item_2 21 rfl rfl)
theorem dX4_item_60 : decode cX4_item 60 = .ok (.istore_n 2, 1) := dk_61 (dk_at dksX4_item_3 0 rfl rfl)
theorem dX4_item_61 : decode cX4_item 61 = .ok (.aload_n 0, 1) := dk_42 (dk_at dksX4_item_3 1 rfl rfl)
theorem dX4_item_62 : decode cX4_item 62 = .ok (.getfield 3, 3) := dk_180 0 3 (dk_at dksX4_item_3 2 rfl rfl)
theorem dX4_item_65 : decode cX4_item 65 = .ok (.getfield 69, 3) := dk_180 0 69 (dk_at dksX4_item_3 5 rfl rfl)
theorem dX4_item_68 : decode cX4_item 68 = .ok (.getfield 101, 3) := dk_180 0 101 (dk_at dksX4_item_3 8 rfl rfl)
theorem dX4_item_71 : decode cX4_item 71 = .ok (.iload_n 2, 1) := dk_28 (dk_at dksX4_item_3 11 rfl rfl)
theorem dX4_item_72 : decode cX4_item 72 = .ok (.aload_n 0, 1) := dk_42 (dk_at dksX4_item_3 12 rfl rfl)
theorem dX4_item_73 : decode cX4_item 73 = .ok (.iconst 1, 1) := dk_4 (dk_at dksX4_item_3 13 rfl rfl)
theorem dX4_item_74 : decode cX4_item 74 = .ok (.bipush 60, 2) := dk_16 60 (dk_at dksX4_item_3 14 rfl rfl)
theorem dX4_item_76 : decode cX4_item 76 = .ok (.invokevirtual 92, 3) := dk_182 0 92 (dk_at dksX4_item_3 16 rfl rfl)
theorem dX4_item_79 : decode cX4_item 79 = .ok (.iastore, 1) := dk_79 (dk_at dksX4_item_3 19 rfl rfl)
theorem dX4_item_80 : decode cX4_item 80 = .ok (.goto 126, 3) := dk_167 0 126 (dk_at dksX4_item_3 20 rfl rfl)
theorem dX4_item_83 : decode cX4_item 83 = .ok (.aload_n 0, 1) := dk_42 (dk_at dksX4_item_3 23 rfl rfl)
theorem dX4_item_84 : decode cX4_item 84 = .ok (.invokevirtual 98, 3) := dk_182 0 98 (dk_at dksX4_item_4 0 rfl rfl)
theorem dX4_item_87 : decode cX4_item 87 = .ok (.istore_n 2, 1) := dk_61 (dk_at dksX4_item_4 3 rfl rfl)
theorem dX4_item_88 : decode cX4_item 88 = .ok (.aload_n 0, 1) := dk_42 (dk_at dksX4_item_4 4 rfl rfl)
theorem dX4_item_89 : decode cX4_item 89 = .ok (.getfield 3, 3) := dk_180 0 3 (dk_at dksX4_item_4 5 rfl rfl)
theorem dX4_item_92 : decode cX4_item 92 = .ok (.getfield 69, 3) := dk_180 0 69 (dk_at dksX4_item_4 8 rfl rfl)
theorem dX4_item_95 : decode cX4_item 95 = .ok (.getfield 104, 3) := dk_180 0 104 (dk_at dksX4_item_4 11 rfl rfl)
theorem dX4_item_98 : decode cX4_item 98 = .ok (.iload_n 2, 1) := dk_28 (dk_at dksX4_item_4 14 rfl rfl)
theorem dX4_item_99 : decode cX4_item 99 = .ok (.aload_n 0, 1) := dk_42 (dk_at dksX4_item_4 15 rfl rfl)
theorem dX4_item_100 : decode cX4_item 100 = .ok (.iconst 0, 1) := dk_3 (dk_at dksX4_item_4 16 rfl rfl)
theorem dX4_item_101 : decode cX4_item 101 = .ok (.bipush 6, 2) := dk_16 6 (dk_at dksX4_item_4 17 rfl rfl)
theorem dX4_item_103 : decode cX4_item 103 = .ok (.invokevirtual 92, 3) := dk_182 0 92 (dk_at dksX4_item_4 19 rfl rfl)
theorem dX4_item_106 : decode cX4_item 106 = .ok (.iastore, 1) := dk_79 (dk_at dksX4_item_4 22 rfl rfl)
theorem dX4_item_107 : decode cX4_item 107 = .ok (.goto 99, 3) := dk_167 0 99 (dk_at dksX4_item_5 0 rfl rfl)
theorem dX4_item_110 : decode cX4_item 110 = .ok (.aload_n 0, 1) := dk_42 (dk_at dksX4_item_5 3 rfl rfl)
theorem dX4_item_111 : decode cX4_item 111 = .ok (.invokevirtual 98, 3) := dk_182 0 98 (dk_at dksX4_item_5 4 rfl rfl)
theorem dX4_item_114 : decode cX4_item 114 = .ok (.istore_n 2, 1) := dk_61 (dk_at dksX4_item_5 7 rfl rfl)
theorem dX4_item_115 : decode cX4_item 115 = .ok (.aload_n 0, 1) := dk_42 (dk_at dksX4_item_5 8 rfl rfl)
theorem dX4_item_116 : decode cX4_item 116 = .ok (.getfield 3, 3) := dk_180 0 3 (dk_at dksX4_item_5 9 rfl rfl)
theorem dX4_item_119 : decode cX4_item 119 = .ok (.getfield 69, 3) := dk_180 0 69 (dk_at dksX4_item_5 12 rfl rfl)
theorem dX4_item_122 : decode cX4_item 122 = .ok (.getfield 107, 3) := dk_180 0 107 (dk_at dksX4_item_5 15 rfl rfl)
theorem dX4_item_125 : decode cX4_item 125 = .ok (.iload_n 2, 1) := dk_28 (dk_at dksX4_item_5 18 rfl rfl)
theorem dX4_item_126 : decode cX4_item 126 = .ok (.aload_n 0, 1) := dk_42 (dk_at dksX4_item_5 19 rfl rfl)
theorem dX4_item_127 : decode cX4_item 127 = .ok (.iconst 0, 1) := dk_3 (dk_at dksX4_item_5 20 rfl rfl)
theorem dX4_item_128 : decode cX4_item 128 = .ok (.iconst 5, 1) := dk_8 (dk_at dksX4_item_5 21 rfl rfl)
theorem dX4_item_129 : decode cX4_item 129 = .ok (.invokevirtual 92, 3) := dk_182 0 92 (dk_at dksX4_item_6 0 rfl rfl)
theorem dX4_item_132 : decode cX4_item 132 = .ok (.iastore, 1) := dk_79 (dk_at dksX4_item_6 3 rfl rfl)
theorem dX4_item_133 : decode cX4_item 133 = .ok (.goto 73, 3) := dk_167 0 73 (dk_at dksX4_item_6 4 rfl rfl)
theorem dX4_item_136 : decode cX4_item 136 = .ok (.aload_n 0, 1) := dk_42 (dk_at dksX4_item_6 7 rfl rfl)
theorem dX4_item_137 : decode cX4_item 137 = .ok (.aload_n 0, 1) := dk_42 (dk_at dksX4_item_6 8 rfl rfl)
theorem dX4_item_138 : decode cX4_item 138 = .ok (.getfield 36, 3) := dk_180 0 36 (dk_at dksX4_item_6 9 rfl rfl)
theorem dX4_item_141 : decode cX4_item 141 = .ok (.bipush 11, 2) := dk_16 11 (dk_at dksX4_item_6 12 rfl rfl)
theorem dX4_item_143 : decode cX4_item 143 = .ok (.if_icmp .ne 44, 3) := dk_160 0 44 (dk_at dksX4_item_6 14 rfl rfl)
theorem dX4_item_146 : decode cX4_item 146 = .ok (.aload_n 0, 1) := dk_42 (dk_at dksX4_item_6 17 rfl rfl)
theorem dX4_item_147 : decode cX4_item 147 = .ok (.getfield 33, 3) := dk_180 0 33 (dk_at dksX4_item_6 18 rfl rfl)
theorem dX4_item_150 : decode cX4_item 150 = .ok (.aload_n 0, 1) := dk_42 (dk_at dksX4_item_6 21 rfl rfl)
theorem dX4_item_151 : decode cX4_item 151 = .ok (.getfield 3, 3) := dk_180 0 3 (dk_at dksX4_item_7 0 rfl rfl)
theorem dX4_item_154 : decode cX4_item 154 = .ok (.getfield 69, 3) := dk_180 0 69 (dk_at dksX4_item_7 3 rfl rfl)
theorem dX4_item_157 : decode cX4_item 157 = .ok (.getfield 73, 3) := dk_180 0 73 (dk_at dksX4_item_7 6 rfl rfl)
theorem dX4_item_160 : decode cX4_item 160 = .ok (.if_icmp .ge 27, 3) := dk_162 0 27 (dk_at dksX4_item_7 9 rfl rfl)
theorem dX4_item_163 : decode cX4_item 163 = .ok (.aload_n 0, 1) := dk_42 (dk_at dksX4_item_7 12 rfl rfl)
theorem dX4_item_164 : decode cX4_item 164 = .ok (.getfield 3, 3) := dk_180 0 3 (dk_at dksX4_item_7 13 rfl rfl)
theorem dX4_item_167 : decode cX4_item 167 = .ok (.getfield 69, 3) := dk_180 0 69 (dk_at dksX4_item_7 16 rfl rfl)
theorem dX4_item_170 : decode cX4_item 170 = .ok (.getfield 110, 3) := dk_180 0 110 (dk_at dksX4_item_7 19 rfl rfl)
theorem dX4_item_173 : decode cX4_item 173 = .ok (.aload_n 0, 1) := dk_42 (dk_at dksX4_item_7 22 rfl rfl)
theorem dX4_item_174 : decode cX4_item 174 = .ok (.getfield 33, 3) := dk_180 0 33 (dk_at dksX4_item_8 0 rfl rfl)
theorem dX4_item_177 : decode cX4_item 177 = .ok (.invokevirtual 114, 3) := dk_182 0 114 (dk_at dksX4_item_8 3 rfl rfl)
theorem dX4_item_180 : decode cX4_item 180 = .ok (.ifCond .ne 7, 3) := dk_154 0 7 (dk_at dksX4_item_8 6 rfl rfl)
theorem dX4_item_183 : decode cX4_item 183 = .ok (.iconst 1, 1) := dk_4 (dk_at dksX4_item_8 9 rfl rfl)
theorem dX4_item_184 : decode cX4_item 184 = .ok (.goto 4, 3) := dk_167 0 4 (dk_at dksX4_item_8 10 rfl rfl)
theorem dX4_item_187 : decode cX4_item 187 = .ok (.iconst 0, 1) := dk_3 (dk_at dksX4_item_8 13 rfl rfl)
theorem dX4_item_188 : decode cX4_item 188 = .ok (.invokevirtual 65, 3) := dk_182 0 65 (dk_at dksX4_item_8 14 rfl rfl)
theorem dX4_item_191 : decode cX4_item 191 = .ok (.istore_n 2, 1) := dk_61 (dk_at dksX4_item_8 17 rfl rfl)
theorem dX4_item_192 : decode cX4_item 192 = .ok (.aload_n 0, 1) := dk_42 (dk_at dksX4_item_8 18 rfl rfl)
theorem dX4_item_193 : decode cX4_item 193 = .ok (.getfield 3, 3) := dk_180 0 3 (dk_at dksX4_item_8 19 rfl rfl)
theorem dX4_item_196 : decode cX4_item 196 = .ok (.getfield 69, 3) := dk_180 0 69 (dk_at dksX4_item_9 0 rfl rfl)
theorem dX4_item_199 : decode cX4_item 199 = .ok (.getfield 110, 3) := dk_180 0 110 (dk_at dksX4_item_9 3 rfl rfl)
theorem dX4_item_202 : decode cX4_item 202 = .ok (.iload_n 2, 1) := dk_28 (dk_at dksX4_item_9 6 rfl rfl)
theorem dX4_item_203 : decode cX4_item 203 = .ok (.invokevirtual 120, 3) := dk_182 0 120 (dk_at dksX4_item_9 7 rfl rfl)
theorem dX4_item_206 : decode cX4_item 206 = .ok (.return_, 1) := dk_177 (dk_at dksX4_item_9 10 rfl rfl)
abbrev cX4_program : ByteArray := prog_2_method_7_code
def yX4_program : MethodName := ⟨RX4, "program", "(I)V"⟩
def dkwX4_program_5 : List UInt8 := [180, 0, 69, 180, 0, 81, 28, 92, 46, 4, 96, 79, 167, 255, 139, 177]
abbrev dktX4_program_5 : List UInt8 := dkwX4_program_5 ++ []
def dkwX4_program_4 : List UInt8 := [153, 0, 8, 29, 7, 160, 0, 13, 42, 4, 16, 9, 182, 0, 92, 167, 0, 4, 3, 79, 42, 180, 0, 3]
abbrev dktX4_program_4 : List UInt8 := dkwX4_program_4 ++ dktX4_program_5
def dkwX4_program_3 : List UInt8 := [180, 0, 85, 28, 50, 21, 4, 29, 79, 42, 180, 0, 3, 180, 0, 69, 180, 0, 89, 28, 50, 21, 4, 29]
abbrev dktX4_program_3 : List UInt8 := dkwX4_program_3 ++ dktX4_program_4
def dkwX4_program_2 : List UInt8 := [21, 4, 16, 6, 162, 0, 7, 4, 167, 0, 4, 3, 182, 0, 65, 87, 42, 180, 0, 3, 180, 0, 69]
abbrev dktX4_program_2 : List UInt8 := dkwX4_program_2 ++ dktX4_program_3
def dkwX4_program_1 : List UInt8 := [180, 0, 36, 62, 42, 180, 0, 3, 180, 0, 69, 180, 0, 81, 28, 46, 54, 4, 42, 29, 7, 163, 0, 14]
abbrev dktX4_program_1 : List UInt8 := dkwX4_program_1 ++ dktX4_program_2
def dkwX4_program_0 : List UInt8 := [42, 180, 0, 3, 180, 0, 69, 27, 182, 0, 78, 61, 42, 180, 0, 36, 16, 12, 159, 0, 114, 42]
abbrev dktX4_program_0 : List UInt8 := dkwX4_program_0 ++ dktX4_program_1
theorem dksX4_program_0 : cX4_program.data.toList.drop 0 = dktX4_program_0 := by decide +kernel
theorem dksX4_program_1 : cX4_program.data.toList.drop 22 = dktX4_program_1 := dk_seg dksX4_program_0 22 rfl rfl
theorem dksX4_program_2 : cX4_program.data.toList.drop 46 = dktX4_program_2 := dk_seg dksX4_program_1 24 rfl rfl
theorem dksX4_program_3 : cX4_program.data.toList.drop 69 = dktX4_program_3 := dk_seg dksX4_program_2 23 rfl rfl
theorem dksX4_program_4 : cX4_program.data.toList.drop 93 = dktX4_program_4 := dk_seg dksX4_program_3 24 rfl rfl
theorem dksX4_program_5 : cX4_program.data.toList.drop 117 = dktX4_program_5 := dk_seg dksX4_program_4 24 rfl rfl
theorem dX4_program_0 : decode cX4_program 0 = .ok (.aload_n 0, 1) := dk_42 (dk_at dksX4_program_0 0 rfl rfl)
theorem dX4_program_1 : decode cX4_program 1 = .ok (.getfield 3, 3) := dk_180 0 3 (dk_at dksX4_program_0 1 rfl rfl)
theorem dX4_program_4 : decode cX4_program 4 = .ok (.getfield 69, 3) := dk_180 0 69 (dk_at dksX4_program_0 4 rfl rfl)
theorem dX4_program_7 : decode cX4_program 7 = .ok (.iload_n 1, 1) := dk_27 (dk_at dksX4_program_0 7 rfl rfl)
theorem dX4_program_8 : decode cX4_program 8 = .ok (.invokevirtual 78, 3) := dk_182 0 78 (dk_at dksX4_program_0 8 rfl rfl)
theorem dX4_program_11 : decode cX4_program 11 = .ok (.istore_n 2, 1) := dk_61 (dk_at dksX4_program_0 11 rfl rfl)
theorem dX4_program_12 : decode cX4_program 12 = .ok (.aload_n 0, 1) := dk_42 (dk_at dksX4_program_0 12 rfl rfl)
theorem dX4_program_13 : decode cX4_program 13 = .ok (.getfield 36, 3) := dk_180 0 36 (dk_at dksX4_program_0 13 rfl rfl)
theorem dX4_program_16 : decode cX4_program 16 = .ok (.bipush 12, 2) := dk_16 12 (dk_at dksX4_program_0 16 rfl rfl)
theorem dX4_program_18 : decode cX4_program 18 = .ok (.if_icmp .eq 114, 3) := dk_159 0 114 (dk_at dksX4_program_0 18 rfl rfl)
theorem dX4_program_21 : decode cX4_program 21 = .ok (.aload_n 0, 1) := dk_42 (dk_at dksX4_program_0 21 rfl rfl)
theorem dX4_program_22 : decode cX4_program 22 = .ok (.getfield 36, 3) := dk_180 0 36 (dk_at dksX4_program_1 0 rfl rfl)
theorem dX4_program_25 : decode cX4_program 25 = .ok (.istore_n 3, 1) := dk_62 (dk_at dksX4_program_1 3 rfl rfl)
theorem dX4_program_26 : decode cX4_program 26 = .ok (.aload_n 0, 1) := dk_42 (dk_at dksX4_program_1 4 rfl rfl)
theorem dX4_program_27 : decode cX4_program 27 = .ok (.getfield 3, 3) := dk_180 0 3 (dk_at dksX4_program_1 5 rfl rfl)
theorem dX4_program_30 : decode cX4_program 30 = .ok (.getfield 69, 3) := dk_180 0 69 (dk_at dksX4_program_1 8 rfl rfl)
theorem dX4_program_33 : decode cX4_program 33 = .ok (.getfield 81, 3) := dk_180 0 81 (dk_at dksX4_program_1 11 rfl rfl)
theorem dX4_program_36 : decode cX4_program 36 = .ok (.iload_n 2, 1) := dk_28 (dk_at dksX4_program_1 14 rfl rfl)
theorem dX4_program_37 : decode cX4_program 37 = .ok (.iaload, 1) := dk_46 (dk_at dksX4_program_1 15 rfl rfl)
theorem dX4_program_38 : decode cX4_program 38 = .ok (.istore 4, 2) := dk_54 4 (dk_at dksX4_program_1 16 rfl rfl)
theorem dX4_program_40 : decode cX4_program 40 = .ok (.aload_n 0, 1) := dk_42 (dk_at dksX4_program_1 18 rfl rfl)
theorem dX4_program_41 : decode cX4_program 41 = .ok (.iload_n 3, 1) := dk_29 (dk_at dksX4_program_1 19 rfl rfl)
theorem dX4_program_42 : decode cX4_program 42 = .ok (.iconst 4, 1) := dk_7 (dk_at dksX4_program_1 20 rfl rfl)
theorem dX4_program_43 : decode cX4_program 43 = .ok (.if_icmp .gt 14, 3) := dk_163 0 14 (dk_at dksX4_program_1 21 rfl rfl)
theorem dX4_program_46 : decode cX4_program 46 = .ok (.iload 4, 2) := dk_21 4 (dk_at dksX4_program_2 0 rfl rfl)
theorem dX4_program_48 : decode cX4_program 48 = .ok (.bipush 6, 2) := dk_16 6 (dk_at dksX4_program_2 2 rfl rfl)
theorem dX4_program_50 : decode cX4_program 50 = .ok (.if_icmp .ge 7, 3) := dk_162 0 7 (dk_at dksX4_program_2 4 rfl rfl)
theorem dX4_program_53 : decode cX4_program 53 = .ok (.iconst 1, 1) := dk_4 (dk_at dksX4_program_2 7 rfl rfl)
theorem dX4_program_54 : decode cX4_program 54 = .ok (.goto 4, 3) := dk_167 0 4 (dk_at dksX4_program_2 8 rfl rfl)
theorem dX4_program_57 : decode cX4_program 57 = .ok (.iconst 0, 1) := dk_3 (dk_at dksX4_program_2 11 rfl rfl)
theorem dX4_program_58 : decode cX4_program 58 = .ok (.invokevirtual 65, 3) := dk_182 0 65 (dk_at dksX4_program_2 12 rfl rfl)
theorem dX4_program_61 : decode cX4_program 61 = .ok (.pop, 1) := dk_87 (dk_at dksX4_program_2 15 rfl rfl)
theorem dX4_program_62 : decode cX4_program 62 = .ok (.aload_n 0, 1) := dk_42 (dk_at dksX4_program_2 16 rfl rfl)
theorem dX4_program_63 : decode cX4_program 63 = .ok (.getfield 3, 3) := dk_180 0 3 (dk_at dksX4_program_2 17 rfl rfl)
theorem dX4_program_66 : decode cX4_program 66 = .ok (.getfield 69, 3) := dk_180 0 69 (dk_at dksX4_program_2 20 rfl rfl)
theorem dX4_program_69 : decode cX4_program 69 = .ok (.getfield 85, 3) := dk_180 0 85 (dk_at dksX4_program_3 0 rfl rfl)
theorem dX4_program_72 : decode cX4_program 72 = .ok (.iload_n 2, 1) := dk_28 (dk_at dksX4_program_3 3 rfl rfl)
theorem dX4_program_73 : decode cX4_program 73 = .ok (.aaload, 1) := dk_50 (dk_at dksX4_program_3 4 rfl rfl)
theorem dX4_program_74 : decode cX4_program 74 = .ok (.iload 4, 2) := dk_21 4 (dk_at dksX4_program_3 5 rfl rfl)
theorem dX4_program_76 : decode cX4_program 76 = .ok (.iload_n 3, 1) := dk_29 (dk_at dksX4_program_3 7 rfl rfl)
theorem dX4_program_77 : decode cX4_program 77 = .ok (.iastore, 1) := dk_79 (dk_at dksX4_program_3 8 rfl rfl)
theorem dX4_program_78 : decode cX4_program 78 = .ok (.aload_n 0, 1) := dk_42 (dk_at dksX4_program_3 9 rfl rfl)
theorem dX4_program_79 : decode cX4_program 79 = .ok (.getfield 3, 3) := dk_180 0 3 (dk_at dksX4_program_3 10 rfl rfl)
theorem dX4_program_82 : decode cX4_program 82 = .ok (.getfield 69, 3) := dk_180 0 69 (dk_at dksX4_program_3 13 rfl rfl)
theorem dX4_program_85 : decode cX4_program 85 = .ok (.getfield 89, 3) := dk_180 0 89 (dk_at dksX4_program_3 16 rfl rfl)
theorem dX4_program_88 : decode cX4_program 88 = .ok (.iload_n 2, 1) := dk_28 (dk_at dksX4_program_3 19 rfl rfl)
theorem dX4_program_89 : decode cX4_program 89 = .ok (.aaload, 1) := dk_50 (dk_at dksX4_program_3 20 rfl rfl)
theorem dX4_program_90 : decode cX4_program 90 = .ok (.iload 4, 2) := dk_21 4 (dk_at dksX4_program_3 21 rfl rfl)
theorem dX4_program_92 : decode cX4_program 92 = .ok (.iload_n 3, 1) := dk_29 (dk_at dksX4_program_3 23 rfl rfl)
theorem dX4_program_93 : decode cX4_program 93 = .ok (.ifCond .eq 8, 3) := dk_153 0 8 (dk_at dksX4_program_4 0 rfl rfl)
theorem dX4_program_96 : decode cX4_program 96 = .ok (.iload_n 3, 1) := dk_29 (dk_at dksX4_program_4 3 rfl rfl)
theorem dX4_program_97 : decode cX4_program 97 = .ok (.iconst 4, 1) := dk_7 (dk_at dksX4_program_4 4 rfl rfl)
theorem dX4_program_98 : decode cX4_program 98 = .ok (.if_icmp .ne 13, 3) := dk_160 0 13 (dk_at dksX4_program_4 5 rfl rfl)
theorem dX4_program_101 : decode cX4_program 101 = .ok (.aload_n 0, 1) := dk_42 (dk_at dksX4_program_4 8 rfl rfl)
theorem dX4_program_102 : decode cX4_program 102 = .ok (.iconst 1, 1) := dk_4 (dk_at dksX4_program_4 9 rfl rfl)
theorem dX4_program_103 : decode cX4_program 103 = .ok (.bipush 9, 2) := dk_16 9 (dk_at dksX4_program_4 10 rfl rfl)
theorem dX4_program_105 : decode cX4_program 105 = .ok (.invokevirtual 92, 3) := dk_182 0 92 (dk_at dksX4_program_4 12 rfl rfl)
theorem dX4_program_108 : decode cX4_program 108 = .ok (.goto 4, 3) := dk_167 0 4 (dk_at dksX4_program_4 15 rfl rfl)
theorem dX4_program_111 : decode cX4_program 111 = .ok (.iconst 0, 1) := dk_3 (dk_at dksX4_program_4 18 rfl rfl)
theorem dX4_program_112 : decode cX4_program 112 = .ok (.iastore, 1) := dk_79 (dk_at dksX4_program_4 19 rfl rfl)
theorem dX4_program_113 : decode cX4_program 113 = .ok (.aload_n 0, 1) := dk_42 (dk_at dksX4_program_4 20 rfl rfl)
theorem dX4_program_114 : decode cX4_program 114 = .ok (.getfield 3, 3) := dk_180 0 3 (dk_at dksX4_program_4 21 rfl rfl)
theorem dX4_program_117 : decode cX4_program 117 = .ok (.getfield 69, 3) := dk_180 0 69 (dk_at dksX4_program_5 0 rfl rfl)
theorem dX4_program_120 : decode cX4_program 120 = .ok (.getfield 81, 3) := dk_180 0 81 (dk_at dksX4_program_5 3 rfl rfl)
theorem dX4_program_123 : decode cX4_program 123 = .ok (.iload_n 2, 1) := dk_28 (dk_at dksX4_program_5 6 rfl rfl)
theorem dX4_program_124 : decode cX4_program 124 = .ok (.dup2, 1) := dk_92 (dk_at dksX4_program_5 7 rfl rfl)
theorem dX4_program_125 : decode cX4_program 125 = .ok (.iaload, 1) := dk_46 (dk_at dksX4_program_5 8 rfl rfl)
theorem dX4_program_126 : decode cX4_program 126 = .ok (.iconst 1, 1) := dk_4 (dk_at dksX4_program_5 9 rfl rfl)
theorem dX4_program_127 : decode cX4_program 127 = .ok (.iadd, 1) := dk_96 (dk_at dksX4_program_5 10 rfl rfl)
theorem dX4_program_128 : decode cX4_program 128 = .ok (.iastore, 1) := dk_79 (dk_at dksX4_program_5 11 rfl rfl)
theorem dX4_program_129 : decode cX4_program 129 = .ok (.goto (-117), 3) := dk_167 255 139 (dk_at dksX4_program_5 12 rfl rfl)
theorem dX4_program_132 : decode cX4_program 132 = .ok (.return_, 1) := dk_177 (dk_at dksX4_program_5 15 rfl rfl)
abbrev cX4_number : ByteArray := prog_2_method_5_code
def yX4_number : MethodName := ⟨RX4, "number", "(II)I"⟩
def dkwX4_number_1 : List UInt8 := [167, 0, 4, 3, 182, 0, 65, 172]
abbrev dktX4_number_1 : List UInt8 := dkwX4_number_1 ++ []
def dkwX4_number_0 : List UInt8 := [42, 42, 180, 0, 36, 16, 11, 160, 0, 19, 42, 180, 0, 33, 27, 28, 184, 0, 39, 153, 0, 7, 4]
abbrev dktX4_number_0 : List UInt8 := dkwX4_number_0 ++ dktX4_number_1
theorem dksX4_number_0 : cX4_number.data.toList.drop 0 = dktX4_number_0 := by decide +kernel
theorem dksX4_number_1 : cX4_number.data.toList.drop 23 = dktX4_number_1 := dk_seg dksX4_number_0 23 rfl rfl
theorem dX4_number_0 : decode cX4_number 0 = .ok (.aload_n 0, 1) := dk_42 (dk_at dksX4_number_0 0 rfl rfl)
theorem dX4_number_1 : decode cX4_number 1 = .ok (.aload_n 0, 1) := dk_42 (dk_at dksX4_number_0 1 rfl rfl)
theorem dX4_number_2 : decode cX4_number 2 = .ok (.getfield 36, 3) := dk_180 0 36 (dk_at dksX4_number_0 2 rfl rfl)
theorem dX4_number_5 : decode cX4_number 5 = .ok (.bipush 11, 2) := dk_16 11 (dk_at dksX4_number_0 5 rfl rfl)
theorem dX4_number_7 : decode cX4_number 7 = .ok (.if_icmp .ne 19, 3) := dk_160 0 19 (dk_at dksX4_number_0 7 rfl rfl)
theorem dX4_number_10 : decode cX4_number 10 = .ok (.aload_n 0, 1) := dk_42 (dk_at dksX4_number_0 10 rfl rfl)
theorem dX4_number_11 : decode cX4_number 11 = .ok (.getfield 33, 3) := dk_180 0 33 (dk_at dksX4_number_0 11 rfl rfl)
theorem dX4_number_14 : decode cX4_number 14 = .ok (.iload_n 1, 1) := dk_27 (dk_at dksX4_number_0 14 rfl rfl)
theorem dX4_number_15 : decode cX4_number 15 = .ok (.iload_n 2, 1) := dk_28 (dk_at dksX4_number_0 15 rfl rfl)
theorem dX4_number_16 : decode cX4_number 16 = .ok (.invokestatic 39, 3) := dk_184 0 39 (dk_at dksX4_number_0 16 rfl rfl)
theorem dX4_number_19 : decode cX4_number 19 = .ok (.ifCond .eq 7, 3) := dk_153 0 7 (dk_at dksX4_number_0 19 rfl rfl)
theorem dX4_number_22 : decode cX4_number 22 = .ok (.iconst 1, 1) := dk_4 (dk_at dksX4_number_0 22 rfl rfl)
theorem dX4_number_23 : decode cX4_number 23 = .ok (.goto 4, 3) := dk_167 0 4 (dk_at dksX4_number_1 0 rfl rfl)
theorem dX4_number_26 : decode cX4_number 26 = .ok (.iconst 0, 1) := dk_3 (dk_at dksX4_number_1 3 rfl rfl)
theorem dX4_number_27 : decode cX4_number 27 = .ok (.invokevirtual 65, 3) := dk_182 0 65 (dk_at dksX4_number_1 4 rfl rfl)
theorem dX4_number_30 : decode cX4_number 30 = .ok (.ireturn, 1) := dk_172 (dk_at dksX4_number_1 7 rfl rfl)
abbrev cX4_told : ByteArray := prog_2_method_6_code
def yX4_told : MethodName := ⟨RX4, "told", "()I"⟩
def dkwX4_told_1 : List UInt8 := [162, 0, 7, 4, 167, 0, 4, 3, 182, 0, 65, 172]
abbrev dktX4_told_1 : List UInt8 := dkwX4_told_1 ++ []
def dkwX4_told_0 : List UInt8 := [42, 42, 180, 0, 36, 16, 11, 160, 0, 24, 42, 180, 0, 33, 42, 180, 0, 3, 180, 0, 69, 180, 0, 73]
abbrev dktX4_told_0 : List UInt8 := dkwX4_told_0 ++ dktX4_told_1
theorem dksX4_told_0 : cX4_told.data.toList.drop 0 = dktX4_told_0 := by decide +kernel
theorem dksX4_told_1 : cX4_told.data.toList.drop 24 = dktX4_told_1 := dk_seg dksX4_told_0 24 rfl rfl
theorem dX4_told_0 : decode cX4_told 0 = .ok (.aload_n 0, 1) := dk_42 (dk_at dksX4_told_0 0 rfl rfl)
theorem dX4_told_1 : decode cX4_told 1 = .ok (.aload_n 0, 1) := dk_42 (dk_at dksX4_told_0 1 rfl rfl)
theorem dX4_told_2 : decode cX4_told 2 = .ok (.getfield 36, 3) := dk_180 0 36 (dk_at dksX4_told_0 2 rfl rfl)
theorem dX4_told_5 : decode cX4_told 5 = .ok (.bipush 11, 2) := dk_16 11 (dk_at dksX4_told_0 5 rfl rfl)
theorem dX4_told_7 : decode cX4_told 7 = .ok (.if_icmp .ne 24, 3) := dk_160 0 24 (dk_at dksX4_told_0 7 rfl rfl)
theorem dX4_told_10 : decode cX4_told 10 = .ok (.aload_n 0, 1) := dk_42 (dk_at dksX4_told_0 10 rfl rfl)
theorem dX4_told_11 : decode cX4_told 11 = .ok (.getfield 33, 3) := dk_180 0 33 (dk_at dksX4_told_0 11 rfl rfl)
theorem dX4_told_14 : decode cX4_told 14 = .ok (.aload_n 0, 1) := dk_42 (dk_at dksX4_told_0 14 rfl rfl)
theorem dX4_told_15 : decode cX4_told 15 = .ok (.getfield 3, 3) := dk_180 0 3 (dk_at dksX4_told_0 15 rfl rfl)
theorem dX4_told_18 : decode cX4_told 18 = .ok (.getfield 69, 3) := dk_180 0 69 (dk_at dksX4_told_0 18 rfl rfl)
theorem dX4_told_21 : decode cX4_told 21 = .ok (.getfield 73, 3) := dk_180 0 73 (dk_at dksX4_told_0 21 rfl rfl)
theorem dX4_told_24 : decode cX4_told 24 = .ok (.if_icmp .ge 7, 3) := dk_162 0 7 (dk_at dksX4_told_1 0 rfl rfl)
theorem dX4_told_27 : decode cX4_told 27 = .ok (.iconst 1, 1) := dk_4 (dk_at dksX4_told_1 3 rfl rfl)
theorem dX4_told_28 : decode cX4_told 28 = .ok (.goto 4, 3) := dk_167 0 4 (dk_at dksX4_told_1 4 rfl rfl)
theorem dX4_told_31 : decode cX4_told 31 = .ok (.iconst 0, 1) := dk_3 (dk_at dksX4_told_1 7 rfl rfl)
theorem dX4_told_32 : decode cX4_told 32 = .ok (.invokevirtual 65, 3) := dk_182 0 65 (dk_at dksX4_told_1 8 rfl rfl)
theorem dX4_told_35 : decode cX4_told 35 = .ok (.ireturn, 1) := dk_172 (dk_at dksX4_told_1 11 rfl rfl)
theorem q70 : (Jvm.Cond.initialized "ScopeTasks$Reader") ∈ lw_all := lw_g (lw_at lw_m1 11 rfl) rfl
theorem q126 : (Jvm.Cond.fieldLinkNest "ScopeTasks$Reader" (73 : Nat) "ScopeTasks$Tree" "tasks" "I" "ScopeTasks") ∈ lw_tbl := lw_at lw_m1 67 rfl
theorem q133 : (Jvm.Cond.fieldLinkNest "ScopeTasks$Reader" (81 : Nat) "ScopeTasks$Tree" "length" "[I" "ScopeTasks") ∈ lw_tbl := lw_at lw_m1 74 rfl
theorem q136 : (Jvm.Cond.fieldLinkNest "ScopeTasks$Reader" (85 : Nat) "ScopeTasks$Tree" "what" "[[I" "ScopeTasks") ∈ lw_tbl := lw_at lw_m1 77 rfl
theorem q139 : (Jvm.Cond.fieldLinkNest "ScopeTasks$Reader" (89 : Nat) "ScopeTasks$Tree" "of" "[[I" "ScopeTasks") ∈ lw_tbl := lw_at lw_m1 80 rfl
theorem q143 : (Jvm.Cond.fieldLinkNest "ScopeTasks$Reader" (101 : Nat) "ScopeTasks$Tree" "deadline" "[I" "ScopeTasks") ∈ lw_tbl := lw_at lw_m1 84 rfl
theorem q146 : (Jvm.Cond.fieldLinkNest "ScopeTasks$Reader" (104 : Nat) "ScopeTasks$Tree" "shield" "[I" "ScopeTasks") ∈ lw_tbl := lw_at lw_m1 87 rfl
theorem q149 : (Jvm.Cond.fieldLinkNest "ScopeTasks$Reader" (107 : Nat) "ScopeTasks$Tree" "cleanUp" "[I" "ScopeTasks") ∈ lw_tbl := lw_at lw_m1 90 rfl
theorem q152 : (Jvm.Cond.fieldLinkNest "ScopeTasks$Reader" (110 : Nat) "ScopeTasks$Tree" "gathers" "Ljava/util/BitSet;" "ScopeTasks") ∈ lw_tbl := lw_at lw_m1 93 rfl
theorem q302 : (Jvm.Cond.selects "ScopeTasks$Reader" ({ cls := "java/lang/Object", name := "getClass", desc := "()Ljava/lang/Class;" } : Jvm.MethodName) ({ cls := "java/lang/Object", name := "getClass", desc := "()Ljava/lang/Class;" } : Jvm.MethodName)) ∈ lw_all := lw_g (lw_at lw_m2 3 rfl) rfl
theorem q383 : (Jvm.Cond.fieldLinkNest "ScopeTasks$Reader" (69 : Nat) "ScopeTasks" "draft" "LScopeTasks$Tree;" "ScopeTasks") ∈ lw_tbl := lw_at lw_m2 84 rfl
theorem q392 : (Jvm.Cond.fieldLinkNest "ScopeTasks$Reader" (22 : Nat) "ScopeTasks" "text" "[B" "ScopeTasks") ∈ lw_tbl := lw_at lw_m2 93 rfl
theorem q394 : (Jvm.Cond.fieldLinkNest "ScopeTasks$Reader" (19 : Nat) "ScopeTasks" "typed" "I" "ScopeTasks") ∈ lw_tbl := lw_at lw_m2 95 rfl
theorem q450 : (Jvm.Cond.instantiable "ScopeTasks$Reader" (6 : Nat)) ∈ lw_all := lw_g (lw_at lw_m2 151 rfl) rfl
theorem q452 : (Jvm.Cond.instanceMethod ({ cls := "ScopeTasks$Reader", name := "<init>", desc := "(LScopeTasks;)V" } : Jvm.MethodName)) ∈ lw_all := lw_g (lw_at lw_m2 153 rfl) rfl
theorem q453 : (Jvm.Cond.code ({ cls := "ScopeTasks$Reader", name := "<init>", desc := "(LScopeTasks;)V" } : Jvm.MethodName) prog_2_method_1_code (2 : Nat) (Option.none : Option Jvm.ClassFile.FieldType)) ∈ lw_all := lw_g (lw_at lw_m2 154 rfl) rfl
theorem q454 : (Jvm.Cond.methodLink "ScopeTasks$Reader" (9 : Nat) ({ cls := "java/lang/Object", name := "<init>", desc := "()V" } : Jvm.MethodName)) ∈ lw_all := lw_g (lw_at lw_m2 155 rfl) rfl
theorem q455 : (Jvm.Cond.fieldLink "ScopeTasks$Reader" (15 : Nat) "ScopeTasks$Reader" "at" "I") ∈ lw_all := lw_g (lw_at lw_m2 156 rfl) rfl
theorem q456 : (Jvm.Cond.fieldLink "ScopeTasks$Reader" (30 : Nat) "ScopeTasks$Reader" "from" "I") ∈ lw_all := lw_g (lw_at lw_m2 157 rfl) rfl
theorem q457 : (Jvm.Cond.fieldLink "ScopeTasks$Reader" (36 : Nat) "ScopeTasks$Reader" "sort" "I") ∈ lw_all := lw_g (lw_at lw_m2 158 rfl) rfl
theorem q458 : (Jvm.Cond.fieldLink "ScopeTasks$Reader" (33 : Nat) "ScopeTasks$Reader" "value" "I") ∈ lw_all := lw_g (lw_at lw_m2 159 rfl) rfl
theorem q460 : (Jvm.Cond.fieldLink "ScopeTasks$Reader" (123 : Nat) "ScopeTasks$Reader" "items" "I") ∈ lw_all := lw_g (lw_at lw_m2 161 rfl) rfl
theorem q461 : (Jvm.Cond.fieldLink "ScopeTasks$Reader" (3 : Nat) "ScopeTasks$Reader" "this$0" "LScopeTasks;") ∈ lw_all := lw_g (lw_at lw_m2 162 rfl) rfl
theorem q462 : (Jvm.Cond.lays "ScopeTasks$Reader" "ScopeTasks$Reader" "at" "I") ∈ lw_all := lw_g (lw_at lw_m2 163 rfl) rfl
theorem q463 : (Jvm.Cond.soleField "ScopeTasks$Reader" "at") ∈ lw_all := lw_g (lw_at lw_m2 164 rfl) rfl
theorem q464 : (Jvm.Cond.lays "ScopeTasks$Reader" "ScopeTasks$Reader" "from" "I") ∈ lw_all := lw_g (lw_at lw_m2 165 rfl) rfl
theorem q465 : (Jvm.Cond.soleField "ScopeTasks$Reader" "from") ∈ lw_all := lw_g (lw_at lw_m2 166 rfl) rfl
theorem q466 : (Jvm.Cond.lays "ScopeTasks$Reader" "ScopeTasks$Reader" "sort" "I") ∈ lw_all := lw_g (lw_at lw_m2 167 rfl) rfl
theorem q467 : (Jvm.Cond.soleField "ScopeTasks$Reader" "sort") ∈ lw_all := lw_g (lw_at lw_m2 168 rfl) rfl
theorem q468 : (Jvm.Cond.lays "ScopeTasks$Reader" "ScopeTasks$Reader" "value" "I") ∈ lw_all := lw_g (lw_at lw_m2 169 rfl) rfl
theorem q469 : (Jvm.Cond.soleField "ScopeTasks$Reader" "value") ∈ lw_all := lw_g (lw_at lw_m2 170 rfl) rfl
theorem q470 : (Jvm.Cond.lays "ScopeTasks$Reader" "ScopeTasks$Reader" "items" "I") ∈ lw_all := lw_g (lw_at lw_m2 171 rfl) rfl
theorem q471 : (Jvm.Cond.soleField "ScopeTasks$Reader" "items") ∈ lw_all := lw_g (lw_at lw_m2 172 rfl) rfl
theorem q472 : (Jvm.Cond.laysFinal "ScopeTasks$Reader" "ScopeTasks$Reader" "this$0" "LScopeTasks;") ∈ lw_all := lw_g (lw_at lw_m2 173 rfl) rfl
theorem q473 : (Jvm.Cond.soleField "ScopeTasks$Reader" "this$0") ∈ lw_all := lw_g (lw_at lw_m2 174 rfl) rfl
theorem q474 : (Jvm.Cond.superclass "ScopeTasks$Reader" "java/lang/Object") ∈ lw_all := lw_g (lw_at lw_m2 175 rfl) rfl
theorem q476 : (Jvm.Cond.instanceMethod ({ cls := "ScopeTasks$Reader", name := "read", desc := "()V" } : Jvm.MethodName)) ∈ lw_all := lw_g (lw_at lw_m2 177 rfl) rfl
theorem q477 : (Jvm.Cond.selects "ScopeTasks$Reader" ({ cls := "ScopeTasks$Reader", name := "read", desc := "()V" } : Jvm.MethodName) ({ cls := "ScopeTasks$Reader", name := "read", desc := "()V" } : Jvm.MethodName)) ∈ lw_all := lw_g (lw_at lw_m2 178 rfl) rfl
theorem q478 : (Jvm.Cond.code ({ cls := "ScopeTasks$Reader", name := "read", desc := "()V" } : Jvm.MethodName) prog_2_method_10_code (2 : Nat) (Option.none : Option Jvm.ClassFile.FieldType)) ∈ lw_all := lw_g (lw_at lw_m2 179 rfl) rfl
theorem q479 : (Jvm.Cond.methodLink "ScopeTasks$Reader" (126 : Nat) ({ cls := "ScopeTasks$Tree", name := "begin", desc := "()V" } : Jvm.MethodName)) ∈ lw_all := lw_g (lw_at lw_m2 180 rfl) rfl
theorem q480 : (Jvm.Cond.methodLink "ScopeTasks$Reader" (62 : Nat) ({ cls := "ScopeTasks$Reader", name := "step", desc := "()V" } : Jvm.MethodName)) ∈ lw_all := lw_g (lw_at lw_m2 181 rfl) rfl
theorem q481 : (Jvm.Cond.privateMethod ({ cls := "ScopeTasks$Reader", name := "step", desc := "()V" } : Jvm.MethodName)) ∈ lw_tbl := lw_at lw_m2 182 rfl
theorem q482 : (Jvm.Cond.instanceMethod ({ cls := "ScopeTasks$Reader", name := "step", desc := "()V" } : Jvm.MethodName)) ∈ lw_all := lw_g (lw_at lw_m2 183 rfl) rfl
theorem q483 : (Jvm.Cond.code ({ cls := "ScopeTasks$Reader", name := "step", desc := "()V" } : Jvm.MethodName) prog_2_method_3_code (3 : Nat) (Option.none : Option Jvm.ClassFile.FieldType)) ∈ lw_all := lw_g (lw_at lw_m2 184 rfl) rfl
theorem q484 : (Jvm.Cond.methodLink "ScopeTasks$Reader" (26 : Nat) ({ cls := "ScopeTasks$Reader", name := "here", desc := "()I" } : Jvm.MethodName)) ∈ lw_all := lw_g (lw_at lw_m2 185 rfl) rfl
theorem q485 : (Jvm.Cond.privateMethod ({ cls := "ScopeTasks$Reader", name := "here", desc := "()I" } : Jvm.MethodName)) ∈ lw_tbl := lw_at lw_m2 186 rfl
theorem q486 : (Jvm.Cond.instanceMethod ({ cls := "ScopeTasks$Reader", name := "here", desc := "()I" } : Jvm.MethodName)) ∈ lw_all := lw_g (lw_at lw_m2 187 rfl) rfl
theorem q487 : (Jvm.Cond.code ({ cls := "ScopeTasks$Reader", name := "here", desc := "()I" } : Jvm.MethodName) prog_2_method_2_code (1 : Nat) (Option.some Jvm.ClassFile.FieldType.int)) ∈ lw_all := lw_g (lw_at lw_m2 188 rfl) rfl
theorem q488 : (Jvm.Cond.methodLinkNest "ScopeTasks$Reader" (39 : Nat) ({ cls := "ScopeTasks", name := "in", desc := "(III)Z" } : Jvm.MethodName) "ScopeTasks") ∈ lw_tbl := lw_at lw_m2 189 rfl
theorem q489 : (Jvm.Cond.methodLink "ScopeTasks$Reader" (43 : Nat) ({ cls := "java/lang/Math", name := "min", desc := "(II)I" } : Jvm.MethodName)) ∈ lw_all := lw_g (lw_at lw_m2 190 rfl) rfl
theorem q490 : (Jvm.Cond.stringRef "ScopeTasks$Reader" (49 : Nat) "wbjxfrtdscg") ∈ lw_tbl := lw_at lw_m2 191 rfl
theorem q491 : (Jvm.Cond.methodLink "ScopeTasks$Reader" (51 : Nat) ({ cls := "java/lang/String", name := "indexOf", desc := "(I)I" } : Jvm.MethodName)) ∈ lw_all := lw_g (lw_at lw_m2 192 rfl) rfl
theorem q573 : (Jvm.Cond.methodLink "ScopeTasks$Reader" (129 : Nat) ({ cls := "ScopeTasks$Reader", name := "may", desc := "(I)Z" } : Jvm.MethodName)) ∈ lw_all := lw_g (lw_at lw_m3 34 rfl) rfl
theorem q574 : (Jvm.Cond.privateMethod ({ cls := "ScopeTasks$Reader", name := "may", desc := "(I)Z" } : Jvm.MethodName)) ∈ lw_tbl := lw_at lw_m3 35 rfl
theorem q575 : (Jvm.Cond.instanceMethod ({ cls := "ScopeTasks$Reader", name := "may", desc := "(I)Z" } : Jvm.MethodName)) ∈ lw_all := lw_g (lw_at lw_m3 36 rfl) rfl
theorem q576 : (Jvm.Cond.code ({ cls := "ScopeTasks$Reader", name := "may", desc := "(I)Z" } : Jvm.MethodName) prog_2_method_9_code (2 : Nat) (Option.some Jvm.ClassFile.FieldType.boolean)) ∈ lw_all := lw_g (lw_at lw_m3 37 rfl) rfl
theorem q577 : (Jvm.Cond.methodLink "ScopeTasks$Reader" (65 : Nat) ({ cls := "ScopeTasks$Reader", name := "due", desc := "(Z)I" } : Jvm.MethodName)) ∈ lw_all := lw_g (lw_at lw_m3 38 rfl) rfl
theorem q578 : (Jvm.Cond.privateMethod ({ cls := "ScopeTasks$Reader", name := "due", desc := "(Z)I" } : Jvm.MethodName)) ∈ lw_tbl := lw_at lw_m3 39 rfl
theorem q579 : (Jvm.Cond.instanceMethod ({ cls := "ScopeTasks$Reader", name := "due", desc := "(Z)I" } : Jvm.MethodName)) ∈ lw_all := lw_g (lw_at lw_m3 40 rfl) rfl
theorem q580 : (Jvm.Cond.code ({ cls := "ScopeTasks$Reader", name := "due", desc := "(Z)I" } : Jvm.MethodName) prog_2_method_4_code (3 : Nat) (Option.some Jvm.ClassFile.FieldType.int)) ∈ lw_all := lw_g (lw_at lw_m3 41 rfl) rfl
theorem q581 : (Jvm.Cond.classLink "ScopeTasks$Reader" (57 : Nat) "ScopeTasks$Wrong") ∈ lw_all := lw_g (lw_at lw_m3 42 rfl) rfl
theorem q620 : (Jvm.Cond.methodLink "ScopeTasks$Reader" (59 : Nat) ({ cls := "ScopeTasks$Wrong", name := "<init>", desc := "(I)V" } : Jvm.MethodName)) ∈ lw_all := lw_g (lw_at lw_m3 81 rfl) rfl
theorem q649 : (Jvm.Cond.methodLink "ScopeTasks$Reader" (132 : Nat) ({ cls := "ScopeTasks$Reader", name := "item", desc := "(I)V" } : Jvm.MethodName)) ∈ lw_all := lw_g (lw_at lw_m3 110 rfl) rfl
theorem q650 : (Jvm.Cond.privateMethod ({ cls := "ScopeTasks$Reader", name := "item", desc := "(I)V" } : Jvm.MethodName)) ∈ lw_tbl := lw_at lw_m3 111 rfl
theorem q651 : (Jvm.Cond.instanceMethod ({ cls := "ScopeTasks$Reader", name := "item", desc := "(I)V" } : Jvm.MethodName)) ∈ lw_all := lw_g (lw_at lw_m3 112 rfl) rfl
theorem q652 : (Jvm.Cond.code ({ cls := "ScopeTasks$Reader", name := "item", desc := "(I)V" } : Jvm.MethodName) prog_2_method_8_code (3 : Nat) (Option.none : Option Jvm.ClassFile.FieldType)) ∈ lw_all := lw_g (lw_at lw_m3 113 rfl) rfl
theorem q653 : (Jvm.Cond.methodLink "ScopeTasks$Reader" (95 : Nat) ({ cls := "ScopeTasks$Reader", name := "program", desc := "(I)V" } : Jvm.MethodName)) ∈ lw_all := lw_g (lw_at lw_m3 114 rfl) rfl
theorem q654 : (Jvm.Cond.privateMethod ({ cls := "ScopeTasks$Reader", name := "program", desc := "(I)V" } : Jvm.MethodName)) ∈ lw_tbl := lw_at lw_m3 115 rfl
theorem q655 : (Jvm.Cond.instanceMethod ({ cls := "ScopeTasks$Reader", name := "program", desc := "(I)V" } : Jvm.MethodName)) ∈ lw_all := lw_g (lw_at lw_m3 116 rfl) rfl
theorem q656 : (Jvm.Cond.code ({ cls := "ScopeTasks$Reader", name := "program", desc := "(I)V" } : Jvm.MethodName) prog_2_method_7_code (5 : Nat) (Option.none : Option Jvm.ClassFile.FieldType)) ∈ lw_all := lw_g (lw_at lw_m3 117 rfl) rfl
theorem q657 : (Jvm.Cond.methodLink "ScopeTasks$Reader" (78 : Nat) ({ cls := "ScopeTasks$Tree", name := "add", desc := "(I)I" } : Jvm.MethodName)) ∈ lw_all := lw_g (lw_at lw_m3 118 rfl) rfl
theorem q658 : (Jvm.Cond.methodLink "ScopeTasks$Reader" (92 : Nat) ({ cls := "ScopeTasks$Reader", name := "number", desc := "(II)I" } : Jvm.MethodName)) ∈ lw_all := lw_g (lw_at lw_m3 119 rfl) rfl
theorem q659 : (Jvm.Cond.privateMethod ({ cls := "ScopeTasks$Reader", name := "number", desc := "(II)I" } : Jvm.MethodName)) ∈ lw_tbl := lw_at lw_m3 120 rfl
theorem q660 : (Jvm.Cond.instanceMethod ({ cls := "ScopeTasks$Reader", name := "number", desc := "(II)I" } : Jvm.MethodName)) ∈ lw_all := lw_g (lw_at lw_m3 121 rfl) rfl
theorem q661 : (Jvm.Cond.code ({ cls := "ScopeTasks$Reader", name := "number", desc := "(II)I" } : Jvm.MethodName) prog_2_method_5_code (3 : Nat) (Option.some Jvm.ClassFile.FieldType.int)) ∈ lw_all := lw_g (lw_at lw_m3 122 rfl) rfl
theorem q662 : (Jvm.Cond.methodLink "ScopeTasks$Reader" (98 : Nat) ({ cls := "ScopeTasks$Reader", name := "told", desc := "()I" } : Jvm.MethodName)) ∈ lw_all := lw_g (lw_at lw_m3 123 rfl) rfl
theorem q663 : (Jvm.Cond.privateMethod ({ cls := "ScopeTasks$Reader", name := "told", desc := "()I" } : Jvm.MethodName)) ∈ lw_tbl := lw_at lw_m3 124 rfl
theorem q664 : (Jvm.Cond.instanceMethod ({ cls := "ScopeTasks$Reader", name := "told", desc := "()I" } : Jvm.MethodName)) ∈ lw_all := lw_g (lw_at lw_m3 125 rfl) rfl
theorem q665 : (Jvm.Cond.code ({ cls := "ScopeTasks$Reader", name := "told", desc := "()I" } : Jvm.MethodName) prog_2_method_6_code (1 : Nat) (Option.some Jvm.ClassFile.FieldType.int)) ∈ lw_all := lw_g (lw_at lw_m3 126 rfl) rfl
theorem q666 : (Jvm.Cond.methodLink "ScopeTasks$Reader" (114 : Nat) ({ cls := "java/util/BitSet", name := "get", desc := "(I)Z" } : Jvm.MethodName)) ∈ lw_all := lw_g (lw_at lw_m3 127 rfl) rfl
theorem q670 : (Jvm.Cond.methodLink "ScopeTasks$Reader" (120 : Nat) ({ cls := "java/util/BitSet", name := "set", desc := "(I)V" } : Jvm.MethodName)) ∈ lw_all := lw_g (lw_at lw_m3 131 rfl) rfl
theorem q1253 : (Jvm.Cond.castable "ScopeTasks$Reader" "java/lang/Object") ∈ lw_tbl := lw_at lw_m5 234 rfl
theorem in_X4 : ∀ w ∈ wsX40, w ∈ lw_all := lw_in wsX40 [462, 464, 466, 468, 470, 472] (by decide +kernel) (by decide +kernel)
/-! ScopeTasks$Wrong -/
set_option maxRecDepth 100000
def RX5 : String := "ScopeTasks$Wrong"
def TX5 : u_T := fun k => match k with
  | 0 => ("java/lang/Throwable", "cause", "Ljava/lang/Throwable;", false)
  | 1 => ("java/lang/Throwable", "stackTrace", "[Ljava/lang/StackTraceElement;", false)
  | 2 => ("java/lang/Throwable", "suppressedExceptions", "Ljava/util/List;", false)
  | 3 => ("java/lang/Throwable", "detailMessage", "Ljava/lang/String;", false)
  | 4 => ("java/lang/Throwable", "backtrace", "Ljava/lang/Object;", false)
  | 5 => ("java/lang/Throwable", "depth", "I", false)
  | _ => ("ScopeTasks$Wrong", "at", "I", true)
def tyX5 : Nat → FieldType := fun k => match k with
  | 0 => .object "java/lang/Throwable"
  | 1 => .array (.object "java/lang/StackTraceElement")
  | 2 => .object "java/util/List"
  | 3 => .object "java/lang/String"
  | 4 => .object "java/lang/Object"
  | 5 => .int
  | _ => .int
abbrev wsX50 : List Cond := u_ws RX5 TX5 7
theorem nmX5 : ∀ a, a < 7 → ∀ b, b < 7 → a ≠ b → (TX5 a).2.1 ≠ (TX5 b).2.1 := by decide +kernel
theorem tyX5_ok : ∀ k, k < 7 → parseFieldDescriptor (TX5 k).2.2.1 = some (tyX5 k) := by decide +kernel
abbrev cX5_init : ByteArray := prog_5_method_1_code
def yX5_init : MethodName := ⟨RX5, "<init>", "(I)V"⟩
def dkwX5_init_0 : List UInt8 := [42, 1, 1, 3, 3, 183, 0, 1, 42, 27, 181, 0, 7, 177]
abbrev dktX5_init_0 : List UInt8 := dkwX5_init_0 ++ []
theorem dksX5_init_0 : cX5_init.data.toList.drop 0 = dktX5_init_0 := by decide +kernel
theorem dX5_init_0 : decode cX5_init 0 = .ok (.aload_n 0, 1) := dk_42 (dk_at dksX5_init_0 0 rfl rfl)
theorem dX5_init_1 : decode cX5_init 1 = .ok (.aconst_null, 1) := dk_1 (dk_at dksX5_init_0 1 rfl rfl)
theorem dX5_init_2 : decode cX5_init 2 = .ok (.aconst_null, 1) := dk_1 (dk_at dksX5_init_0 2 rfl rfl)
theorem dX5_init_3 : decode cX5_init 3 = .ok (.iconst 0, 1) := dk_3 (dk_at dksX5_init_0 3 rfl rfl)
theorem dX5_init_4 : decode cX5_init 4 = .ok (.iconst 0, 1) := dk_3 (dk_at dksX5_init_0 4 rfl rfl)
theorem dX5_init_5 : decode cX5_init 5 = .ok (.invokespecial 1, 3) := dk_183 0 1 (dk_at dksX5_init_0 5 rfl rfl)
theorem dX5_init_8 : decode cX5_init 8 = .ok (.aload_n 0, 1) := dk_42 (dk_at dksX5_init_0 8 rfl rfl)
theorem dX5_init_9 : decode cX5_init 9 = .ok (.iload_n 1, 1) := dk_27 (dk_at dksX5_init_0 9 rfl rfl)
theorem dX5_init_10 : decode cX5_init 10 = .ok (.putfield 7, 3) := dk_181 0 7 (dk_at dksX5_init_0 10 rfl rfl)
theorem dX5_init_13 : decode cX5_init 13 = .ok (.return_, 1) := dk_177 (dk_at dksX5_init_0 13 rfl rfl)
theorem q79 : (Jvm.Cond.initialized "ScopeTasks$Wrong") ∈ lw_all := lw_g (lw_at lw_m1 20 rfl) rfl
theorem q305 : (Jvm.Cond.selects "ScopeTasks$Wrong" ({ cls := "java/lang/Object", name := "getClass", desc := "()Ljava/lang/Class;" } : Jvm.MethodName) ({ cls := "java/lang/Object", name := "getClass", desc := "()Ljava/lang/Class;" } : Jvm.MethodName)) ∈ lw_all := lw_g (lw_at lw_m2 6 rfl) rfl
theorem q582 : (Jvm.Cond.instantiable "ScopeTasks$Wrong" (7 : Nat)) ∈ lw_all := lw_g (lw_at lw_m3 43 rfl) rfl
theorem q583 : (Jvm.Cond.castable "ScopeTasks$Wrong" "ScopeTasks$Wrong") ∈ lw_tbl := lw_at lw_m3 44 rfl
theorem q590 : (Jvm.Cond.selects "ScopeTasks$Wrong" ({ cls := "java/lang/Throwable", name := "fillInStackTrace", desc := "(I)Ljava/lang/Throwable;" } : Jvm.MethodName) ({ cls := "java/lang/Throwable", name := "fillInStackTrace", desc := "(I)Ljava/lang/Throwable;" } : Jvm.MethodName)) ∈ lw_all := lw_g (lw_at lw_m3 51 rfl) rfl
theorem q591 : (Jvm.Cond.selects "ScopeTasks$Wrong" ({ cls := "java/lang/Throwable", name := "fillInStackTrace", desc := "()Ljava/lang/Throwable;" } : Jvm.MethodName) ({ cls := "java/lang/Throwable", name := "fillInStackTrace", desc := "()Ljava/lang/Throwable;" } : Jvm.MethodName)) ∈ lw_all := lw_g (lw_at lw_m3 52 rfl) rfl
theorem q592 : (Jvm.Cond.lays "ScopeTasks$Wrong" "java/lang/Throwable" "cause" "Ljava/lang/Throwable;") ∈ lw_all := lw_g (lw_at lw_m3 53 rfl) rfl
theorem q594 : (Jvm.Cond.lays "ScopeTasks$Wrong" "java/lang/Throwable" "stackTrace" "[Ljava/lang/StackTraceElement;") ∈ lw_all := lw_g (lw_at lw_m3 55 rfl) rfl
theorem q596 : (Jvm.Cond.lays "ScopeTasks$Wrong" "java/lang/Throwable" "suppressedExceptions" "Ljava/util/List;") ∈ lw_all := lw_g (lw_at lw_m3 57 rfl) rfl
theorem q598 : (Jvm.Cond.lays "ScopeTasks$Wrong" "java/lang/Throwable" "detailMessage" "Ljava/lang/String;") ∈ lw_all := lw_g (lw_at lw_m3 59 rfl) rfl
theorem q600 : (Jvm.Cond.lays "ScopeTasks$Wrong" "java/lang/Throwable" "backtrace" "Ljava/lang/Object;") ∈ lw_all := lw_g (lw_at lw_m3 61 rfl) rfl
theorem q621 : (Jvm.Cond.instanceMethod ({ cls := "ScopeTasks$Wrong", name := "<init>", desc := "(I)V" } : Jvm.MethodName)) ∈ lw_all := lw_g (lw_at lw_m3 82 rfl) rfl
theorem q622 : (Jvm.Cond.code ({ cls := "ScopeTasks$Wrong", name := "<init>", desc := "(I)V" } : Jvm.MethodName) prog_5_method_1_code (2 : Nat) (Option.none : Option Jvm.ClassFile.FieldType)) ∈ lw_all := lw_g (lw_at lw_m3 83 rfl) rfl
theorem q623 : (Jvm.Cond.methodLink "ScopeTasks$Wrong" (1 : Nat) ({ cls := "java/lang/RuntimeException", name := "<init>", desc := "(Ljava/lang/String;Ljava/lang/Throwable;ZZ)V" } : Jvm.MethodName)) ∈ lw_all := lw_g (lw_at lw_m3 84 rfl) rfl
theorem q632 : (Jvm.Cond.fieldLink "ScopeTasks$Wrong" (7 : Nat) "ScopeTasks$Wrong" "at" "I") ∈ lw_all := lw_g (lw_at lw_m3 93 rfl) rfl
theorem q639 : (Jvm.Cond.laysFinal "ScopeTasks$Wrong" "ScopeTasks$Wrong" "at" "I") ∈ lw_all := lw_g (lw_at lw_m3 100 rfl) rfl
theorem q640 : (Jvm.Cond.soleField "ScopeTasks$Wrong" "at") ∈ lw_all := lw_g (lw_at lw_m3 101 rfl) rfl
theorem q645 : (Jvm.Cond.lays "ScopeTasks$Wrong" "java/lang/Throwable" "depth" "I") ∈ lw_all := lw_g (lw_at lw_m3 106 rfl) rfl
theorem q648 : (Jvm.Cond.superclass "ScopeTasks$Wrong" "java/lang/RuntimeException") ∈ lw_all := lw_g (lw_at lw_m3 109 rfl) rfl
theorem q1254 : (Jvm.Cond.castable "ScopeTasks$Wrong" "java/lang/Object") ∈ lw_tbl := lw_at lw_m5 235 rfl
theorem in_X5 : ∀ w ∈ wsX50, w ∈ lw_all := lw_in wsX50 [592, 594, 596, 598, 600, 645, 639] (by decide +kernel) (by decide +kernel)
