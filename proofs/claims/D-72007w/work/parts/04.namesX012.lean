/-! ScopeTasks -/
set_option maxRecDepth 100000
def RX0 : String := "ScopeTasks"
def TX0 : u_T := fun k => match k with
  | 0 => ("ScopeTasks", "tree", "LScopeTasks$Tree;", true)
  | 1 => ("ScopeTasks", "draft", "LScopeTasks$Tree;", true)
  | 2 => ("ScopeTasks", "turns", "Ljava/util/ArrayDeque;", true)
  | 3 => ("ScopeTasks", "now", "LScopeTasks$Run;", true)
  | 4 => ("ScopeTasks", "tried", "LScopeTasks$Run;", true)
  | 5 => ("ScopeTasks", "before", "Ljava/util/ArrayDeque;", true)
  | 6 => ("ScopeTasks", "free", "Ljava/util/ArrayDeque;", true)
  | 7 => ("ScopeTasks", "images", "[LScopeTasks$Run;", true)
  | 8 => ("ScopeTasks", "isKept", "[Z", true)
  | 9 => ("ScopeTasks", "text", "[B", true)
  | 10 => ("ScopeTasks", "typed", "I", false)
  | 11 => ("ScopeTasks", "factOf", "[I", true)
  | 12 => ("ScopeTasks", "factAt", "[I", true)
  | 13 => ("ScopeTasks", "factIs", "[I", true)
  | _ => ("ScopeTasks", "facts", "I", false)
def tyX0 : Nat → FieldType := fun k => match k with
  | 0 => .object "ScopeTasks$Tree"
  | 1 => .object "ScopeTasks$Tree"
  | 2 => .object "java/util/ArrayDeque"
  | 3 => .object "ScopeTasks$Run"
  | 4 => .object "ScopeTasks$Run"
  | 5 => .object "java/util/ArrayDeque"
  | 6 => .object "java/util/ArrayDeque"
  | 7 => .array (.object "ScopeTasks$Run")
  | 8 => .array .boolean
  | 9 => .array .byte
  | 10 => .int
  | 11 => .array .int
  | 12 => .array .int
  | 13 => .array .int
  | _ => .int
abbrev wsX00 : List Cond := u_ws RX0 TX0 15
set_option maxRecDepth 100000 in
theorem nmX0 : ∀ a, a < 15 → ∀ b, b < 15 → a ≠ b → (TX0 a).2.1 ≠ (TX0 b).2.1 := by decide +kernel
set_option maxRecDepth 100000 in
theorem tyX0_ok : ∀ k, k < 15 → parseFieldDescriptor (TX0 k).2.2.1 = some (tyX0 k) := by decide +kernel
abbrev cX0_init : ByteArray := prog_1_method_4_code
def yX0_init : MethodName := ⟨RX0, "<init>", "()V"⟩
def dkwX0_init_9 : List UInt8 := [182, 0, 97, 177]
abbrev dktX0_init_9 : List UInt8 := dkwX0_init_9 ++ []
def dkwX0_init_8 : List UInt8 := [167, 255, 231, 42, 180, 0, 46, 182, 0, 91, 42, 180, 0, 46, 16, 247, 182, 0, 94, 87, 42, 180, 0, 25]
abbrev dktX0_init_8 : List UInt8 := dkwX0_init_8 ++ dktX0_init_9
def dkwX0_init_7 : List UInt8 := [162, 0, 25, 42, 180, 0, 1, 187, 0, 20, 89, 42, 183, 0, 59, 182, 0, 87, 87, 132, 1, 1]
abbrev dktX0_init_7 : List UInt8 := dkwX0_init_7 ++ dktX0_init_8
def dkwX0_init_6 : List UInt8 := [181, 0, 77, 42, 16, 6, 188, 10, 181, 0, 81, 42, 16, 6, 188, 10, 181, 0, 84, 3, 60, 27, 16, 12]
abbrev dktX0_init_6 : List UInt8 := dkwX0_init_6 ++ dktX0_init_7
def dkwX0_init_5 : List UInt8 := [83, 181, 0, 65, 42, 5, 188, 4, 181, 0, 69, 42, 16, 120, 188, 8, 181, 0, 73, 42, 16, 6, 188, 10]
abbrev dktX0_init_5 : List UInt8 := dkwX0_init_5 ++ dktX0_init_6
def dkwX0_init_4 : List UInt8 := [189, 0, 20, 89, 3, 187, 0, 20, 89, 42, 183, 0, 59, 83, 89, 4, 187, 0, 20, 89, 42, 183, 0, 59]
abbrev dktX0_init_4 : List UInt8 := dkwX0_init_4 ++ dktX0_init_5
def dkwX0_init_3 : List UInt8 := [16, 14, 183, 0, 53, 181, 0, 13, 42, 187, 0, 8, 89, 16, 14, 183, 0, 53, 181, 0, 1, 42, 5]
abbrev dktX0_init_3 : List UInt8 := dkwX0_init_3 ++ dktX0_init_4
def dkwX0_init_2 : List UInt8 := [183, 0, 59, 181, 0, 25, 42, 187, 0, 20, 89, 42, 183, 0, 59, 181, 0, 62, 42, 187, 0, 8, 89]
abbrev dktX0_init_2 : List UInt8 := dkwX0_init_2 ++ dktX0_init_3
def dkwX0_init_1 : List UInt8 := [181, 0, 50, 42, 187, 0, 8, 89, 16, 16, 183, 0, 53, 181, 0, 56, 42, 187, 0, 20, 89, 42]
abbrev dktX0_init_1 : List UInt8 := dkwX0_init_1 ++ dktX0_init_2
def dkwX0_init_0 : List UInt8 := [42, 183, 0, 37, 42, 187, 0, 43, 89, 183, 0, 45, 181, 0, 46, 42, 187, 0, 43, 89, 183, 0, 45]
abbrev dktX0_init_0 : List UInt8 := dkwX0_init_0 ++ dktX0_init_1
theorem dksX0_init_0 : cX0_init.data.toList.drop 0 = dktX0_init_0 := by decide +kernel
theorem dksX0_init_1 : cX0_init.data.toList.drop 23 = dktX0_init_1 := dk_seg dksX0_init_0 23 rfl rfl
theorem dksX0_init_2 : cX0_init.data.toList.drop 45 = dktX0_init_2 := dk_seg dksX0_init_1 22 rfl rfl
theorem dksX0_init_3 : cX0_init.data.toList.drop 68 = dktX0_init_3 := dk_seg dksX0_init_2 23 rfl rfl
theorem dksX0_init_4 : cX0_init.data.toList.drop 91 = dktX0_init_4 := dk_seg dksX0_init_3 23 rfl rfl
theorem dksX0_init_5 : cX0_init.data.toList.drop 115 = dktX0_init_5 := dk_seg dksX0_init_4 24 rfl rfl
theorem dksX0_init_6 : cX0_init.data.toList.drop 139 = dktX0_init_6 := dk_seg dksX0_init_5 24 rfl rfl
theorem dksX0_init_7 : cX0_init.data.toList.drop 163 = dktX0_init_7 := dk_seg dksX0_init_6 24 rfl rfl
theorem dksX0_init_8 : cX0_init.data.toList.drop 185 = dktX0_init_8 := dk_seg dksX0_init_7 22 rfl rfl
theorem dksX0_init_9 : cX0_init.data.toList.drop 209 = dktX0_init_9 := dk_seg dksX0_init_8 24 rfl rfl
theorem dX0_init_0 : decode cX0_init 0 = .ok (.aload_n 0, 1) := dk_42 (dk_at dksX0_init_0 0 rfl rfl)
theorem dX0_init_1 : decode cX0_init 1 = .ok (.invokespecial 37, 3) := dk_183 0 37 (dk_at dksX0_init_0 1 rfl rfl)
theorem dX0_init_4 : decode cX0_init 4 = .ok (.aload_n 0, 1) := dk_42 (dk_at dksX0_init_0 4 rfl rfl)
theorem dX0_init_5 : decode cX0_init 5 = .ok (.new 43, 3) := dk_187 0 43 (dk_at dksX0_init_0 5 rfl rfl)
theorem dX0_init_8 : decode cX0_init 8 = .ok (.dup, 1) := dk_89 (dk_at dksX0_init_0 8 rfl rfl)
theorem dX0_init_9 : decode cX0_init 9 = .ok (.invokespecial 45, 3) := dk_183 0 45 (dk_at dksX0_init_0 9 rfl rfl)
theorem dX0_init_12 : decode cX0_init 12 = .ok (.putfield 46, 3) := dk_181 0 46 (dk_at dksX0_init_0 12 rfl rfl)
theorem dX0_init_15 : decode cX0_init 15 = .ok (.aload_n 0, 1) := dk_42 (dk_at dksX0_init_0 15 rfl rfl)
theorem dX0_init_16 : decode cX0_init 16 = .ok (.new 43, 3) := dk_187 0 43 (dk_at dksX0_init_0 16 rfl rfl)
theorem dX0_init_19 : decode cX0_init 19 = .ok (.dup, 1) := dk_89 (dk_at dksX0_init_0 19 rfl rfl)
theorem dX0_init_20 : decode cX0_init 20 = .ok (.invokespecial 45, 3) := dk_183 0 45 (dk_at dksX0_init_0 20 rfl rfl)
theorem dX0_init_23 : decode cX0_init 23 = .ok (.putfield 50, 3) := dk_181 0 50 (dk_at dksX0_init_1 0 rfl rfl)
theorem dX0_init_26 : decode cX0_init 26 = .ok (.aload_n 0, 1) := dk_42 (dk_at dksX0_init_1 3 rfl rfl)
theorem dX0_init_27 : decode cX0_init 27 = .ok (.new 8, 3) := dk_187 0 8 (dk_at dksX0_init_1 4 rfl rfl)
theorem dX0_init_30 : decode cX0_init 30 = .ok (.dup, 1) := dk_89 (dk_at dksX0_init_1 7 rfl rfl)
theorem dX0_init_31 : decode cX0_init 31 = .ok (.bipush 16, 2) := dk_16 16 (dk_at dksX0_init_1 8 rfl rfl)
theorem dX0_init_33 : decode cX0_init 33 = .ok (.invokespecial 53, 3) := dk_183 0 53 (dk_at dksX0_init_1 10 rfl rfl)
theorem dX0_init_36 : decode cX0_init 36 = .ok (.putfield 56, 3) := dk_181 0 56 (dk_at dksX0_init_1 13 rfl rfl)
theorem dX0_init_39 : decode cX0_init 39 = .ok (.aload_n 0, 1) := dk_42 (dk_at dksX0_init_1 16 rfl rfl)
theorem dX0_init_40 : decode cX0_init 40 = .ok (.new 20, 3) := dk_187 0 20 (dk_at dksX0_init_1 17 rfl rfl)
theorem dX0_init_43 : decode cX0_init 43 = .ok (.dup, 1) := dk_89 (dk_at dksX0_init_1 20 rfl rfl)
theorem dX0_init_44 : decode cX0_init 44 = .ok (.aload_n 0, 1) := dk_42 (dk_at dksX0_init_1 21 rfl rfl)
theorem dX0_init_45 : decode cX0_init 45 = .ok (.invokespecial 59, 3) := dk_183 0 59 (dk_at dksX0_init_2 0 rfl rfl)
theorem dX0_init_48 : decode cX0_init 48 = .ok (.putfield 25, 3) := dk_181 0 25 (dk_at dksX0_init_2 3 rfl rfl)
theorem dX0_init_51 : decode cX0_init 51 = .ok (.aload_n 0, 1) := dk_42 (dk_at dksX0_init_2 6 rfl rfl)
theorem dX0_init_52 : decode cX0_init 52 = .ok (.new 20, 3) := dk_187 0 20 (dk_at dksX0_init_2 7 rfl rfl)
theorem dX0_init_55 : decode cX0_init 55 = .ok (.dup, 1) := dk_89 (dk_at dksX0_init_2 10 rfl rfl)
theorem dX0_init_56 : decode cX0_init 56 = .ok (.aload_n 0, 1) := dk_42 (dk_at dksX0_init_2 11 rfl rfl)
theorem dX0_init_57 : decode cX0_init 57 = .ok (.invokespecial 59, 3) := dk_183 0 59 (dk_at dksX0_init_2 12 rfl rfl)
theorem dX0_init_60 : decode cX0_init 60 = .ok (.putfield 62, 3) := dk_181 0 62 (dk_at dksX0_init_2 15 rfl rfl)
theorem dX0_init_63 : decode cX0_init 63 = .ok (.aload_n 0, 1) := dk_42 (dk_at dksX0_init_2 18 rfl rfl)
theorem dX0_init_64 : decode cX0_init 64 = .ok (.new 8, 3) := dk_187 0 8 (dk_at dksX0_init_2 19 rfl rfl)
theorem dX0_init_67 : decode cX0_init 67 = .ok (.dup, 1) := dk_89 (dk_at dksX0_init_2 22 rfl rfl)
theorem dX0_init_68 : decode cX0_init 68 = .ok (.bipush 14, 2) := dk_16 14 (dk_at dksX0_init_3 0 rfl rfl)
theorem dX0_init_70 : decode cX0_init 70 = .ok (.invokespecial 53, 3) := dk_183 0 53 (dk_at dksX0_init_3 2 rfl rfl)
theorem dX0_init_73 : decode cX0_init 73 = .ok (.putfield 13, 3) := dk_181 0 13 (dk_at dksX0_init_3 5 rfl rfl)
theorem dX0_init_76 : decode cX0_init 76 = .ok (.aload_n 0, 1) := dk_42 (dk_at dksX0_init_3 8 rfl rfl)
theorem dX0_init_77 : decode cX0_init 77 = .ok (.new 8, 3) := dk_187 0 8 (dk_at dksX0_init_3 9 rfl rfl)
theorem dX0_init_80 : decode cX0_init 80 = .ok (.dup, 1) := dk_89 (dk_at dksX0_init_3 12 rfl rfl)
theorem dX0_init_81 : decode cX0_init 81 = .ok (.bipush 14, 2) := dk_16 14 (dk_at dksX0_init_3 13 rfl rfl)
theorem dX0_init_83 : decode cX0_init 83 = .ok (.invokespecial 53, 3) := dk_183 0 53 (dk_at dksX0_init_3 15 rfl rfl)
theorem dX0_init_86 : decode cX0_init 86 = .ok (.putfield 1, 3) := dk_181 0 1 (dk_at dksX0_init_3 18 rfl rfl)
theorem dX0_init_89 : decode cX0_init 89 = .ok (.aload_n 0, 1) := dk_42 (dk_at dksX0_init_3 21 rfl rfl)
theorem dX0_init_90 : decode cX0_init 90 = .ok (.iconst 2, 1) := dk_5 (dk_at dksX0_init_3 22 rfl rfl)
theorem dX0_init_91 : decode cX0_init 91 = .ok (.anewarray 20, 3) := dk_189 0 20 (dk_at dksX0_init_4 0 rfl rfl)
theorem dX0_init_94 : decode cX0_init 94 = .ok (.dup, 1) := dk_89 (dk_at dksX0_init_4 3 rfl rfl)
theorem dX0_init_95 : decode cX0_init 95 = .ok (.iconst 0, 1) := dk_3 (dk_at dksX0_init_4 4 rfl rfl)
theorem dX0_init_96 : decode cX0_init 96 = .ok (.new 20, 3) := dk_187 0 20 (dk_at dksX0_init_4 5 rfl rfl)
theorem dX0_init_99 : decode cX0_init 99 = .ok (.dup, 1) := dk_89 (dk_at dksX0_init_4 8 rfl rfl)
theorem dX0_init_100 : decode cX0_init 100 = .ok (.aload_n 0, 1) := dk_42 (dk_at dksX0_init_4 9 rfl rfl)
theorem dX0_init_101 : decode cX0_init 101 = .ok (.invokespecial 59, 3) := dk_183 0 59 (dk_at dksX0_init_4 10 rfl rfl)
theorem dX0_init_104 : decode cX0_init 104 = .ok (.aastore, 1) := dk_83 (dk_at dksX0_init_4 13 rfl rfl)
theorem dX0_init_105 : decode cX0_init 105 = .ok (.dup, 1) := dk_89 (dk_at dksX0_init_4 14 rfl rfl)
theorem dX0_init_106 : decode cX0_init 106 = .ok (.iconst 1, 1) := dk_4 (dk_at dksX0_init_4 15 rfl rfl)
theorem dX0_init_107 : decode cX0_init 107 = .ok (.new 20, 3) := dk_187 0 20 (dk_at dksX0_init_4 16 rfl rfl)
theorem dX0_init_110 : decode cX0_init 110 = .ok (.dup, 1) := dk_89 (dk_at dksX0_init_4 19 rfl rfl)
theorem dX0_init_111 : decode cX0_init 111 = .ok (.aload_n 0, 1) := dk_42 (dk_at dksX0_init_4 20 rfl rfl)
theorem dX0_init_112 : decode cX0_init 112 = .ok (.invokespecial 59, 3) := dk_183 0 59 (dk_at dksX0_init_4 21 rfl rfl)
theorem dX0_init_115 : decode cX0_init 115 = .ok (.aastore, 1) := dk_83 (dk_at dksX0_init_5 0 rfl rfl)
theorem dX0_init_116 : decode cX0_init 116 = .ok (.putfield 65, 3) := dk_181 0 65 (dk_at dksX0_init_5 1 rfl rfl)
theorem dX0_init_119 : decode cX0_init 119 = .ok (.aload_n 0, 1) := dk_42 (dk_at dksX0_init_5 4 rfl rfl)
theorem dX0_init_120 : decode cX0_init 120 = .ok (.iconst 2, 1) := dk_5 (dk_at dksX0_init_5 5 rfl rfl)
theorem dX0_init_121 : decode cX0_init 121 = .ok (.newarray .boolean, 2) := dk_188_4 (dk_at dksX0_init_5 6 rfl rfl)
theorem dX0_init_123 : decode cX0_init 123 = .ok (.putfield 69, 3) := dk_181 0 69 (dk_at dksX0_init_5 8 rfl rfl)
theorem dX0_init_126 : decode cX0_init 126 = .ok (.aload_n 0, 1) := dk_42 (dk_at dksX0_init_5 11 rfl rfl)
theorem dX0_init_127 : decode cX0_init 127 = .ok (.bipush 120, 2) := dk_16 120 (dk_at dksX0_init_5 12 rfl rfl)
theorem dX0_init_129 : decode cX0_init 129 = .ok (.newarray .byte, 2) := dk_188_8 (dk_at dksX0_init_5 14 rfl rfl)
theorem dX0_init_131 : decode cX0_init 131 = .ok (.putfield 73, 3) := dk_181 0 73 (dk_at dksX0_init_5 16 rfl rfl)
theorem dX0_init_134 : decode cX0_init 134 = .ok (.aload_n 0, 1) := dk_42 (dk_at dksX0_init_5 19 rfl rfl)
theorem dX0_init_135 : decode cX0_init 135 = .ok (.bipush 6, 2) := dk_16 6 (dk_at dksX0_init_5 20 rfl rfl)
theorem dX0_init_137 : decode cX0_init 137 = .ok (.newarray .int, 2) := dk_188_10 (dk_at dksX0_init_5 22 rfl rfl)
theorem dX0_init_139 : decode cX0_init 139 = .ok (.putfield 77, 3) := dk_181 0 77 (dk_at dksX0_init_6 0 rfl rfl)
theorem dX0_init_142 : decode cX0_init 142 = .ok (.aload_n 0, 1) := dk_42 (dk_at dksX0_init_6 3 rfl rfl)
theorem dX0_init_143 : decode cX0_init 143 = .ok (.bipush 6, 2) := dk_16 6 (dk_at dksX0_init_6 4 rfl rfl)
theorem dX0_init_145 : decode cX0_init 145 = .ok (.newarray .int, 2) := dk_188_10 (dk_at dksX0_init_6 6 rfl rfl)
theorem dX0_init_147 : decode cX0_init 147 = .ok (.putfield 81, 3) := dk_181 0 81 (dk_at dksX0_init_6 8 rfl rfl)
theorem dX0_init_150 : decode cX0_init 150 = .ok (.aload_n 0, 1) := dk_42 (dk_at dksX0_init_6 11 rfl rfl)
theorem dX0_init_151 : decode cX0_init 151 = .ok (.bipush 6, 2) := dk_16 6 (dk_at dksX0_init_6 12 rfl rfl)
theorem dX0_init_153 : decode cX0_init 153 = .ok (.newarray .int, 2) := dk_188_10 (dk_at dksX0_init_6 14 rfl rfl)
theorem dX0_init_155 : decode cX0_init 155 = .ok (.putfield 84, 3) := dk_181 0 84 (dk_at dksX0_init_6 16 rfl rfl)
theorem dX0_init_158 : decode cX0_init 158 = .ok (.iconst 0, 1) := dk_3 (dk_at dksX0_init_6 19 rfl rfl)
theorem dX0_init_159 : decode cX0_init 159 = .ok (.istore_n 1, 1) := dk_60 (dk_at dksX0_init_6 20 rfl rfl)
theorem dX0_init_160 : decode cX0_init 160 = .ok (.iload_n 1, 1) := dk_27 (dk_at dksX0_init_6 21 rfl rfl)
theorem dX0_init_161 : decode cX0_init 161 = .ok (.bipush 12, 2) := dk_16 12 (dk_at dksX0_init_6 22 rfl rfl)
theorem dX0_init_163 : decode cX0_init 163 = .ok (.if_icmp .ge 25, 3) := dk_162 0 25 (dk_at dksX0_init_7 0 rfl rfl)
theorem dX0_init_166 : decode cX0_init 166 = .ok (.aload_n 0, 1) := dk_42 (dk_at dksX0_init_7 3 rfl rfl)
theorem dX0_init_167 : decode cX0_init 167 = .ok (.getfield 1, 3) := dk_180 0 1 (dk_at dksX0_init_7 4 rfl rfl)
theorem dX0_init_170 : decode cX0_init 170 = .ok (.new 20, 3) := dk_187 0 20 (dk_at dksX0_init_7 7 rfl rfl)
theorem dX0_init_173 : decode cX0_init 173 = .ok (.dup, 1) := dk_89 (dk_at dksX0_init_7 10 rfl rfl)
theorem dX0_init_174 : decode cX0_init 174 = .ok (.aload_n 0, 1) := dk_42 (dk_at dksX0_init_7 11 rfl rfl)
theorem dX0_init_175 : decode cX0_init 175 = .ok (.invokespecial 59, 3) := dk_183 0 59 (dk_at dksX0_init_7 12 rfl rfl)
theorem dX0_init_178 : decode cX0_init 178 = .ok (.invokevirtual 87, 3) := dk_182 0 87 (dk_at dksX0_init_7 15 rfl rfl)
theorem dX0_init_181 : decode cX0_init 181 = .ok (.pop, 1) := dk_87 (dk_at dksX0_init_7 18 rfl rfl)
theorem dX0_init_182 : decode cX0_init 182 = .ok (.iinc 1 1, 3) := dk_132 1 1 (dk_at dksX0_init_7 19 rfl rfl)
theorem dX0_init_185 : decode cX0_init 185 = .ok (.goto (-25), 3) := dk_167 255 231 (dk_at dksX0_init_8 0 rfl rfl)
theorem dX0_init_188 : decode cX0_init 188 = .ok (.aload_n 0, 1) := dk_42 (dk_at dksX0_init_8 3 rfl rfl)
theorem dX0_init_189 : decode cX0_init 189 = .ok (.getfield 46, 3) := dk_180 0 46 (dk_at dksX0_init_8 4 rfl rfl)
theorem dX0_init_192 : decode cX0_init 192 = .ok (.invokevirtual 91, 3) := dk_182 0 91 (dk_at dksX0_init_8 7 rfl rfl)
theorem dX0_init_195 : decode cX0_init 195 = .ok (.aload_n 0, 1) := dk_42 (dk_at dksX0_init_8 10 rfl rfl)
theorem dX0_init_196 : decode cX0_init 196 = .ok (.getfield 46, 3) := dk_180 0 46 (dk_at dksX0_init_8 11 rfl rfl)
theorem dX0_init_199 : decode cX0_init 199 = .ok (.bipush (-9), 2) := dk_16 247 (dk_at dksX0_init_8 14 rfl rfl)
theorem dX0_init_201 : decode cX0_init 201 = .ok (.invokevirtual 94, 3) := dk_182 0 94 (dk_at dksX0_init_8 16 rfl rfl)
theorem dX0_init_204 : decode cX0_init 204 = .ok (.pop, 1) := dk_87 (dk_at dksX0_init_8 19 rfl rfl)
theorem dX0_init_205 : decode cX0_init 205 = .ok (.aload_n 0, 1) := dk_42 (dk_at dksX0_init_8 20 rfl rfl)
theorem dX0_init_206 : decode cX0_init 206 = .ok (.getfield 25, 3) := dk_180 0 25 (dk_at dksX0_init_8 21 rfl rfl)
theorem dX0_init_209 : decode cX0_init 209 = .ok (.invokevirtual 97, 3) := dk_182 0 97 (dk_at dksX0_init_9 0 rfl rfl)
theorem dX0_init_212 : decode cX0_init 212 = .ok (.return_, 1) := dk_177 (dk_at dksX0_init_9 3 rfl rfl)
abbrev cX0_type : ByteArray := prog_1_method_5_code
def yX0_type : MethodName := ⟨RX0, "type", "(I)I"⟩
def dkwX0_type_2 : List UInt8 := [180, 0, 104, 172]
abbrev dktX0_type_2 : List UInt8 := dkwX0_type_2 ++ []
def dkwX0_type_1 : List UInt8 := [172, 42, 180, 0, 73, 42, 180, 0, 104, 27, 145, 84, 42, 89, 180, 0, 104, 4, 96, 181, 0, 104, 42]
abbrev dktX0_type_1 : List UInt8 := dkwX0_type_1 ++ dktX0_type_2
def dkwX0_type_0 : List UInt8 := [27, 3, 17, 0, 255, 184, 0, 100, 154, 0, 5, 2, 172, 42, 180, 0, 104, 16, 120, 160, 0, 6, 16, 253]
abbrev dktX0_type_0 : List UInt8 := dkwX0_type_0 ++ dktX0_type_1
theorem dksX0_type_0 : cX0_type.data.toList.drop 0 = dktX0_type_0 := by decide +kernel
theorem dksX0_type_1 : cX0_type.data.toList.drop 24 = dktX0_type_1 := dk_seg dksX0_type_0 24 rfl rfl
theorem dksX0_type_2 : cX0_type.data.toList.drop 47 = dktX0_type_2 := dk_seg dksX0_type_1 23 rfl rfl
theorem dX0_type_0 : decode cX0_type 0 = .ok (.iload_n 1, 1) := dk_27 (dk_at dksX0_type_0 0 rfl rfl)
theorem dX0_type_1 : decode cX0_type 1 = .ok (.iconst 0, 1) := dk_3 (dk_at dksX0_type_0 1 rfl rfl)
theorem dX0_type_2 : decode cX0_type 2 = .ok (.sipush 255, 3) := dk_17 0 255 (dk_at dksX0_type_0 2 rfl rfl)
theorem dX0_type_5 : decode cX0_type 5 = .ok (.invokestatic 100, 3) := dk_184 0 100 (dk_at dksX0_type_0 5 rfl rfl)
theorem dX0_type_8 : decode cX0_type 8 = .ok (.ifCond .ne 5, 3) := dk_154 0 5 (dk_at dksX0_type_0 8 rfl rfl)
theorem dX0_type_11 : decode cX0_type 11 = .ok (.iconst (-1), 1) := dk_2 (dk_at dksX0_type_0 11 rfl rfl)
theorem dX0_type_12 : decode cX0_type 12 = .ok (.ireturn, 1) := dk_172 (dk_at dksX0_type_0 12 rfl rfl)
theorem dX0_type_13 : decode cX0_type 13 = .ok (.aload_n 0, 1) := dk_42 (dk_at dksX0_type_0 13 rfl rfl)
theorem dX0_type_14 : decode cX0_type 14 = .ok (.getfield 104, 3) := dk_180 0 104 (dk_at dksX0_type_0 14 rfl rfl)
theorem dX0_type_17 : decode cX0_type 17 = .ok (.bipush 120, 2) := dk_16 120 (dk_at dksX0_type_0 17 rfl rfl)
theorem dX0_type_19 : decode cX0_type 19 = .ok (.if_icmp .ne 6, 3) := dk_160 0 6 (dk_at dksX0_type_0 19 rfl rfl)
theorem dX0_type_22 : decode cX0_type 22 = .ok (.bipush (-3), 2) := dk_16 253 (dk_at dksX0_type_0 22 rfl rfl)
theorem dX0_type_24 : decode cX0_type 24 = .ok (.ireturn, 1) := dk_172 (dk_at dksX0_type_1 0 rfl rfl)
theorem dX0_type_25 : decode cX0_type 25 = .ok (.aload_n 0, 1) := dk_42 (dk_at dksX0_type_1 1 rfl rfl)
theorem dX0_type_26 : decode cX0_type 26 = .ok (.getfield 73, 3) := dk_180 0 73 (dk_at dksX0_type_1 2 rfl rfl)
theorem dX0_type_29 : decode cX0_type 29 = .ok (.aload_n 0, 1) := dk_42 (dk_at dksX0_type_1 5 rfl rfl)
theorem dX0_type_30 : decode cX0_type 30 = .ok (.getfield 104, 3) := dk_180 0 104 (dk_at dksX0_type_1 6 rfl rfl)
theorem dX0_type_33 : decode cX0_type 33 = .ok (.iload_n 1, 1) := dk_27 (dk_at dksX0_type_1 9 rfl rfl)
theorem dX0_type_34 : decode cX0_type 34 = .ok (.i2b, 1) := dk_145 (dk_at dksX0_type_1 10 rfl rfl)
theorem dX0_type_35 : decode cX0_type 35 = .ok (.bastore, 1) := dk_84 (dk_at dksX0_type_1 11 rfl rfl)
theorem dX0_type_36 : decode cX0_type 36 = .ok (.aload_n 0, 1) := dk_42 (dk_at dksX0_type_1 12 rfl rfl)
theorem dX0_type_37 : decode cX0_type 37 = .ok (.dup, 1) := dk_89 (dk_at dksX0_type_1 13 rfl rfl)
theorem dX0_type_38 : decode cX0_type 38 = .ok (.getfield 104, 3) := dk_180 0 104 (dk_at dksX0_type_1 14 rfl rfl)
theorem dX0_type_41 : decode cX0_type 41 = .ok (.iconst 1, 1) := dk_4 (dk_at dksX0_type_1 17 rfl rfl)
theorem dX0_type_42 : decode cX0_type 42 = .ok (.iadd, 1) := dk_96 (dk_at dksX0_type_1 18 rfl rfl)
theorem dX0_type_43 : decode cX0_type 43 = .ok (.putfield 104, 3) := dk_181 0 104 (dk_at dksX0_type_1 19 rfl rfl)
theorem dX0_type_46 : decode cX0_type 46 = .ok (.aload_n 0, 1) := dk_42 (dk_at dksX0_type_1 22 rfl rfl)
theorem dX0_type_47 : decode cX0_type 47 = .ok (.getfield 104, 3) := dk_180 0 104 (dk_at dksX0_type_2 0 rfl rfl)
theorem dX0_type_50 : decode cX0_type 50 = .ok (.ireturn, 1) := dk_172 (dk_at dksX0_type_2 3 rfl rfl)
abbrev cX0_in : ByteArray := prog_1_method_1_code
def yX0_in : MethodName := ⟨RX0, "in", "(III)Z"⟩
def dkwX0_in_0 : List UInt8 := [26, 27, 161, 0, 12, 26, 28, 163, 0, 7, 4, 167, 0, 4, 3, 172]
abbrev dktX0_in_0 : List UInt8 := dkwX0_in_0 ++ []
theorem dksX0_in_0 : cX0_in.data.toList.drop 0 = dktX0_in_0 := by decide +kernel
theorem dX0_in_0 : decode cX0_in 0 = .ok (.iload_n 0, 1) := dk_26 (dk_at dksX0_in_0 0 rfl rfl)
theorem dX0_in_1 : decode cX0_in 1 = .ok (.iload_n 1, 1) := dk_27 (dk_at dksX0_in_0 1 rfl rfl)
theorem dX0_in_2 : decode cX0_in 2 = .ok (.if_icmp .lt 12, 3) := dk_161 0 12 (dk_at dksX0_in_0 2 rfl rfl)
theorem dX0_in_5 : decode cX0_in 5 = .ok (.iload_n 0, 1) := dk_26 (dk_at dksX0_in_0 5 rfl rfl)
theorem dX0_in_6 : decode cX0_in 6 = .ok (.iload_n 2, 1) := dk_28 (dk_at dksX0_in_0 6 rfl rfl)
theorem dX0_in_7 : decode cX0_in 7 = .ok (.if_icmp .gt 7, 3) := dk_163 0 7 (dk_at dksX0_in_0 7 rfl rfl)
theorem dX0_in_10 : decode cX0_in 10 = .ok (.iconst 1, 1) := dk_4 (dk_at dksX0_in_0 10 rfl rfl)
theorem dX0_in_11 : decode cX0_in 11 = .ok (.goto 4, 3) := dk_167 0 4 (dk_at dksX0_in_0 11 rfl rfl)
theorem dX0_in_14 : decode cX0_in 14 = .ok (.iconst 0, 1) := dk_3 (dk_at dksX0_in_0 14 rfl rfl)
theorem dX0_in_15 : decode cX0_in 15 = .ok (.ireturn, 1) := dk_172 (dk_at dksX0_in_0 15 rfl rfl)
abbrev cX0_clear : ByteArray := prog_1_method_6_code
def yX0_clear : MethodName := ⟨RX0, "clear", "()I"⟩
def dkwX0_clear_0 : List UInt8 := [42, 180, 0, 104, 60, 42, 3, 181, 0, 104, 27, 172]
abbrev dktX0_clear_0 : List UInt8 := dkwX0_clear_0 ++ []
theorem dksX0_clear_0 : cX0_clear.data.toList.drop 0 = dktX0_clear_0 := by decide +kernel
theorem dX0_clear_0 : decode cX0_clear 0 = .ok (.aload_n 0, 1) := dk_42 (dk_at dksX0_clear_0 0 rfl rfl)
theorem dX0_clear_1 : decode cX0_clear 1 = .ok (.getfield 104, 3) := dk_180 0 104 (dk_at dksX0_clear_0 1 rfl rfl)
theorem dX0_clear_4 : decode cX0_clear 4 = .ok (.istore_n 1, 1) := dk_60 (dk_at dksX0_clear_0 4 rfl rfl)
theorem dX0_clear_5 : decode cX0_clear 5 = .ok (.aload_n 0, 1) := dk_42 (dk_at dksX0_clear_0 5 rfl rfl)
theorem dX0_clear_6 : decode cX0_clear 6 = .ok (.iconst 0, 1) := dk_3 (dk_at dksX0_clear_0 6 rfl rfl)
theorem dX0_clear_7 : decode cX0_clear 7 = .ok (.putfield 104, 3) := dk_181 0 104 (dk_at dksX0_clear_0 7 rfl rfl)
theorem dX0_clear_10 : decode cX0_clear 10 = .ok (.iload_n 1, 1) := dk_27 (dk_at dksX0_clear_0 10 rfl rfl)
theorem dX0_clear_11 : decode cX0_clear 11 = .ok (.ireturn, 1) := dk_172 (dk_at dksX0_clear_0 11 rfl rfl)
abbrev cX0_tree : ByteArray := prog_1_method_7_code
def yX0_tree : MethodName := ⟨RX0, "tree", "()I"⟩
def dkwX0_tree_4 : List UInt8 := [180, 0, 131, 172]
abbrev dktX0_tree_4 : List UInt8 := dkwX0_tree_4 ++ []
def dkwX0_tree_3 : List UInt8 := [181, 0, 128, 42, 180, 0, 69, 3, 3, 84, 42, 180, 0, 69, 4, 3, 84, 42, 3, 181, 0, 104, 43]
abbrev dktX0_tree_3 : List UInt8 := dkwX0_tree_3 ++ dktX0_tree_4
def dkwX0_tree_2 : List UInt8 := [180, 0, 46, 42, 180, 0, 50, 182, 0, 122, 42, 180, 0, 25, 182, 0, 97, 42, 182, 0, 125, 42, 3]
abbrev dktX0_tree_2 : List UInt8 := dkwX0_tree_2 ++ dktX0_tree_3
def dkwX0_tree_1 : List UInt8 := [172, 42, 180, 0, 50, 180, 0, 119, 154, 0, 13, 42, 180, 0, 50, 16, 247, 182, 0, 94, 87, 42]
abbrev dktX0_tree_1 : List UInt8 := dkwX0_tree_1 ++ dktX0_tree_2
def dkwX0_tree_0 : List UInt8 := [187, 0, 108, 89, 42, 183, 0, 110, 76, 43, 182, 0, 111, 167, 0, 12, 77, 16, 246, 44, 180, 0, 116, 100]
abbrev dktX0_tree_0 : List UInt8 := dkwX0_tree_0 ++ dktX0_tree_1
theorem dksX0_tree_0 : cX0_tree.data.toList.drop 0 = dktX0_tree_0 := by decide +kernel
theorem dksX0_tree_1 : cX0_tree.data.toList.drop 24 = dktX0_tree_1 := dk_seg dksX0_tree_0 24 rfl rfl
theorem dksX0_tree_2 : cX0_tree.data.toList.drop 46 = dktX0_tree_2 := dk_seg dksX0_tree_1 22 rfl rfl
theorem dksX0_tree_3 : cX0_tree.data.toList.drop 69 = dktX0_tree_3 := dk_seg dksX0_tree_2 23 rfl rfl
theorem dksX0_tree_4 : cX0_tree.data.toList.drop 92 = dktX0_tree_4 := dk_seg dksX0_tree_3 23 rfl rfl
theorem dX0_tree_0 : decode cX0_tree 0 = .ok (.new 108, 3) := dk_187 0 108 (dk_at dksX0_tree_0 0 rfl rfl)
theorem dX0_tree_3 : decode cX0_tree 3 = .ok (.dup, 1) := dk_89 (dk_at dksX0_tree_0 3 rfl rfl)
theorem dX0_tree_4 : decode cX0_tree 4 = .ok (.aload_n 0, 1) := dk_42 (dk_at dksX0_tree_0 4 rfl rfl)
theorem dX0_tree_5 : decode cX0_tree 5 = .ok (.invokespecial 110, 3) := dk_183 0 110 (dk_at dksX0_tree_0 5 rfl rfl)
theorem dX0_tree_8 : decode cX0_tree 8 = .ok (.astore_n 1, 1) := dk_76 (dk_at dksX0_tree_0 8 rfl rfl)
theorem dX0_tree_9 : decode cX0_tree 9 = .ok (.aload_n 1, 1) := dk_43 (dk_at dksX0_tree_0 9 rfl rfl)
theorem dX0_tree_10 : decode cX0_tree 10 = .ok (.invokevirtual 111, 3) := dk_182 0 111 (dk_at dksX0_tree_0 10 rfl rfl)
theorem dX0_tree_13 : decode cX0_tree 13 = .ok (.goto 12, 3) := dk_167 0 12 (dk_at dksX0_tree_0 13 rfl rfl)
theorem dX0_tree_16 : decode cX0_tree 16 = .ok (.astore_n 2, 1) := dk_77 (dk_at dksX0_tree_0 16 rfl rfl)
theorem dX0_tree_17 : decode cX0_tree 17 = .ok (.bipush (-10), 2) := dk_16 246 (dk_at dksX0_tree_0 17 rfl rfl)
theorem dX0_tree_19 : decode cX0_tree 19 = .ok (.aload_n 2, 1) := dk_44 (dk_at dksX0_tree_0 19 rfl rfl)
theorem dX0_tree_20 : decode cX0_tree 20 = .ok (.getfield 116, 3) := dk_180 0 116 (dk_at dksX0_tree_0 20 rfl rfl)
theorem dX0_tree_23 : decode cX0_tree 23 = .ok (.isub, 1) := dk_100 (dk_at dksX0_tree_0 23 rfl rfl)
theorem dX0_tree_24 : decode cX0_tree 24 = .ok (.ireturn, 1) := dk_172 (dk_at dksX0_tree_1 0 rfl rfl)
theorem dX0_tree_25 : decode cX0_tree 25 = .ok (.aload_n 0, 1) := dk_42 (dk_at dksX0_tree_1 1 rfl rfl)
theorem dX0_tree_26 : decode cX0_tree 26 = .ok (.getfield 50, 3) := dk_180 0 50 (dk_at dksX0_tree_1 2 rfl rfl)
theorem dX0_tree_29 : decode cX0_tree 29 = .ok (.getfield 119, 3) := dk_180 0 119 (dk_at dksX0_tree_1 5 rfl rfl)
theorem dX0_tree_32 : decode cX0_tree 32 = .ok (.ifCond .ne 13, 3) := dk_154 0 13 (dk_at dksX0_tree_1 8 rfl rfl)
theorem dX0_tree_35 : decode cX0_tree 35 = .ok (.aload_n 0, 1) := dk_42 (dk_at dksX0_tree_1 11 rfl rfl)
theorem dX0_tree_36 : decode cX0_tree 36 = .ok (.getfield 50, 3) := dk_180 0 50 (dk_at dksX0_tree_1 12 rfl rfl)
theorem dX0_tree_39 : decode cX0_tree 39 = .ok (.bipush (-9), 2) := dk_16 247 (dk_at dksX0_tree_1 15 rfl rfl)
theorem dX0_tree_41 : decode cX0_tree 41 = .ok (.invokevirtual 94, 3) := dk_182 0 94 (dk_at dksX0_tree_1 17 rfl rfl)
theorem dX0_tree_44 : decode cX0_tree 44 = .ok (.pop, 1) := dk_87 (dk_at dksX0_tree_1 20 rfl rfl)
theorem dX0_tree_45 : decode cX0_tree 45 = .ok (.aload_n 0, 1) := dk_42 (dk_at dksX0_tree_1 21 rfl rfl)
theorem dX0_tree_46 : decode cX0_tree 46 = .ok (.getfield 46, 3) := dk_180 0 46 (dk_at dksX0_tree_2 0 rfl rfl)
theorem dX0_tree_49 : decode cX0_tree 49 = .ok (.aload_n 0, 1) := dk_42 (dk_at dksX0_tree_2 3 rfl rfl)
theorem dX0_tree_50 : decode cX0_tree 50 = .ok (.getfield 50, 3) := dk_180 0 50 (dk_at dksX0_tree_2 4 rfl rfl)
theorem dX0_tree_53 : decode cX0_tree 53 = .ok (.invokevirtual 122, 3) := dk_182 0 122 (dk_at dksX0_tree_2 7 rfl rfl)
theorem dX0_tree_56 : decode cX0_tree 56 = .ok (.aload_n 0, 1) := dk_42 (dk_at dksX0_tree_2 10 rfl rfl)
theorem dX0_tree_57 : decode cX0_tree 57 = .ok (.getfield 25, 3) := dk_180 0 25 (dk_at dksX0_tree_2 11 rfl rfl)
theorem dX0_tree_60 : decode cX0_tree 60 = .ok (.invokevirtual 97, 3) := dk_182 0 97 (dk_at dksX0_tree_2 14 rfl rfl)
theorem dX0_tree_63 : decode cX0_tree 63 = .ok (.aload_n 0, 1) := dk_42 (dk_at dksX0_tree_2 17 rfl rfl)
theorem dX0_tree_64 : decode cX0_tree 64 = .ok (.invokevirtual 125, 3) := dk_182 0 125 (dk_at dksX0_tree_2 18 rfl rfl)
theorem dX0_tree_67 : decode cX0_tree 67 = .ok (.aload_n 0, 1) := dk_42 (dk_at dksX0_tree_2 21 rfl rfl)
theorem dX0_tree_68 : decode cX0_tree 68 = .ok (.iconst 0, 1) := dk_3 (dk_at dksX0_tree_2 22 rfl rfl)
theorem dX0_tree_69 : decode cX0_tree 69 = .ok (.putfield 128, 3) := dk_181 0 128 (dk_at dksX0_tree_3 0 rfl rfl)
theorem dX0_tree_72 : decode cX0_tree 72 = .ok (.aload_n 0, 1) := dk_42 (dk_at dksX0_tree_3 3 rfl rfl)
theorem dX0_tree_73 : decode cX0_tree 73 = .ok (.getfield 69, 3) := dk_180 0 69 (dk_at dksX0_tree_3 4 rfl rfl)
theorem dX0_tree_76 : decode cX0_tree 76 = .ok (.iconst 0, 1) := dk_3 (dk_at dksX0_tree_3 7 rfl rfl)
theorem dX0_tree_77 : decode cX0_tree 77 = .ok (.iconst 0, 1) := dk_3 (dk_at dksX0_tree_3 8 rfl rfl)
theorem dX0_tree_78 : decode cX0_tree 78 = .ok (.bastore, 1) := dk_84 (dk_at dksX0_tree_3 9 rfl rfl)
theorem dX0_tree_79 : decode cX0_tree 79 = .ok (.aload_n 0, 1) := dk_42 (dk_at dksX0_tree_3 10 rfl rfl)
theorem dX0_tree_80 : decode cX0_tree 80 = .ok (.getfield 69, 3) := dk_180 0 69 (dk_at dksX0_tree_3 11 rfl rfl)
theorem dX0_tree_83 : decode cX0_tree 83 = .ok (.iconst 1, 1) := dk_4 (dk_at dksX0_tree_3 14 rfl rfl)
theorem dX0_tree_84 : decode cX0_tree 84 = .ok (.iconst 0, 1) := dk_3 (dk_at dksX0_tree_3 15 rfl rfl)
theorem dX0_tree_85 : decode cX0_tree 85 = .ok (.bastore, 1) := dk_84 (dk_at dksX0_tree_3 16 rfl rfl)
theorem dX0_tree_86 : decode cX0_tree 86 = .ok (.aload_n 0, 1) := dk_42 (dk_at dksX0_tree_3 17 rfl rfl)
theorem dX0_tree_87 : decode cX0_tree 87 = .ok (.iconst 0, 1) := dk_3 (dk_at dksX0_tree_3 18 rfl rfl)
theorem dX0_tree_88 : decode cX0_tree 88 = .ok (.putfield 104, 3) := dk_181 0 104 (dk_at dksX0_tree_3 19 rfl rfl)
theorem dX0_tree_91 : decode cX0_tree 91 = .ok (.aload_n 1, 1) := dk_43 (dk_at dksX0_tree_3 22 rfl rfl)
theorem dX0_tree_92 : decode cX0_tree 92 = .ok (.getfield 131, 3) := dk_180 0 131 (dk_at dksX0_tree_4 0 rfl rfl)
theorem dX0_tree_95 : decode cX0_tree 95 = .ok (.ireturn, 1) := dk_172 (dk_at dksX0_tree_4 3 rfl rfl)
abbrev cX0_forgetAll : ByteArray := prog_1_method_3_code
def yX0_forgetAll : MethodName := ⟨RX0, "forgetAll", "()V"⟩
def dkwX0_forgetAll_1 : List UInt8 := [182, 0, 33, 167, 255, 229, 177]
abbrev dktX0_forgetAll_1 : List UInt8 := dkwX0_forgetAll_1 ++ []
def dkwX0_forgetAll_0 : List UInt8 := [42, 180, 0, 13, 182, 0, 7, 154, 0, 23, 42, 180, 0, 1, 42, 180, 0, 13, 182, 0, 22, 192, 0, 20]
abbrev dktX0_forgetAll_0 : List UInt8 := dkwX0_forgetAll_0 ++ dktX0_forgetAll_1
theorem dksX0_forgetAll_0 : cX0_forgetAll.data.toList.drop 0 = dktX0_forgetAll_0 := by decide +kernel
theorem dksX0_forgetAll_1 : cX0_forgetAll.data.toList.drop 24 = dktX0_forgetAll_1 := dk_seg dksX0_forgetAll_0 24 rfl rfl
theorem dX0_forgetAll_0 : decode cX0_forgetAll 0 = .ok (.aload_n 0, 1) := dk_42 (dk_at dksX0_forgetAll_0 0 rfl rfl)
theorem dX0_forgetAll_1 : decode cX0_forgetAll 1 = .ok (.getfield 13, 3) := dk_180 0 13 (dk_at dksX0_forgetAll_0 1 rfl rfl)
theorem dX0_forgetAll_4 : decode cX0_forgetAll 4 = .ok (.invokevirtual 7, 3) := dk_182 0 7 (dk_at dksX0_forgetAll_0 4 rfl rfl)
theorem dX0_forgetAll_7 : decode cX0_forgetAll 7 = .ok (.ifCond .ne 23, 3) := dk_154 0 23 (dk_at dksX0_forgetAll_0 7 rfl rfl)
theorem dX0_forgetAll_10 : decode cX0_forgetAll 10 = .ok (.aload_n 0, 1) := dk_42 (dk_at dksX0_forgetAll_0 10 rfl rfl)
theorem dX0_forgetAll_11 : decode cX0_forgetAll 11 = .ok (.getfield 1, 3) := dk_180 0 1 (dk_at dksX0_forgetAll_0 11 rfl rfl)
theorem dX0_forgetAll_14 : decode cX0_forgetAll 14 = .ok (.aload_n 0, 1) := dk_42 (dk_at dksX0_forgetAll_0 14 rfl rfl)
theorem dX0_forgetAll_15 : decode cX0_forgetAll 15 = .ok (.getfield 13, 3) := dk_180 0 13 (dk_at dksX0_forgetAll_0 15 rfl rfl)
theorem dX0_forgetAll_18 : decode cX0_forgetAll 18 = .ok (.invokevirtual 22, 3) := dk_182 0 22 (dk_at dksX0_forgetAll_0 18 rfl rfl)
theorem dX0_forgetAll_21 : decode cX0_forgetAll 21 = .ok (.checkcast 20, 3) := dk_192 0 20 (dk_at dksX0_forgetAll_0 21 rfl rfl)
theorem dX0_forgetAll_24 : decode cX0_forgetAll 24 = .ok (.invokevirtual 33, 3) := dk_182 0 33 (dk_at dksX0_forgetAll_1 0 rfl rfl)
theorem dX0_forgetAll_27 : decode cX0_forgetAll 27 = .ok (.goto (-27), 3) := dk_167 255 229 (dk_at dksX0_forgetAll_1 3 rfl rfl)
theorem dX0_forgetAll_30 : decode cX0_forgetAll 30 = .ok (.return_, 1) := dk_177 (dk_at dksX0_forgetAll_1 6 rfl rfl)
abbrev cX0_ticks : ByteArray := prog_1_method_9_code
def yX0_ticks : MethodName := ⟨RX0, "ticks", "(I)I"⟩
def dkwX0_ticks_3 : List UInt8 := [132, 2, 1, 167, 255, 227, 42, 180, 0, 25, 180, 0, 137, 172]
abbrev dktX0_ticks_3 : List UInt8 := dkwX0_ticks_3 ++ []
def dkwX0_ticks_2 : List UInt8 := [162, 0, 30, 42, 180, 0, 25, 182, 0, 134, 154, 0, 20, 42, 182, 0, 140, 42, 180, 0, 25, 182, 0, 143]
abbrev dktX0_ticks_2 : List UInt8 := dkwX0_ticks_2 ++ dktX0_ticks_3
def dkwX0_ticks_1 : List UInt8 := [172, 42, 180, 0, 25, 180, 0, 137, 27, 96, 17, 3, 231, 164, 0, 6, 16, 253, 172, 3, 61, 28, 27]
abbrev dktX0_ticks_1 : List UInt8 := dkwX0_ticks_1 ++ dktX0_ticks_2
def dkwX0_ticks_0 : List UInt8 := [27, 4, 16, 12, 184, 0, 100, 154, 0, 5, 2, 172, 42, 180, 0, 25, 182, 0, 134, 153, 0, 6, 16, 254]
abbrev dktX0_ticks_0 : List UInt8 := dkwX0_ticks_0 ++ dktX0_ticks_1
theorem dksX0_ticks_0 : cX0_ticks.data.toList.drop 0 = dktX0_ticks_0 := by decide +kernel
theorem dksX0_ticks_1 : cX0_ticks.data.toList.drop 24 = dktX0_ticks_1 := dk_seg dksX0_ticks_0 24 rfl rfl
theorem dksX0_ticks_2 : cX0_ticks.data.toList.drop 47 = dktX0_ticks_2 := dk_seg dksX0_ticks_1 23 rfl rfl
theorem dksX0_ticks_3 : cX0_ticks.data.toList.drop 71 = dktX0_ticks_3 := dk_seg dksX0_ticks_2 24 rfl rfl
theorem dX0_ticks_0 : decode cX0_ticks 0 = .ok (.iload_n 1, 1) := dk_27 (dk_at dksX0_ticks_0 0 rfl rfl)
theorem dX0_ticks_1 : decode cX0_ticks 1 = .ok (.iconst 1, 1) := dk_4 (dk_at dksX0_ticks_0 1 rfl rfl)
theorem dX0_ticks_2 : decode cX0_ticks 2 = .ok (.bipush 12, 2) := dk_16 12 (dk_at dksX0_ticks_0 2 rfl rfl)
theorem dX0_ticks_4 : decode cX0_ticks 4 = .ok (.invokestatic 100, 3) := dk_184 0 100 (dk_at dksX0_ticks_0 4 rfl rfl)
theorem dX0_ticks_7 : decode cX0_ticks 7 = .ok (.ifCond .ne 5, 3) := dk_154 0 5 (dk_at dksX0_ticks_0 7 rfl rfl)
theorem dX0_ticks_10 : decode cX0_ticks 10 = .ok (.iconst (-1), 1) := dk_2 (dk_at dksX0_ticks_0 10 rfl rfl)
theorem dX0_ticks_11 : decode cX0_ticks 11 = .ok (.ireturn, 1) := dk_172 (dk_at dksX0_ticks_0 11 rfl rfl)
theorem dX0_ticks_12 : decode cX0_ticks 12 = .ok (.aload_n 0, 1) := dk_42 (dk_at dksX0_ticks_0 12 rfl rfl)
theorem dX0_ticks_13 : decode cX0_ticks 13 = .ok (.getfield 25, 3) := dk_180 0 25 (dk_at dksX0_ticks_0 13 rfl rfl)
theorem dX0_ticks_16 : decode cX0_ticks 16 = .ok (.invokevirtual 134, 3) := dk_182 0 134 (dk_at dksX0_ticks_0 16 rfl rfl)
theorem dX0_ticks_19 : decode cX0_ticks 19 = .ok (.ifCond .eq 6, 3) := dk_153 0 6 (dk_at dksX0_ticks_0 19 rfl rfl)
theorem dX0_ticks_22 : decode cX0_ticks 22 = .ok (.bipush (-2), 2) := dk_16 254 (dk_at dksX0_ticks_0 22 rfl rfl)
theorem dX0_ticks_24 : decode cX0_ticks 24 = .ok (.ireturn, 1) := dk_172 (dk_at dksX0_ticks_1 0 rfl rfl)
theorem dX0_ticks_25 : decode cX0_ticks 25 = .ok (.aload_n 0, 1) := dk_42 (dk_at dksX0_ticks_1 1 rfl rfl)
theorem dX0_ticks_26 : decode cX0_ticks 26 = .ok (.getfield 25, 3) := dk_180 0 25 (dk_at dksX0_ticks_1 2 rfl rfl)
theorem dX0_ticks_29 : decode cX0_ticks 29 = .ok (.getfield 137, 3) := dk_180 0 137 (dk_at dksX0_ticks_1 5 rfl rfl)
theorem dX0_ticks_32 : decode cX0_ticks 32 = .ok (.iload_n 1, 1) := dk_27 (dk_at dksX0_ticks_1 8 rfl rfl)
theorem dX0_ticks_33 : decode cX0_ticks 33 = .ok (.iadd, 1) := dk_96 (dk_at dksX0_ticks_1 9 rfl rfl)
theorem dX0_ticks_34 : decode cX0_ticks 34 = .ok (.sipush 999, 3) := dk_17 3 231 (dk_at dksX0_ticks_1 10 rfl rfl)
theorem dX0_ticks_37 : decode cX0_ticks 37 = .ok (.if_icmp .le 6, 3) := dk_164 0 6 (dk_at dksX0_ticks_1 13 rfl rfl)
theorem dX0_ticks_40 : decode cX0_ticks 40 = .ok (.bipush (-3), 2) := dk_16 253 (dk_at dksX0_ticks_1 16 rfl rfl)
theorem dX0_ticks_42 : decode cX0_ticks 42 = .ok (.ireturn, 1) := dk_172 (dk_at dksX0_ticks_1 18 rfl rfl)
theorem dX0_ticks_43 : decode cX0_ticks 43 = .ok (.iconst 0, 1) := dk_3 (dk_at dksX0_ticks_1 19 rfl rfl)
theorem dX0_ticks_44 : decode cX0_ticks 44 = .ok (.istore_n 2, 1) := dk_61 (dk_at dksX0_ticks_1 20 rfl rfl)
theorem dX0_ticks_45 : decode cX0_ticks 45 = .ok (.iload_n 2, 1) := dk_28 (dk_at dksX0_ticks_1 21 rfl rfl)
theorem dX0_ticks_46 : decode cX0_ticks 46 = .ok (.iload_n 1, 1) := dk_27 (dk_at dksX0_ticks_1 22 rfl rfl)
theorem dX0_ticks_47 : decode cX0_ticks 47 = .ok (.if_icmp .ge 30, 3) := dk_162 0 30 (dk_at dksX0_ticks_2 0 rfl rfl)
theorem dX0_ticks_50 : decode cX0_ticks 50 = .ok (.aload_n 0, 1) := dk_42 (dk_at dksX0_ticks_2 3 rfl rfl)
theorem dX0_ticks_51 : decode cX0_ticks 51 = .ok (.getfield 25, 3) := dk_180 0 25 (dk_at dksX0_ticks_2 4 rfl rfl)
theorem dX0_ticks_54 : decode cX0_ticks 54 = .ok (.invokevirtual 134, 3) := dk_182 0 134 (dk_at dksX0_ticks_2 7 rfl rfl)
theorem dX0_ticks_57 : decode cX0_ticks 57 = .ok (.ifCond .ne 20, 3) := dk_154 0 20 (dk_at dksX0_ticks_2 10 rfl rfl)
theorem dX0_ticks_60 : decode cX0_ticks 60 = .ok (.aload_n 0, 1) := dk_42 (dk_at dksX0_ticks_2 13 rfl rfl)
theorem dX0_ticks_61 : decode cX0_ticks 61 = .ok (.invokevirtual 140, 3) := dk_182 0 140 (dk_at dksX0_ticks_2 14 rfl rfl)
theorem dX0_ticks_64 : decode cX0_ticks 64 = .ok (.aload_n 0, 1) := dk_42 (dk_at dksX0_ticks_2 17 rfl rfl)
theorem dX0_ticks_65 : decode cX0_ticks 65 = .ok (.getfield 25, 3) := dk_180 0 25 (dk_at dksX0_ticks_2 18 rfl rfl)
theorem dX0_ticks_68 : decode cX0_ticks 68 = .ok (.invokevirtual 143, 3) := dk_182 0 143 (dk_at dksX0_ticks_2 21 rfl rfl)
theorem dX0_ticks_71 : decode cX0_ticks 71 = .ok (.iinc 2 1, 3) := dk_132 2 1 (dk_at dksX0_ticks_3 0 rfl rfl)
theorem dX0_ticks_74 : decode cX0_ticks 74 = .ok (.goto (-29), 3) := dk_167 255 227 (dk_at dksX0_ticks_3 3 rfl rfl)
theorem dX0_ticks_77 : decode cX0_ticks 77 = .ok (.aload_n 0, 1) := dk_42 (dk_at dksX0_ticks_3 6 rfl rfl)
theorem dX0_ticks_78 : decode cX0_ticks 78 = .ok (.getfield 25, 3) := dk_180 0 25 (dk_at dksX0_ticks_3 7 rfl rfl)
theorem dX0_ticks_81 : decode cX0_ticks 81 = .ok (.getfield 137, 3) := dk_180 0 137 (dk_at dksX0_ticks_3 10 rfl rfl)
theorem dX0_ticks_84 : decode cX0_ticks 84 = .ok (.ireturn, 1) := dk_172 (dk_at dksX0_ticks_3 13 rfl rfl)
abbrev cX0_know : ByteArray := prog_1_method_2_code
def yX0_know : MethodName := ⟨RX0, "know", "()V"⟩
def dkwX0_know_2 : List UInt8 := [182, 0, 33, 177]
abbrev dktX0_know_2 : List UInt8 := dkwX0_know_2 ++ []
def dkwX0_know_1 : List UInt8 := [180, 0, 1, 182, 0, 22, 192, 0, 20, 76, 42, 180, 0, 13, 43, 42, 180, 0, 25, 182, 0, 29]
abbrev dktX0_know_1 : List UInt8 := dkwX0_know_1 ++ dktX0_know_2
def dkwX0_know_0 : List UInt8 := [42, 180, 0, 1, 182, 0, 7, 153, 0, 16, 42, 180, 0, 13, 182, 0, 16, 192, 0, 20, 167, 0, 13, 42]
abbrev dktX0_know_0 : List UInt8 := dkwX0_know_0 ++ dktX0_know_1
theorem dksX0_know_0 : cX0_know.data.toList.drop 0 = dktX0_know_0 := by decide +kernel
theorem dksX0_know_1 : cX0_know.data.toList.drop 24 = dktX0_know_1 := dk_seg dksX0_know_0 24 rfl rfl
theorem dksX0_know_2 : cX0_know.data.toList.drop 46 = dktX0_know_2 := dk_seg dksX0_know_1 22 rfl rfl
theorem dX0_know_0 : decode cX0_know 0 = .ok (.aload_n 0, 1) := dk_42 (dk_at dksX0_know_0 0 rfl rfl)
theorem dX0_know_1 : decode cX0_know 1 = .ok (.getfield 1, 3) := dk_180 0 1 (dk_at dksX0_know_0 1 rfl rfl)
theorem dX0_know_4 : decode cX0_know 4 = .ok (.invokevirtual 7, 3) := dk_182 0 7 (dk_at dksX0_know_0 4 rfl rfl)
theorem dX0_know_7 : decode cX0_know 7 = .ok (.ifCond .eq 16, 3) := dk_153 0 16 (dk_at dksX0_know_0 7 rfl rfl)
theorem dX0_know_10 : decode cX0_know 10 = .ok (.aload_n 0, 1) := dk_42 (dk_at dksX0_know_0 10 rfl rfl)
theorem dX0_know_11 : decode cX0_know 11 = .ok (.getfield 13, 3) := dk_180 0 13 (dk_at dksX0_know_0 11 rfl rfl)
theorem dX0_know_14 : decode cX0_know 14 = .ok (.invokevirtual 16, 3) := dk_182 0 16 (dk_at dksX0_know_0 14 rfl rfl)
theorem dX0_know_17 : decode cX0_know 17 = .ok (.checkcast 20, 3) := dk_192 0 20 (dk_at dksX0_know_0 17 rfl rfl)
theorem dX0_know_20 : decode cX0_know 20 = .ok (.goto 13, 3) := dk_167 0 13 (dk_at dksX0_know_0 20 rfl rfl)
theorem dX0_know_23 : decode cX0_know 23 = .ok (.aload_n 0, 1) := dk_42 (dk_at dksX0_know_0 23 rfl rfl)
theorem dX0_know_24 : decode cX0_know 24 = .ok (.getfield 1, 3) := dk_180 0 1 (dk_at dksX0_know_1 0 rfl rfl)
theorem dX0_know_27 : decode cX0_know 27 = .ok (.invokevirtual 22, 3) := dk_182 0 22 (dk_at dksX0_know_1 3 rfl rfl)
theorem dX0_know_30 : decode cX0_know 30 = .ok (.checkcast 20, 3) := dk_192 0 20 (dk_at dksX0_know_1 6 rfl rfl)
theorem dX0_know_33 : decode cX0_know 33 = .ok (.astore_n 1, 1) := dk_76 (dk_at dksX0_know_1 9 rfl rfl)
theorem dX0_know_34 : decode cX0_know 34 = .ok (.aload_n 0, 1) := dk_42 (dk_at dksX0_know_1 10 rfl rfl)
theorem dX0_know_35 : decode cX0_know 35 = .ok (.getfield 13, 3) := dk_180 0 13 (dk_at dksX0_know_1 11 rfl rfl)
theorem dX0_know_38 : decode cX0_know 38 = .ok (.aload_n 1, 1) := dk_43 (dk_at dksX0_know_1 14 rfl rfl)
theorem dX0_know_39 : decode cX0_know 39 = .ok (.aload_n 0, 1) := dk_42 (dk_at dksX0_know_1 15 rfl rfl)
theorem dX0_know_40 : decode cX0_know 40 = .ok (.getfield 25, 3) := dk_180 0 25 (dk_at dksX0_know_1 16 rfl rfl)
theorem dX0_know_43 : decode cX0_know 43 = .ok (.invokevirtual 29, 3) := dk_182 0 29 (dk_at dksX0_know_1 19 rfl rfl)
theorem dX0_know_46 : decode cX0_know 46 = .ok (.invokevirtual 33, 3) := dk_182 0 33 (dk_at dksX0_know_2 0 rfl rfl)
theorem dX0_know_49 : decode cX0_know 49 = .ok (.return_, 1) := dk_177 (dk_at dksX0_know_2 3 rfl rfl)
abbrev cX0_asks : ByteArray := prog_1_method_10_code
def yX0_asks : MethodName := ⟨RX0, "asks", "(I)I"⟩
def dkwX0_asks_2 : List UInt8 := [180, 0, 25, 180, 0, 159, 27, 182, 0, 162, 42, 180, 0, 25, 180, 0, 165, 27, 46, 172]
abbrev dktX0_asks_2 : List UInt8 := dkwX0_asks_2 ++ []
def dkwX0_asks_1 : List UInt8 := [42, 180, 0, 25, 180, 0, 159, 27, 182, 0, 154, 153, 0, 6, 16, 254, 172, 42, 182, 0, 140, 42]
abbrev dktX0_asks_1 : List UInt8 := dkwX0_asks_1 ++ dktX0_asks_2
def dkwX0_asks_0 : List UInt8 := [42, 27, 182, 0, 146, 154, 0, 5, 2, 172, 42, 180, 0, 25, 180, 0, 150, 27, 182, 0, 154, 153, 0, 17]
abbrev dktX0_asks_0 : List UInt8 := dkwX0_asks_0 ++ dktX0_asks_1
theorem dksX0_asks_0 : cX0_asks.data.toList.drop 0 = dktX0_asks_0 := by decide +kernel
theorem dksX0_asks_1 : cX0_asks.data.toList.drop 24 = dktX0_asks_1 := dk_seg dksX0_asks_0 24 rfl rfl
theorem dksX0_asks_2 : cX0_asks.data.toList.drop 46 = dktX0_asks_2 := dk_seg dksX0_asks_1 22 rfl rfl
theorem dX0_asks_0 : decode cX0_asks 0 = .ok (.aload_n 0, 1) := dk_42 (dk_at dksX0_asks_0 0 rfl rfl)
theorem dX0_asks_1 : decode cX0_asks 1 = .ok (.iload_n 1, 1) := dk_27 (dk_at dksX0_asks_0 1 rfl rfl)
theorem dX0_asks_2 : decode cX0_asks 2 = .ok (.invokevirtual 146, 3) := dk_182 0 146 (dk_at dksX0_asks_0 2 rfl rfl)
theorem dX0_asks_5 : decode cX0_asks 5 = .ok (.ifCond .ne 5, 3) := dk_154 0 5 (dk_at dksX0_asks_0 5 rfl rfl)
theorem dX0_asks_8 : decode cX0_asks 8 = .ok (.iconst (-1), 1) := dk_2 (dk_at dksX0_asks_0 8 rfl rfl)
theorem dX0_asks_9 : decode cX0_asks 9 = .ok (.ireturn, 1) := dk_172 (dk_at dksX0_asks_0 9 rfl rfl)
theorem dX0_asks_10 : decode cX0_asks 10 = .ok (.aload_n 0, 1) := dk_42 (dk_at dksX0_asks_0 10 rfl rfl)
theorem dX0_asks_11 : decode cX0_asks 11 = .ok (.getfield 25, 3) := dk_180 0 25 (dk_at dksX0_asks_0 11 rfl rfl)
theorem dX0_asks_14 : decode cX0_asks 14 = .ok (.getfield 150, 3) := dk_180 0 150 (dk_at dksX0_asks_0 14 rfl rfl)
theorem dX0_asks_17 : decode cX0_asks 17 = .ok (.iload_n 1, 1) := dk_27 (dk_at dksX0_asks_0 17 rfl rfl)
theorem dX0_asks_18 : decode cX0_asks 18 = .ok (.invokevirtual 154, 3) := dk_182 0 154 (dk_at dksX0_asks_0 18 rfl rfl)
theorem dX0_asks_21 : decode cX0_asks 21 = .ok (.ifCond .eq 17, 3) := dk_153 0 17 (dk_at dksX0_asks_0 21 rfl rfl)
theorem dX0_asks_24 : decode cX0_asks 24 = .ok (.aload_n 0, 1) := dk_42 (dk_at dksX0_asks_1 0 rfl rfl)
theorem dX0_asks_25 : decode cX0_asks 25 = .ok (.getfield 25, 3) := dk_180 0 25 (dk_at dksX0_asks_1 1 rfl rfl)
theorem dX0_asks_28 : decode cX0_asks 28 = .ok (.getfield 159, 3) := dk_180 0 159 (dk_at dksX0_asks_1 4 rfl rfl)
theorem dX0_asks_31 : decode cX0_asks 31 = .ok (.iload_n 1, 1) := dk_27 (dk_at dksX0_asks_1 7 rfl rfl)
theorem dX0_asks_32 : decode cX0_asks 32 = .ok (.invokevirtual 154, 3) := dk_182 0 154 (dk_at dksX0_asks_1 8 rfl rfl)
theorem dX0_asks_35 : decode cX0_asks 35 = .ok (.ifCond .eq 6, 3) := dk_153 0 6 (dk_at dksX0_asks_1 11 rfl rfl)
theorem dX0_asks_38 : decode cX0_asks 38 = .ok (.bipush (-2), 2) := dk_16 254 (dk_at dksX0_asks_1 14 rfl rfl)
theorem dX0_asks_40 : decode cX0_asks 40 = .ok (.ireturn, 1) := dk_172 (dk_at dksX0_asks_1 16 rfl rfl)
theorem dX0_asks_41 : decode cX0_asks 41 = .ok (.aload_n 0, 1) := dk_42 (dk_at dksX0_asks_1 17 rfl rfl)
theorem dX0_asks_42 : decode cX0_asks 42 = .ok (.invokevirtual 140, 3) := dk_182 0 140 (dk_at dksX0_asks_1 18 rfl rfl)
theorem dX0_asks_45 : decode cX0_asks 45 = .ok (.aload_n 0, 1) := dk_42 (dk_at dksX0_asks_1 21 rfl rfl)
theorem dX0_asks_46 : decode cX0_asks 46 = .ok (.getfield 25, 3) := dk_180 0 25 (dk_at dksX0_asks_2 0 rfl rfl)
theorem dX0_asks_49 : decode cX0_asks 49 = .ok (.getfield 159, 3) := dk_180 0 159 (dk_at dksX0_asks_2 3 rfl rfl)
theorem dX0_asks_52 : decode cX0_asks 52 = .ok (.iload_n 1, 1) := dk_27 (dk_at dksX0_asks_2 6 rfl rfl)
theorem dX0_asks_53 : decode cX0_asks 53 = .ok (.invokevirtual 162, 3) := dk_182 0 162 (dk_at dksX0_asks_2 7 rfl rfl)
theorem dX0_asks_56 : decode cX0_asks 56 = .ok (.aload_n 0, 1) := dk_42 (dk_at dksX0_asks_2 10 rfl rfl)
theorem dX0_asks_57 : decode cX0_asks 57 = .ok (.getfield 25, 3) := dk_180 0 25 (dk_at dksX0_asks_2 11 rfl rfl)
theorem dX0_asks_60 : decode cX0_asks 60 = .ok (.getfield 165, 3) := dk_180 0 165 (dk_at dksX0_asks_2 14 rfl rfl)
theorem dX0_asks_63 : decode cX0_asks 63 = .ok (.iload_n 1, 1) := dk_27 (dk_at dksX0_asks_2 17 rfl rfl)
theorem dX0_asks_64 : decode cX0_asks 64 = .ok (.iaload, 1) := dk_46 (dk_at dksX0_asks_2 18 rfl rfl)
theorem dX0_asks_65 : decode cX0_asks 65 = .ok (.ireturn, 1) := dk_172 (dk_at dksX0_asks_2 19 rfl rfl)
abbrev cX0_isTask : ByteArray := prog_1_method_8_code
def yX0_isTask : MethodName := ⟨RX0, "isTask", "(I)Z"⟩
def dkwX0_isTask_0 : List UInt8 := [27, 3, 42, 180, 0, 46, 180, 0, 119, 4, 100, 184, 0, 100, 172]
abbrev dktX0_isTask_0 : List UInt8 := dkwX0_isTask_0 ++ []
theorem dksX0_isTask_0 : cX0_isTask.data.toList.drop 0 = dktX0_isTask_0 := by decide +kernel
theorem dX0_isTask_0 : decode cX0_isTask 0 = .ok (.iload_n 1, 1) := dk_27 (dk_at dksX0_isTask_0 0 rfl rfl)
theorem dX0_isTask_1 : decode cX0_isTask 1 = .ok (.iconst 0, 1) := dk_3 (dk_at dksX0_isTask_0 1 rfl rfl)
theorem dX0_isTask_2 : decode cX0_isTask 2 = .ok (.aload_n 0, 1) := dk_42 (dk_at dksX0_isTask_0 2 rfl rfl)
theorem dX0_isTask_3 : decode cX0_isTask 3 = .ok (.getfield 46, 3) := dk_180 0 46 (dk_at dksX0_isTask_0 3 rfl rfl)
theorem dX0_isTask_6 : decode cX0_isTask 6 = .ok (.getfield 119, 3) := dk_180 0 119 (dk_at dksX0_isTask_0 6 rfl rfl)
theorem dX0_isTask_9 : decode cX0_isTask 9 = .ok (.iconst 1, 1) := dk_4 (dk_at dksX0_isTask_0 9 rfl rfl)
theorem dX0_isTask_10 : decode cX0_isTask 10 = .ok (.isub, 1) := dk_100 (dk_at dksX0_isTask_0 10 rfl rfl)
theorem dX0_isTask_11 : decode cX0_isTask 11 = .ok (.invokestatic 100, 3) := dk_184 0 100 (dk_at dksX0_isTask_0 11 rfl rfl)
theorem dX0_isTask_14 : decode cX0_isTask 14 = .ok (.ireturn, 1) := dk_172 (dk_at dksX0_isTask_0 14 rfl rfl)
abbrev cX0_undo : ByteArray := prog_1_method_11_code
def yX0_undo : MethodName := ⟨RX0, "undo", "()I"⟩
def dkwX0_undo_2 : List UInt8 := [172]
abbrev dktX0_undo_2 : List UInt8 := dkwX0_undo_2 ++ []
def dkwX0_undo_1 : List UInt8 := [42, 180, 0, 25, 43, 182, 0, 29, 87, 42, 180, 0, 1, 43, 182, 0, 33, 42, 180, 0, 13, 182, 0, 168]
abbrev dktX0_undo_1 : List UInt8 := dkwX0_undo_1 ++ dktX0_undo_2
def dkwX0_undo_0 : List UInt8 := [42, 180, 0, 13, 182, 0, 7, 153, 0, 6, 16, 254, 172, 42, 180, 0, 13, 182, 0, 22, 192, 0, 20, 76]
abbrev dktX0_undo_0 : List UInt8 := dkwX0_undo_0 ++ dktX0_undo_1
theorem dksX0_undo_0 : cX0_undo.data.toList.drop 0 = dktX0_undo_0 := by decide +kernel
theorem dksX0_undo_1 : cX0_undo.data.toList.drop 24 = dktX0_undo_1 := dk_seg dksX0_undo_0 24 rfl rfl
theorem dksX0_undo_2 : cX0_undo.data.toList.drop 48 = dktX0_undo_2 := dk_seg dksX0_undo_1 24 rfl rfl
theorem dX0_undo_0 : decode cX0_undo 0 = .ok (.aload_n 0, 1) := dk_42 (dk_at dksX0_undo_0 0 rfl rfl)
theorem dX0_undo_1 : decode cX0_undo 1 = .ok (.getfield 13, 3) := dk_180 0 13 (dk_at dksX0_undo_0 1 rfl rfl)
theorem dX0_undo_4 : decode cX0_undo 4 = .ok (.invokevirtual 7, 3) := dk_182 0 7 (dk_at dksX0_undo_0 4 rfl rfl)
theorem dX0_undo_7 : decode cX0_undo 7 = .ok (.ifCond .eq 6, 3) := dk_153 0 6 (dk_at dksX0_undo_0 7 rfl rfl)
theorem dX0_undo_10 : decode cX0_undo 10 = .ok (.bipush (-2), 2) := dk_16 254 (dk_at dksX0_undo_0 10 rfl rfl)
theorem dX0_undo_12 : decode cX0_undo 12 = .ok (.ireturn, 1) := dk_172 (dk_at dksX0_undo_0 12 rfl rfl)
theorem dX0_undo_13 : decode cX0_undo 13 = .ok (.aload_n 0, 1) := dk_42 (dk_at dksX0_undo_0 13 rfl rfl)
theorem dX0_undo_14 : decode cX0_undo 14 = .ok (.getfield 13, 3) := dk_180 0 13 (dk_at dksX0_undo_0 14 rfl rfl)
theorem dX0_undo_17 : decode cX0_undo 17 = .ok (.invokevirtual 22, 3) := dk_182 0 22 (dk_at dksX0_undo_0 17 rfl rfl)
theorem dX0_undo_20 : decode cX0_undo 20 = .ok (.checkcast 20, 3) := dk_192 0 20 (dk_at dksX0_undo_0 20 rfl rfl)
theorem dX0_undo_23 : decode cX0_undo 23 = .ok (.astore_n 1, 1) := dk_76 (dk_at dksX0_undo_0 23 rfl rfl)
theorem dX0_undo_24 : decode cX0_undo 24 = .ok (.aload_n 0, 1) := dk_42 (dk_at dksX0_undo_1 0 rfl rfl)
theorem dX0_undo_25 : decode cX0_undo 25 = .ok (.getfield 25, 3) := dk_180 0 25 (dk_at dksX0_undo_1 1 rfl rfl)
theorem dX0_undo_28 : decode cX0_undo 28 = .ok (.aload_n 1, 1) := dk_43 (dk_at dksX0_undo_1 4 rfl rfl)
theorem dX0_undo_29 : decode cX0_undo 29 = .ok (.invokevirtual 29, 3) := dk_182 0 29 (dk_at dksX0_undo_1 5 rfl rfl)
theorem dX0_undo_32 : decode cX0_undo 32 = .ok (.pop, 1) := dk_87 (dk_at dksX0_undo_1 8 rfl rfl)
theorem dX0_undo_33 : decode cX0_undo 33 = .ok (.aload_n 0, 1) := dk_42 (dk_at dksX0_undo_1 9 rfl rfl)
theorem dX0_undo_34 : decode cX0_undo 34 = .ok (.getfield 1, 3) := dk_180 0 1 (dk_at dksX0_undo_1 10 rfl rfl)
theorem dX0_undo_37 : decode cX0_undo 37 = .ok (.aload_n 1, 1) := dk_43 (dk_at dksX0_undo_1 13 rfl rfl)
theorem dX0_undo_38 : decode cX0_undo 38 = .ok (.invokevirtual 33, 3) := dk_182 0 33 (dk_at dksX0_undo_1 14 rfl rfl)
theorem dX0_undo_41 : decode cX0_undo 41 = .ok (.aload_n 0, 1) := dk_42 (dk_at dksX0_undo_1 17 rfl rfl)
theorem dX0_undo_42 : decode cX0_undo 42 = .ok (.getfield 13, 3) := dk_180 0 13 (dk_at dksX0_undo_1 18 rfl rfl)
theorem dX0_undo_45 : decode cX0_undo 45 = .ok (.invokevirtual 168, 3) := dk_182 0 168 (dk_at dksX0_undo_1 21 rfl rfl)
theorem dX0_undo_48 : decode cX0_undo 48 = .ok (.ireturn, 1) := dk_172 (dk_at dksX0_undo_2 0 rfl rfl)
abbrev cX0_task : ByteArray := prog_1_method_13_code
def yX0_task : MethodName := ⟨RX0, "task", "(II)I"⟩
def dkwX0_task_6 : List UInt8 := [180, 0, 188, 27, 46, 172, 42, 27, 182, 0, 191, 172, 2, 172]
abbrev dktX0_task_6 : List UInt8 := dkwX0_task_6 ++ []
def dkwX0_task_5 : List UInt8 := [180, 0, 25, 180, 0, 159, 27, 182, 0, 154, 153, 0, 7, 4, 167, 0, 4, 3, 172, 42, 180, 0, 25]
abbrev dktX0_task_5 : List UInt8 := dkwX0_task_5 ++ dktX0_task_6
def dkwX0_task_4 : List UInt8 := [46, 18, 187, 160, 0, 8, 16, 247, 167, 0, 12, 42, 180, 0, 25, 180, 0, 184, 27, 46, 172, 42]
abbrev dktX0_task_4 : List UInt8 := dkwX0_task_4 ++ dktX0_task_5
def dkwX0_task_3 : List UInt8 := [180, 0, 181, 27, 46, 172, 42, 180, 0, 25, 180, 0, 165, 27, 46, 172, 42, 180, 0, 25, 180, 0, 184, 27]
abbrev dktX0_task_3 : List UInt8 := dkwX0_task_3 ++ dktX0_task_4
def dkwX0_task_2 : List UInt8 := [42, 180, 0, 46, 180, 0, 172, 27, 46, 172, 42, 180, 0, 25, 27, 182, 0, 178, 172, 42, 180, 0, 25]
abbrev dktX0_task_2 : List UInt8 := dkwX0_task_2 ++ dktX0_task_3
def dkwX0_task_1 : List UInt8 := [170, 0, 0, 0, 149, 0, 0, 0, 0, 0, 0, 0, 7, 0, 0, 0, 45, 0, 0, 0, 55, 0, 0, 0, 64, 0, 0, 0, 74, 0, 0, 0, 84, 0, 0, 0, 113, 0, 0, 0, 133, 0, 0, 0, 143]
abbrev dktX0_task_1 : List UInt8 := dkwX0_task_1 ++ dktX0_task_2
def dkwX0_task_0 : List UInt8 := [42, 27, 182, 0, 146, 154, 0, 5, 2, 172, 28]
abbrev dktX0_task_0 : List UInt8 := dkwX0_task_0 ++ dktX0_task_1
theorem dksX0_task_0 : cX0_task.data.toList.drop 0 = dktX0_task_0 := by decide +kernel
theorem dksX0_task_1 : cX0_task.data.toList.drop 11 = dktX0_task_1 := dk_seg dksX0_task_0 11 rfl rfl
theorem dksX0_task_2 : cX0_task.data.toList.drop 56 = dktX0_task_2 := dk_seg dksX0_task_1 45 rfl rfl
theorem dksX0_task_3 : cX0_task.data.toList.drop 79 = dktX0_task_3 := dk_seg dksX0_task_2 23 rfl rfl
theorem dksX0_task_4 : cX0_task.data.toList.drop 103 = dktX0_task_4 := dk_seg dksX0_task_3 24 rfl rfl
theorem dksX0_task_5 : cX0_task.data.toList.drop 125 = dktX0_task_5 := dk_seg dksX0_task_4 22 rfl rfl
theorem dksX0_task_6 : cX0_task.data.toList.drop 148 = dktX0_task_6 := dk_seg dksX0_task_5 23 rfl rfl
theorem dX0_task_0 : decode cX0_task 0 = .ok (.aload_n 0, 1) := dk_42 (dk_at dksX0_task_0 0 rfl rfl)
theorem dX0_task_1 : decode cX0_task 1 = .ok (.iload_n 1, 1) := dk_27 (dk_at dksX0_task_0 1 rfl rfl)
theorem dX0_task_2 : decode cX0_task 2 = .ok (.invokevirtual 146, 3) := dk_182 0 146 (dk_at dksX0_task_0 2 rfl rfl)
theorem dX0_task_5 : decode cX0_task 5 = .ok (.ifCond .ne 5, 3) := dk_154 0 5 (dk_at dksX0_task_0 5 rfl rfl)
theorem dX0_task_8 : decode cX0_task 8 = .ok (.iconst (-1), 1) := dk_2 (dk_at dksX0_task_0 8 rfl rfl)
theorem dX0_task_9 : decode cX0_task 9 = .ok (.ireturn, 1) := dk_172 (dk_at dksX0_task_0 9 rfl rfl)
theorem dX0_task_10 : decode cX0_task 10 = .ok (.iload_n 2, 1) := dk_28 (dk_at dksX0_task_0 10 rfl rfl)
theorem dX0_task_11 : decode cX0_task 11 = .ok (.tableswitch 149 0 7 #[45, 55, 64, 74, 84, 113, 133, 143], 45) := by decide +kernel
theorem dX0_task_56 : decode cX0_task 56 = .ok (.aload_n 0, 1) := dk_42 (dk_at dksX0_task_2 0 rfl rfl)
theorem dX0_task_57 : decode cX0_task 57 = .ok (.getfield 46, 3) := dk_180 0 46 (dk_at dksX0_task_2 1 rfl rfl)
theorem dX0_task_60 : decode cX0_task 60 = .ok (.getfield 172, 3) := dk_180 0 172 (dk_at dksX0_task_2 4 rfl rfl)
theorem dX0_task_63 : decode cX0_task 63 = .ok (.iload_n 1, 1) := dk_27 (dk_at dksX0_task_2 7 rfl rfl)
theorem dX0_task_64 : decode cX0_task 64 = .ok (.iaload, 1) := dk_46 (dk_at dksX0_task_2 8 rfl rfl)
theorem dX0_task_65 : decode cX0_task 65 = .ok (.ireturn, 1) := dk_172 (dk_at dksX0_task_2 9 rfl rfl)
theorem dX0_task_66 : decode cX0_task 66 = .ok (.aload_n 0, 1) := dk_42 (dk_at dksX0_task_2 10 rfl rfl)
theorem dX0_task_67 : decode cX0_task 67 = .ok (.getfield 25, 3) := dk_180 0 25 (dk_at dksX0_task_2 11 rfl rfl)
theorem dX0_task_70 : decode cX0_task 70 = .ok (.iload_n 1, 1) := dk_27 (dk_at dksX0_task_2 14 rfl rfl)
theorem dX0_task_71 : decode cX0_task 71 = .ok (.invokevirtual 178, 3) := dk_182 0 178 (dk_at dksX0_task_2 15 rfl rfl)
theorem dX0_task_74 : decode cX0_task 74 = .ok (.ireturn, 1) := dk_172 (dk_at dksX0_task_2 18 rfl rfl)
theorem dX0_task_75 : decode cX0_task 75 = .ok (.aload_n 0, 1) := dk_42 (dk_at dksX0_task_2 19 rfl rfl)
theorem dX0_task_76 : decode cX0_task 76 = .ok (.getfield 25, 3) := dk_180 0 25 (dk_at dksX0_task_2 20 rfl rfl)
theorem dX0_task_79 : decode cX0_task 79 = .ok (.getfield 181, 3) := dk_180 0 181 (dk_at dksX0_task_3 0 rfl rfl)
theorem dX0_task_82 : decode cX0_task 82 = .ok (.iload_n 1, 1) := dk_27 (dk_at dksX0_task_3 3 rfl rfl)
theorem dX0_task_83 : decode cX0_task 83 = .ok (.iaload, 1) := dk_46 (dk_at dksX0_task_3 4 rfl rfl)
theorem dX0_task_84 : decode cX0_task 84 = .ok (.ireturn, 1) := dk_172 (dk_at dksX0_task_3 5 rfl rfl)
theorem dX0_task_85 : decode cX0_task 85 = .ok (.aload_n 0, 1) := dk_42 (dk_at dksX0_task_3 6 rfl rfl)
theorem dX0_task_86 : decode cX0_task 86 = .ok (.getfield 25, 3) := dk_180 0 25 (dk_at dksX0_task_3 7 rfl rfl)
theorem dX0_task_89 : decode cX0_task 89 = .ok (.getfield 165, 3) := dk_180 0 165 (dk_at dksX0_task_3 10 rfl rfl)
theorem dX0_task_92 : decode cX0_task 92 = .ok (.iload_n 1, 1) := dk_27 (dk_at dksX0_task_3 13 rfl rfl)
theorem dX0_task_93 : decode cX0_task 93 = .ok (.iaload, 1) := dk_46 (dk_at dksX0_task_3 14 rfl rfl)
theorem dX0_task_94 : decode cX0_task 94 = .ok (.ireturn, 1) := dk_172 (dk_at dksX0_task_3 15 rfl rfl)
theorem dX0_task_95 : decode cX0_task 95 = .ok (.aload_n 0, 1) := dk_42 (dk_at dksX0_task_3 16 rfl rfl)
theorem dX0_task_96 : decode cX0_task 96 = .ok (.getfield 25, 3) := dk_180 0 25 (dk_at dksX0_task_3 17 rfl rfl)
theorem dX0_task_99 : decode cX0_task 99 = .ok (.getfield 184, 3) := dk_180 0 184 (dk_at dksX0_task_3 20 rfl rfl)
theorem dX0_task_102 : decode cX0_task 102 = .ok (.iload_n 1, 1) := dk_27 (dk_at dksX0_task_3 23 rfl rfl)
theorem dX0_task_103 : decode cX0_task 103 = .ok (.iaload, 1) := dk_46 (dk_at dksX0_task_4 0 rfl rfl)
theorem dX0_task_104 : decode cX0_task 104 = .ok (.ldc 187, 2) := dk_18 187 (dk_at dksX0_task_4 1 rfl rfl)
theorem dX0_task_106 : decode cX0_task 106 = .ok (.if_icmp .ne 8, 3) := dk_160 0 8 (dk_at dksX0_task_4 3 rfl rfl)
theorem dX0_task_109 : decode cX0_task 109 = .ok (.bipush (-9), 2) := dk_16 247 (dk_at dksX0_task_4 6 rfl rfl)
theorem dX0_task_111 : decode cX0_task 111 = .ok (.goto 12, 3) := dk_167 0 12 (dk_at dksX0_task_4 8 rfl rfl)
theorem dX0_task_114 : decode cX0_task 114 = .ok (.aload_n 0, 1) := dk_42 (dk_at dksX0_task_4 11 rfl rfl)
theorem dX0_task_115 : decode cX0_task 115 = .ok (.getfield 25, 3) := dk_180 0 25 (dk_at dksX0_task_4 12 rfl rfl)
theorem dX0_task_118 : decode cX0_task 118 = .ok (.getfield 184, 3) := dk_180 0 184 (dk_at dksX0_task_4 15 rfl rfl)
theorem dX0_task_121 : decode cX0_task 121 = .ok (.iload_n 1, 1) := dk_27 (dk_at dksX0_task_4 18 rfl rfl)
theorem dX0_task_122 : decode cX0_task 122 = .ok (.iaload, 1) := dk_46 (dk_at dksX0_task_4 19 rfl rfl)
theorem dX0_task_123 : decode cX0_task 123 = .ok (.ireturn, 1) := dk_172 (dk_at dksX0_task_4 20 rfl rfl)
theorem dX0_task_124 : decode cX0_task 124 = .ok (.aload_n 0, 1) := dk_42 (dk_at dksX0_task_4 21 rfl rfl)
theorem dX0_task_125 : decode cX0_task 125 = .ok (.getfield 25, 3) := dk_180 0 25 (dk_at dksX0_task_5 0 rfl rfl)
theorem dX0_task_128 : decode cX0_task 128 = .ok (.getfield 159, 3) := dk_180 0 159 (dk_at dksX0_task_5 3 rfl rfl)
theorem dX0_task_131 : decode cX0_task 131 = .ok (.iload_n 1, 1) := dk_27 (dk_at dksX0_task_5 6 rfl rfl)
theorem dX0_task_132 : decode cX0_task 132 = .ok (.invokevirtual 154, 3) := dk_182 0 154 (dk_at dksX0_task_5 7 rfl rfl)
theorem dX0_task_135 : decode cX0_task 135 = .ok (.ifCond .eq 7, 3) := dk_153 0 7 (dk_at dksX0_task_5 10 rfl rfl)
theorem dX0_task_138 : decode cX0_task 138 = .ok (.iconst 1, 1) := dk_4 (dk_at dksX0_task_5 13 rfl rfl)
theorem dX0_task_139 : decode cX0_task 139 = .ok (.goto 4, 3) := dk_167 0 4 (dk_at dksX0_task_5 14 rfl rfl)
theorem dX0_task_142 : decode cX0_task 142 = .ok (.iconst 0, 1) := dk_3 (dk_at dksX0_task_5 17 rfl rfl)
theorem dX0_task_143 : decode cX0_task 143 = .ok (.ireturn, 1) := dk_172 (dk_at dksX0_task_5 18 rfl rfl)
theorem dX0_task_144 : decode cX0_task 144 = .ok (.aload_n 0, 1) := dk_42 (dk_at dksX0_task_5 19 rfl rfl)
theorem dX0_task_145 : decode cX0_task 145 = .ok (.getfield 25, 3) := dk_180 0 25 (dk_at dksX0_task_5 20 rfl rfl)
theorem dX0_task_148 : decode cX0_task 148 = .ok (.getfield 188, 3) := dk_180 0 188 (dk_at dksX0_task_6 0 rfl rfl)
theorem dX0_task_151 : decode cX0_task 151 = .ok (.iload_n 1, 1) := dk_27 (dk_at dksX0_task_6 3 rfl rfl)
theorem dX0_task_152 : decode cX0_task 152 = .ok (.iaload, 1) := dk_46 (dk_at dksX0_task_6 4 rfl rfl)
theorem dX0_task_153 : decode cX0_task 153 = .ok (.ireturn, 1) := dk_172 (dk_at dksX0_task_6 5 rfl rfl)
theorem dX0_task_154 : decode cX0_task 154 = .ok (.aload_n 0, 1) := dk_42 (dk_at dksX0_task_6 6 rfl rfl)
theorem dX0_task_155 : decode cX0_task 155 = .ok (.iload_n 1, 1) := dk_27 (dk_at dksX0_task_6 7 rfl rfl)
theorem dX0_task_156 : decode cX0_task 156 = .ok (.invokevirtual 191, 3) := dk_182 0 191 (dk_at dksX0_task_6 8 rfl rfl)
theorem dX0_task_159 : decode cX0_task 159 = .ok (.ireturn, 1) := dk_172 (dk_at dksX0_task_6 11 rfl rfl)
theorem dX0_task_160 : decode cX0_task 160 = .ok (.iconst (-1), 1) := dk_2 (dk_at dksX0_task_6 12 rfl rfl)
theorem dX0_task_161 : decode cX0_task 161 = .ok (.ireturn, 1) := dk_172 (dk_at dksX0_task_6 13 rfl rfl)
abbrev cX0_childrenOf : ByteArray := prog_1_method_12_code
def yX0_childrenOf : MethodName := ⟨RX0, "childrenOf", "(I)I"⟩
def dkwX0_childrenOf_3 : List UInt8 := [29, 120, 167, 0, 4, 3, 128, 61, 132, 3, 1, 167, 255, 179, 28, 172]
abbrev dktX0_childrenOf_3 : List UInt8 := dkwX0_childrenOf_3 ++ []
def dkwX0_childrenOf_2 : List UInt8 := [180, 0, 175, 29, 182, 0, 154, 153, 0, 7, 4, 167, 0, 4, 3, 54, 4, 28, 21, 4, 153, 0, 9, 4]
abbrev dktX0_childrenOf_2 : List UInt8 := dkwX0_childrenOf_2 ++ dktX0_childrenOf_3
def dkwX0_childrenOf_1 : List UInt8 := [29, 46, 27, 160, 0, 35, 42, 180, 0, 25, 180, 0, 150, 29, 182, 0, 154, 154, 0, 17, 42, 180, 0, 25]
abbrev dktX0_childrenOf_1 : List UInt8 := dkwX0_childrenOf_1 ++ dktX0_childrenOf_2
def dkwX0_childrenOf_0 : List UInt8 := [3, 61, 27, 4, 96, 62, 29, 42, 180, 0, 46, 180, 0, 119, 162, 0, 72, 42, 180, 0, 46, 180, 0, 172]
abbrev dktX0_childrenOf_0 : List UInt8 := dkwX0_childrenOf_0 ++ dktX0_childrenOf_1
theorem dksX0_childrenOf_0 : cX0_childrenOf.data.toList.drop 0 = dktX0_childrenOf_0 := by decide +kernel
theorem dksX0_childrenOf_1 : cX0_childrenOf.data.toList.drop 24 = dktX0_childrenOf_1 := dk_seg dksX0_childrenOf_0 24 rfl rfl
theorem dksX0_childrenOf_2 : cX0_childrenOf.data.toList.drop 48 = dktX0_childrenOf_2 := dk_seg dksX0_childrenOf_1 24 rfl rfl
theorem dksX0_childrenOf_3 : cX0_childrenOf.data.toList.drop 72 = dktX0_childrenOf_3 := dk_seg dksX0_childrenOf_2 24 rfl rfl
theorem dX0_childrenOf_0 : decode cX0_childrenOf 0 = .ok (.iconst 0, 1) := dk_3 (dk_at dksX0_childrenOf_0 0 rfl rfl)
theorem dX0_childrenOf_1 : decode cX0_childrenOf 1 = .ok (.istore_n 2, 1) := dk_61 (dk_at dksX0_childrenOf_0 1 rfl rfl)
theorem dX0_childrenOf_2 : decode cX0_childrenOf 2 = .ok (.iload_n 1, 1) := dk_27 (dk_at dksX0_childrenOf_0 2 rfl rfl)
theorem dX0_childrenOf_3 : decode cX0_childrenOf 3 = .ok (.iconst 1, 1) := dk_4 (dk_at dksX0_childrenOf_0 3 rfl rfl)
theorem dX0_childrenOf_4 : decode cX0_childrenOf 4 = .ok (.iadd, 1) := dk_96 (dk_at dksX0_childrenOf_0 4 rfl rfl)
theorem dX0_childrenOf_5 : decode cX0_childrenOf 5 = .ok (.istore_n 3, 1) := dk_62 (dk_at dksX0_childrenOf_0 5 rfl rfl)
theorem dX0_childrenOf_6 : decode cX0_childrenOf 6 = .ok (.iload_n 3, 1) := dk_29 (dk_at dksX0_childrenOf_0 6 rfl rfl)
theorem dX0_childrenOf_7 : decode cX0_childrenOf 7 = .ok (.aload_n 0, 1) := dk_42 (dk_at dksX0_childrenOf_0 7 rfl rfl)
theorem dX0_childrenOf_8 : decode cX0_childrenOf 8 = .ok (.getfield 46, 3) := dk_180 0 46 (dk_at dksX0_childrenOf_0 8 rfl rfl)
theorem dX0_childrenOf_11 : decode cX0_childrenOf 11 = .ok (.getfield 119, 3) := dk_180 0 119 (dk_at dksX0_childrenOf_0 11 rfl rfl)
theorem dX0_childrenOf_14 : decode cX0_childrenOf 14 = .ok (.if_icmp .ge 72, 3) := dk_162 0 72 (dk_at dksX0_childrenOf_0 14 rfl rfl)
theorem dX0_childrenOf_17 : decode cX0_childrenOf 17 = .ok (.aload_n 0, 1) := dk_42 (dk_at dksX0_childrenOf_0 17 rfl rfl)
theorem dX0_childrenOf_18 : decode cX0_childrenOf 18 = .ok (.getfield 46, 3) := dk_180 0 46 (dk_at dksX0_childrenOf_0 18 rfl rfl)
theorem dX0_childrenOf_21 : decode cX0_childrenOf 21 = .ok (.getfield 172, 3) := dk_180 0 172 (dk_at dksX0_childrenOf_0 21 rfl rfl)
theorem dX0_childrenOf_24 : decode cX0_childrenOf 24 = .ok (.iload_n 3, 1) := dk_29 (dk_at dksX0_childrenOf_1 0 rfl rfl)
theorem dX0_childrenOf_25 : decode cX0_childrenOf 25 = .ok (.iaload, 1) := dk_46 (dk_at dksX0_childrenOf_1 1 rfl rfl)
theorem dX0_childrenOf_26 : decode cX0_childrenOf 26 = .ok (.iload_n 1, 1) := dk_27 (dk_at dksX0_childrenOf_1 2 rfl rfl)
theorem dX0_childrenOf_27 : decode cX0_childrenOf 27 = .ok (.if_icmp .ne 35, 3) := dk_160 0 35 (dk_at dksX0_childrenOf_1 3 rfl rfl)
theorem dX0_childrenOf_30 : decode cX0_childrenOf 30 = .ok (.aload_n 0, 1) := dk_42 (dk_at dksX0_childrenOf_1 6 rfl rfl)
theorem dX0_childrenOf_31 : decode cX0_childrenOf 31 = .ok (.getfield 25, 3) := dk_180 0 25 (dk_at dksX0_childrenOf_1 7 rfl rfl)
theorem dX0_childrenOf_34 : decode cX0_childrenOf 34 = .ok (.getfield 150, 3) := dk_180 0 150 (dk_at dksX0_childrenOf_1 10 rfl rfl)
theorem dX0_childrenOf_37 : decode cX0_childrenOf 37 = .ok (.iload_n 3, 1) := dk_29 (dk_at dksX0_childrenOf_1 13 rfl rfl)
theorem dX0_childrenOf_38 : decode cX0_childrenOf 38 = .ok (.invokevirtual 154, 3) := dk_182 0 154 (dk_at dksX0_childrenOf_1 14 rfl rfl)
theorem dX0_childrenOf_41 : decode cX0_childrenOf 41 = .ok (.ifCond .ne 17, 3) := dk_154 0 17 (dk_at dksX0_childrenOf_1 17 rfl rfl)
theorem dX0_childrenOf_44 : decode cX0_childrenOf 44 = .ok (.aload_n 0, 1) := dk_42 (dk_at dksX0_childrenOf_1 20 rfl rfl)
theorem dX0_childrenOf_45 : decode cX0_childrenOf 45 = .ok (.getfield 25, 3) := dk_180 0 25 (dk_at dksX0_childrenOf_1 21 rfl rfl)
theorem dX0_childrenOf_48 : decode cX0_childrenOf 48 = .ok (.getfield 175, 3) := dk_180 0 175 (dk_at dksX0_childrenOf_2 0 rfl rfl)
theorem dX0_childrenOf_51 : decode cX0_childrenOf 51 = .ok (.iload_n 3, 1) := dk_29 (dk_at dksX0_childrenOf_2 3 rfl rfl)
theorem dX0_childrenOf_52 : decode cX0_childrenOf 52 = .ok (.invokevirtual 154, 3) := dk_182 0 154 (dk_at dksX0_childrenOf_2 4 rfl rfl)
theorem dX0_childrenOf_55 : decode cX0_childrenOf 55 = .ok (.ifCond .eq 7, 3) := dk_153 0 7 (dk_at dksX0_childrenOf_2 7 rfl rfl)
theorem dX0_childrenOf_58 : decode cX0_childrenOf 58 = .ok (.iconst 1, 1) := dk_4 (dk_at dksX0_childrenOf_2 10 rfl rfl)
theorem dX0_childrenOf_59 : decode cX0_childrenOf 59 = .ok (.goto 4, 3) := dk_167 0 4 (dk_at dksX0_childrenOf_2 11 rfl rfl)
theorem dX0_childrenOf_62 : decode cX0_childrenOf 62 = .ok (.iconst 0, 1) := dk_3 (dk_at dksX0_childrenOf_2 14 rfl rfl)
theorem dX0_childrenOf_63 : decode cX0_childrenOf 63 = .ok (.istore 4, 2) := dk_54 4 (dk_at dksX0_childrenOf_2 15 rfl rfl)
theorem dX0_childrenOf_65 : decode cX0_childrenOf 65 = .ok (.iload_n 2, 1) := dk_28 (dk_at dksX0_childrenOf_2 17 rfl rfl)
theorem dX0_childrenOf_66 : decode cX0_childrenOf 66 = .ok (.iload 4, 2) := dk_21 4 (dk_at dksX0_childrenOf_2 18 rfl rfl)
theorem dX0_childrenOf_68 : decode cX0_childrenOf 68 = .ok (.ifCond .eq 9, 3) := dk_153 0 9 (dk_at dksX0_childrenOf_2 20 rfl rfl)
theorem dX0_childrenOf_71 : decode cX0_childrenOf 71 = .ok (.iconst 1, 1) := dk_4 (dk_at dksX0_childrenOf_2 23 rfl rfl)
theorem dX0_childrenOf_72 : decode cX0_childrenOf 72 = .ok (.iload_n 3, 1) := dk_29 (dk_at dksX0_childrenOf_3 0 rfl rfl)
theorem dX0_childrenOf_73 : decode cX0_childrenOf 73 = .ok (.ishl, 1) := dk_120 (dk_at dksX0_childrenOf_3 1 rfl rfl)
theorem dX0_childrenOf_74 : decode cX0_childrenOf 74 = .ok (.goto 4, 3) := dk_167 0 4 (dk_at dksX0_childrenOf_3 2 rfl rfl)
theorem dX0_childrenOf_77 : decode cX0_childrenOf 77 = .ok (.iconst 0, 1) := dk_3 (dk_at dksX0_childrenOf_3 5 rfl rfl)
theorem dX0_childrenOf_78 : decode cX0_childrenOf 78 = .ok (.ior, 1) := dk_128 (dk_at dksX0_childrenOf_3 6 rfl rfl)
theorem dX0_childrenOf_79 : decode cX0_childrenOf 79 = .ok (.istore_n 2, 1) := dk_61 (dk_at dksX0_childrenOf_3 7 rfl rfl)
theorem dX0_childrenOf_80 : decode cX0_childrenOf 80 = .ok (.iinc 3 1, 3) := dk_132 3 1 (dk_at dksX0_childrenOf_3 8 rfl rfl)
theorem dX0_childrenOf_83 : decode cX0_childrenOf 83 = .ok (.goto (-77), 3) := dk_167 255 179 (dk_at dksX0_childrenOf_3 11 rfl rfl)
theorem dX0_childrenOf_86 : decode cX0_childrenOf 86 = .ok (.iload_n 2, 1) := dk_28 (dk_at dksX0_childrenOf_3 14 rfl rfl)
theorem dX0_childrenOf_87 : decode cX0_childrenOf 87 = .ok (.ireturn, 1) := dk_172 (dk_at dksX0_childrenOf_3 15 rfl rfl)
abbrev cX0_failure : ByteArray := prog_1_method_14_code
def yX0_failure : MethodName := ⟨RX0, "failure", "(II)I"⟩
def dkwX0_failure_1 : List UInt8 := [162, 0, 17, 42, 180, 0, 25, 180, 0, 194, 27, 50, 28, 46, 167, 0, 5, 16, 247, 172]
abbrev dktX0_failure_1 : List UInt8 := dkwX0_failure_1 ++ []
def dkwX0_failure_0 : List UInt8 := [42, 27, 182, 0, 146, 153, 0, 7, 28, 156, 0, 5, 2, 172, 28, 42, 180, 0, 25, 180, 0, 188, 27, 46]
abbrev dktX0_failure_0 : List UInt8 := dkwX0_failure_0 ++ dktX0_failure_1
theorem dksX0_failure_0 : cX0_failure.data.toList.drop 0 = dktX0_failure_0 := by decide +kernel
theorem dksX0_failure_1 : cX0_failure.data.toList.drop 24 = dktX0_failure_1 := dk_seg dksX0_failure_0 24 rfl rfl
theorem dX0_failure_0 : decode cX0_failure 0 = .ok (.aload_n 0, 1) := dk_42 (dk_at dksX0_failure_0 0 rfl rfl)
theorem dX0_failure_1 : decode cX0_failure 1 = .ok (.iload_n 1, 1) := dk_27 (dk_at dksX0_failure_0 1 rfl rfl)
theorem dX0_failure_2 : decode cX0_failure 2 = .ok (.invokevirtual 146, 3) := dk_182 0 146 (dk_at dksX0_failure_0 2 rfl rfl)
theorem dX0_failure_5 : decode cX0_failure 5 = .ok (.ifCond .eq 7, 3) := dk_153 0 7 (dk_at dksX0_failure_0 5 rfl rfl)
theorem dX0_failure_8 : decode cX0_failure 8 = .ok (.iload_n 2, 1) := dk_28 (dk_at dksX0_failure_0 8 rfl rfl)
theorem dX0_failure_9 : decode cX0_failure 9 = .ok (.ifCond .ge 5, 3) := dk_156 0 5 (dk_at dksX0_failure_0 9 rfl rfl)
theorem dX0_failure_12 : decode cX0_failure 12 = .ok (.iconst (-1), 1) := dk_2 (dk_at dksX0_failure_0 12 rfl rfl)
theorem dX0_failure_13 : decode cX0_failure 13 = .ok (.ireturn, 1) := dk_172 (dk_at dksX0_failure_0 13 rfl rfl)
theorem dX0_failure_14 : decode cX0_failure 14 = .ok (.iload_n 2, 1) := dk_28 (dk_at dksX0_failure_0 14 rfl rfl)
theorem dX0_failure_15 : decode cX0_failure 15 = .ok (.aload_n 0, 1) := dk_42 (dk_at dksX0_failure_0 15 rfl rfl)
theorem dX0_failure_16 : decode cX0_failure 16 = .ok (.getfield 25, 3) := dk_180 0 25 (dk_at dksX0_failure_0 16 rfl rfl)
theorem dX0_failure_19 : decode cX0_failure 19 = .ok (.getfield 188, 3) := dk_180 0 188 (dk_at dksX0_failure_0 19 rfl rfl)
theorem dX0_failure_22 : decode cX0_failure 22 = .ok (.iload_n 1, 1) := dk_27 (dk_at dksX0_failure_0 22 rfl rfl)
theorem dX0_failure_23 : decode cX0_failure 23 = .ok (.iaload, 1) := dk_46 (dk_at dksX0_failure_0 23 rfl rfl)
theorem dX0_failure_24 : decode cX0_failure 24 = .ok (.if_icmp .ge 17, 3) := dk_162 0 17 (dk_at dksX0_failure_1 0 rfl rfl)
theorem dX0_failure_27 : decode cX0_failure 27 = .ok (.aload_n 0, 1) := dk_42 (dk_at dksX0_failure_1 3 rfl rfl)
theorem dX0_failure_28 : decode cX0_failure 28 = .ok (.getfield 25, 3) := dk_180 0 25 (dk_at dksX0_failure_1 4 rfl rfl)
theorem dX0_failure_31 : decode cX0_failure 31 = .ok (.getfield 194, 3) := dk_180 0 194 (dk_at dksX0_failure_1 7 rfl rfl)
theorem dX0_failure_34 : decode cX0_failure 34 = .ok (.iload_n 1, 1) := dk_27 (dk_at dksX0_failure_1 10 rfl rfl)
theorem dX0_failure_35 : decode cX0_failure 35 = .ok (.aaload, 1) := dk_50 (dk_at dksX0_failure_1 11 rfl rfl)
theorem dX0_failure_36 : decode cX0_failure 36 = .ok (.iload_n 2, 1) := dk_28 (dk_at dksX0_failure_1 12 rfl rfl)
theorem dX0_failure_37 : decode cX0_failure 37 = .ok (.iaload, 1) := dk_46 (dk_at dksX0_failure_1 13 rfl rfl)
theorem dX0_failure_38 : decode cX0_failure 38 = .ok (.goto 5, 3) := dk_167 0 5 (dk_at dksX0_failure_1 14 rfl rfl)
theorem dX0_failure_41 : decode cX0_failure 41 = .ok (.bipush (-9), 2) := dk_16 247 (dk_at dksX0_failure_1 17 rfl rfl)
theorem dX0_failure_43 : decode cX0_failure 43 = .ok (.ireturn, 1) := dk_172 (dk_at dksX0_failure_1 19 rfl rfl)
abbrev cX0_trace : ByteArray := prog_1_method_15_code
def yX0_trace : MethodName := ⟨RX0, "trace", "(II)I"⟩
def dkwX0_trace_3 : List UInt8 := [172]
abbrev dktX0_trace_3 : List UInt8 := dkwX0_trace_3 ++ []
def dkwX0_trace_2 : List UInt8 := [160, 0, 15, 42, 180, 0, 25, 180, 0, 204, 27, 46, 167, 0, 12, 42, 180, 0, 25, 180, 0, 207, 27, 46]
abbrev dktX0_trace_2 : List UInt8 := dkwX0_trace_2 ++ dktX0_trace_3
def dkwX0_trace_1 : List UInt8 := [161, 0, 6, 16, 247, 172, 28, 154, 0, 15, 42, 180, 0, 25, 180, 0, 201, 27, 46, 167, 0, 29, 28, 4]
abbrev dktX0_trace_1 : List UInt8 := dkwX0_trace_1 ++ dktX0_trace_2
def dkwX0_trace_0 : List UInt8 := [27, 155, 0, 12, 28, 3, 5, 184, 0, 100, 154, 0, 5, 2, 172, 27, 42, 180, 0, 25, 180, 0, 198]
abbrev dktX0_trace_0 : List UInt8 := dkwX0_trace_0 ++ dktX0_trace_1
theorem dksX0_trace_0 : cX0_trace.data.toList.drop 0 = dktX0_trace_0 := by decide +kernel
theorem dksX0_trace_1 : cX0_trace.data.toList.drop 23 = dktX0_trace_1 := dk_seg dksX0_trace_0 23 rfl rfl
theorem dksX0_trace_2 : cX0_trace.data.toList.drop 47 = dktX0_trace_2 := dk_seg dksX0_trace_1 24 rfl rfl
theorem dksX0_trace_3 : cX0_trace.data.toList.drop 71 = dktX0_trace_3 := dk_seg dksX0_trace_2 24 rfl rfl
theorem dX0_trace_0 : decode cX0_trace 0 = .ok (.iload_n 1, 1) := dk_27 (dk_at dksX0_trace_0 0 rfl rfl)
theorem dX0_trace_1 : decode cX0_trace 1 = .ok (.ifCond .lt 12, 3) := dk_155 0 12 (dk_at dksX0_trace_0 1 rfl rfl)
theorem dX0_trace_4 : decode cX0_trace 4 = .ok (.iload_n 2, 1) := dk_28 (dk_at dksX0_trace_0 4 rfl rfl)
theorem dX0_trace_5 : decode cX0_trace 5 = .ok (.iconst 0, 1) := dk_3 (dk_at dksX0_trace_0 5 rfl rfl)
theorem dX0_trace_6 : decode cX0_trace 6 = .ok (.iconst 2, 1) := dk_5 (dk_at dksX0_trace_0 6 rfl rfl)
theorem dX0_trace_7 : decode cX0_trace 7 = .ok (.invokestatic 100, 3) := dk_184 0 100 (dk_at dksX0_trace_0 7 rfl rfl)
theorem dX0_trace_10 : decode cX0_trace 10 = .ok (.ifCond .ne 5, 3) := dk_154 0 5 (dk_at dksX0_trace_0 10 rfl rfl)
theorem dX0_trace_13 : decode cX0_trace 13 = .ok (.iconst (-1), 1) := dk_2 (dk_at dksX0_trace_0 13 rfl rfl)
theorem dX0_trace_14 : decode cX0_trace 14 = .ok (.ireturn, 1) := dk_172 (dk_at dksX0_trace_0 14 rfl rfl)
theorem dX0_trace_15 : decode cX0_trace 15 = .ok (.iload_n 1, 1) := dk_27 (dk_at dksX0_trace_0 15 rfl rfl)
theorem dX0_trace_16 : decode cX0_trace 16 = .ok (.aload_n 0, 1) := dk_42 (dk_at dksX0_trace_0 16 rfl rfl)
theorem dX0_trace_17 : decode cX0_trace 17 = .ok (.getfield 25, 3) := dk_180 0 25 (dk_at dksX0_trace_0 17 rfl rfl)
theorem dX0_trace_20 : decode cX0_trace 20 = .ok (.getfield 198, 3) := dk_180 0 198 (dk_at dksX0_trace_0 20 rfl rfl)
theorem dX0_trace_23 : decode cX0_trace 23 = .ok (.if_icmp .lt 6, 3) := dk_161 0 6 (dk_at dksX0_trace_1 0 rfl rfl)
theorem dX0_trace_26 : decode cX0_trace 26 = .ok (.bipush (-9), 2) := dk_16 247 (dk_at dksX0_trace_1 3 rfl rfl)
theorem dX0_trace_28 : decode cX0_trace 28 = .ok (.ireturn, 1) := dk_172 (dk_at dksX0_trace_1 5 rfl rfl)
theorem dX0_trace_29 : decode cX0_trace 29 = .ok (.iload_n 2, 1) := dk_28 (dk_at dksX0_trace_1 6 rfl rfl)
theorem dX0_trace_30 : decode cX0_trace 30 = .ok (.ifCond .ne 15, 3) := dk_154 0 15 (dk_at dksX0_trace_1 7 rfl rfl)
theorem dX0_trace_33 : decode cX0_trace 33 = .ok (.aload_n 0, 1) := dk_42 (dk_at dksX0_trace_1 10 rfl rfl)
theorem dX0_trace_34 : decode cX0_trace 34 = .ok (.getfield 25, 3) := dk_180 0 25 (dk_at dksX0_trace_1 11 rfl rfl)
theorem dX0_trace_37 : decode cX0_trace 37 = .ok (.getfield 201, 3) := dk_180 0 201 (dk_at dksX0_trace_1 14 rfl rfl)
theorem dX0_trace_40 : decode cX0_trace 40 = .ok (.iload_n 1, 1) := dk_27 (dk_at dksX0_trace_1 17 rfl rfl)
theorem dX0_trace_41 : decode cX0_trace 41 = .ok (.iaload, 1) := dk_46 (dk_at dksX0_trace_1 18 rfl rfl)
theorem dX0_trace_42 : decode cX0_trace 42 = .ok (.goto 29, 3) := dk_167 0 29 (dk_at dksX0_trace_1 19 rfl rfl)
theorem dX0_trace_45 : decode cX0_trace 45 = .ok (.iload_n 2, 1) := dk_28 (dk_at dksX0_trace_1 22 rfl rfl)
theorem dX0_trace_46 : decode cX0_trace 46 = .ok (.iconst 1, 1) := dk_4 (dk_at dksX0_trace_1 23 rfl rfl)
theorem dX0_trace_47 : decode cX0_trace 47 = .ok (.if_icmp .ne 15, 3) := dk_160 0 15 (dk_at dksX0_trace_2 0 rfl rfl)
theorem dX0_trace_50 : decode cX0_trace 50 = .ok (.aload_n 0, 1) := dk_42 (dk_at dksX0_trace_2 3 rfl rfl)
theorem dX0_trace_51 : decode cX0_trace 51 = .ok (.getfield 25, 3) := dk_180 0 25 (dk_at dksX0_trace_2 4 rfl rfl)
theorem dX0_trace_54 : decode cX0_trace 54 = .ok (.getfield 204, 3) := dk_180 0 204 (dk_at dksX0_trace_2 7 rfl rfl)
theorem dX0_trace_57 : decode cX0_trace 57 = .ok (.iload_n 1, 1) := dk_27 (dk_at dksX0_trace_2 10 rfl rfl)
theorem dX0_trace_58 : decode cX0_trace 58 = .ok (.iaload, 1) := dk_46 (dk_at dksX0_trace_2 11 rfl rfl)
theorem dX0_trace_59 : decode cX0_trace 59 = .ok (.goto 12, 3) := dk_167 0 12 (dk_at dksX0_trace_2 12 rfl rfl)
theorem dX0_trace_62 : decode cX0_trace 62 = .ok (.aload_n 0, 1) := dk_42 (dk_at dksX0_trace_2 15 rfl rfl)
theorem dX0_trace_63 : decode cX0_trace 63 = .ok (.getfield 25, 3) := dk_180 0 25 (dk_at dksX0_trace_2 16 rfl rfl)
theorem dX0_trace_66 : decode cX0_trace 66 = .ok (.getfield 207, 3) := dk_180 0 207 (dk_at dksX0_trace_2 19 rfl rfl)
theorem dX0_trace_69 : decode cX0_trace 69 = .ok (.iload_n 1, 1) := dk_27 (dk_at dksX0_trace_2 22 rfl rfl)
theorem dX0_trace_70 : decode cX0_trace 70 = .ok (.iaload, 1) := dk_46 (dk_at dksX0_trace_2 23 rfl rfl)
theorem dX0_trace_71 : decode cX0_trace 71 = .ok (.ireturn, 1) := dk_172 (dk_at dksX0_trace_3 0 rfl rfl)
abbrev cX0_ends : ByteArray := prog_1_method_16_code
def yX0_ends : MethodName := ⟨RX0, "ends", "(II)I"⟩
def dkwX0_ends_3 : List UInt8 := [46, 172]
abbrev dktX0_ends_3 : List UInt8 := dkwX0_ends_3 ++ []
def dkwX0_ends_2 : List UInt8 := [28, 154, 0, 15, 42, 180, 0, 62, 180, 0, 214, 27, 46, 167, 0, 12, 42, 180, 0, 62, 180, 0, 181, 27]
abbrev dktX0_ends_2 : List UInt8 := dkwX0_ends_2 ++ dktX0_ends_3
def dkwX0_ends_1 : List UInt8 := [180, 0, 25, 182, 0, 29, 87, 42, 180, 0, 62, 27, 17, 0, 200, 182, 0, 210, 154, 0, 6, 16, 247, 172]
abbrev dktX0_ends_1 : List UInt8 := dkwX0_ends_1 ++ dktX0_ends_2
def dkwX0_ends_0 : List UInt8 := [42, 27, 182, 0, 146, 153, 0, 12, 28, 3, 4, 184, 0, 100, 154, 0, 5, 2, 172, 42, 180, 0, 62, 42]
abbrev dktX0_ends_0 : List UInt8 := dkwX0_ends_0 ++ dktX0_ends_1
theorem dksX0_ends_0 : cX0_ends.data.toList.drop 0 = dktX0_ends_0 := by decide +kernel
theorem dksX0_ends_1 : cX0_ends.data.toList.drop 24 = dktX0_ends_1 := dk_seg dksX0_ends_0 24 rfl rfl
theorem dksX0_ends_2 : cX0_ends.data.toList.drop 48 = dktX0_ends_2 := dk_seg dksX0_ends_1 24 rfl rfl
theorem dksX0_ends_3 : cX0_ends.data.toList.drop 72 = dktX0_ends_3 := dk_seg dksX0_ends_2 24 rfl rfl
theorem dX0_ends_0 : decode cX0_ends 0 = .ok (.aload_n 0, 1) := dk_42 (dk_at dksX0_ends_0 0 rfl rfl)
theorem dX0_ends_1 : decode cX0_ends 1 = .ok (.iload_n 1, 1) := dk_27 (dk_at dksX0_ends_0 1 rfl rfl)
theorem dX0_ends_2 : decode cX0_ends 2 = .ok (.invokevirtual 146, 3) := dk_182 0 146 (dk_at dksX0_ends_0 2 rfl rfl)
theorem dX0_ends_5 : decode cX0_ends 5 = .ok (.ifCond .eq 12, 3) := dk_153 0 12 (dk_at dksX0_ends_0 5 rfl rfl)
theorem dX0_ends_8 : decode cX0_ends 8 = .ok (.iload_n 2, 1) := dk_28 (dk_at dksX0_ends_0 8 rfl rfl)
theorem dX0_ends_9 : decode cX0_ends 9 = .ok (.iconst 0, 1) := dk_3 (dk_at dksX0_ends_0 9 rfl rfl)
theorem dX0_ends_10 : decode cX0_ends 10 = .ok (.iconst 1, 1) := dk_4 (dk_at dksX0_ends_0 10 rfl rfl)
theorem dX0_ends_11 : decode cX0_ends 11 = .ok (.invokestatic 100, 3) := dk_184 0 100 (dk_at dksX0_ends_0 11 rfl rfl)
theorem dX0_ends_14 : decode cX0_ends 14 = .ok (.ifCond .ne 5, 3) := dk_154 0 5 (dk_at dksX0_ends_0 14 rfl rfl)
theorem dX0_ends_17 : decode cX0_ends 17 = .ok (.iconst (-1), 1) := dk_2 (dk_at dksX0_ends_0 17 rfl rfl)
theorem dX0_ends_18 : decode cX0_ends 18 = .ok (.ireturn, 1) := dk_172 (dk_at dksX0_ends_0 18 rfl rfl)
theorem dX0_ends_19 : decode cX0_ends 19 = .ok (.aload_n 0, 1) := dk_42 (dk_at dksX0_ends_0 19 rfl rfl)
theorem dX0_ends_20 : decode cX0_ends 20 = .ok (.getfield 62, 3) := dk_180 0 62 (dk_at dksX0_ends_0 20 rfl rfl)
theorem dX0_ends_23 : decode cX0_ends 23 = .ok (.aload_n 0, 1) := dk_42 (dk_at dksX0_ends_0 23 rfl rfl)
theorem dX0_ends_24 : decode cX0_ends 24 = .ok (.getfield 25, 3) := dk_180 0 25 (dk_at dksX0_ends_1 0 rfl rfl)
theorem dX0_ends_27 : decode cX0_ends 27 = .ok (.invokevirtual 29, 3) := dk_182 0 29 (dk_at dksX0_ends_1 3 rfl rfl)
theorem dX0_ends_30 : decode cX0_ends 30 = .ok (.pop, 1) := dk_87 (dk_at dksX0_ends_1 6 rfl rfl)
theorem dX0_ends_31 : decode cX0_ends 31 = .ok (.aload_n 0, 1) := dk_42 (dk_at dksX0_ends_1 7 rfl rfl)
theorem dX0_ends_32 : decode cX0_ends 32 = .ok (.getfield 62, 3) := dk_180 0 62 (dk_at dksX0_ends_1 8 rfl rfl)
theorem dX0_ends_35 : decode cX0_ends 35 = .ok (.iload_n 1, 1) := dk_27 (dk_at dksX0_ends_1 11 rfl rfl)
theorem dX0_ends_36 : decode cX0_ends 36 = .ok (.sipush 200, 3) := dk_17 0 200 (dk_at dksX0_ends_1 12 rfl rfl)
theorem dX0_ends_39 : decode cX0_ends 39 = .ok (.invokevirtual 210, 3) := dk_182 0 210 (dk_at dksX0_ends_1 15 rfl rfl)
theorem dX0_ends_42 : decode cX0_ends 42 = .ok (.ifCond .ne 6, 3) := dk_154 0 6 (dk_at dksX0_ends_1 18 rfl rfl)
theorem dX0_ends_45 : decode cX0_ends 45 = .ok (.bipush (-9), 2) := dk_16 247 (dk_at dksX0_ends_1 21 rfl rfl)
theorem dX0_ends_47 : decode cX0_ends 47 = .ok (.ireturn, 1) := dk_172 (dk_at dksX0_ends_1 23 rfl rfl)
theorem dX0_ends_48 : decode cX0_ends 48 = .ok (.iload_n 2, 1) := dk_28 (dk_at dksX0_ends_2 0 rfl rfl)
theorem dX0_ends_49 : decode cX0_ends 49 = .ok (.ifCond .ne 15, 3) := dk_154 0 15 (dk_at dksX0_ends_2 1 rfl rfl)
theorem dX0_ends_52 : decode cX0_ends 52 = .ok (.aload_n 0, 1) := dk_42 (dk_at dksX0_ends_2 4 rfl rfl)
theorem dX0_ends_53 : decode cX0_ends 53 = .ok (.getfield 62, 3) := dk_180 0 62 (dk_at dksX0_ends_2 5 rfl rfl)
theorem dX0_ends_56 : decode cX0_ends 56 = .ok (.getfield 214, 3) := dk_180 0 214 (dk_at dksX0_ends_2 8 rfl rfl)
theorem dX0_ends_59 : decode cX0_ends 59 = .ok (.iload_n 1, 1) := dk_27 (dk_at dksX0_ends_2 11 rfl rfl)
theorem dX0_ends_60 : decode cX0_ends 60 = .ok (.iaload, 1) := dk_46 (dk_at dksX0_ends_2 12 rfl rfl)
theorem dX0_ends_61 : decode cX0_ends 61 = .ok (.goto 12, 3) := dk_167 0 12 (dk_at dksX0_ends_2 13 rfl rfl)
theorem dX0_ends_64 : decode cX0_ends 64 = .ok (.aload_n 0, 1) := dk_42 (dk_at dksX0_ends_2 16 rfl rfl)
theorem dX0_ends_65 : decode cX0_ends 65 = .ok (.getfield 62, 3) := dk_180 0 62 (dk_at dksX0_ends_2 17 rfl rfl)
theorem dX0_ends_68 : decode cX0_ends 68 = .ok (.getfield 181, 3) := dk_180 0 181 (dk_at dksX0_ends_2 20 rfl rfl)
theorem dX0_ends_71 : decode cX0_ends 71 = .ok (.iload_n 1, 1) := dk_27 (dk_at dksX0_ends_2 23 rfl rfl)
theorem dX0_ends_72 : decode cX0_ends 72 = .ok (.iaload, 1) := dk_46 (dk_at dksX0_ends_3 0 rfl rfl)
theorem dX0_ends_73 : decode cX0_ends 73 = .ok (.ireturn, 1) := dk_172 (dk_at dksX0_ends_3 1 rfl rfl)
abbrev cX0_wellBy : ByteArray := prog_1_method_17_code
def yX0_wellBy : MethodName := ⟨RX0, "wellBy", "()I"⟩
def dkwX0_wellBy_3 : List UInt8 := [167, 0, 5, 16, 247, 61, 132, 3, 1, 167, 255, 191, 42, 180, 0, 46, 180, 0, 217, 3, 27, 79, 28, 172]
abbrev dktX0_wellBy_3 : List UInt8 := dkwX0_wellBy_3 ++ []
def dkwX0_wellBy_2 : List UInt8 := [3, 17, 0, 200, 182, 0, 210, 153, 0, 19, 42, 180, 0, 62, 180, 0, 181, 3, 46, 154, 0, 7, 29]
abbrev dktX0_wellBy_2 : List UInt8 := dkwX0_wellBy_2 ++ dktX0_wellBy_3
def dkwX0_wellBy_1 : List UInt8 := [160, 0, 59, 42, 180, 0, 46, 180, 0, 217, 3, 29, 79, 42, 180, 0, 62, 182, 0, 97, 42, 180, 0, 62]
abbrev dktX0_wellBy_1 : List UInt8 := dkwX0_wellBy_1 ++ dktX0_wellBy_2
def dkwX0_wellBy_0 : List UInt8 := [42, 180, 0, 46, 180, 0, 217, 3, 46, 60, 16, 247, 61, 4, 62, 29, 16, 60, 163, 0, 65, 28, 16, 247]
abbrev dktX0_wellBy_0 : List UInt8 := dkwX0_wellBy_0 ++ dktX0_wellBy_1
theorem dksX0_wellBy_0 : cX0_wellBy.data.toList.drop 0 = dktX0_wellBy_0 := by decide +kernel
theorem dksX0_wellBy_1 : cX0_wellBy.data.toList.drop 24 = dktX0_wellBy_1 := dk_seg dksX0_wellBy_0 24 rfl rfl
theorem dksX0_wellBy_2 : cX0_wellBy.data.toList.drop 48 = dktX0_wellBy_2 := dk_seg dksX0_wellBy_1 24 rfl rfl
theorem dksX0_wellBy_3 : cX0_wellBy.data.toList.drop 71 = dktX0_wellBy_3 := dk_seg dksX0_wellBy_2 23 rfl rfl
theorem dX0_wellBy_0 : decode cX0_wellBy 0 = .ok (.aload_n 0, 1) := dk_42 (dk_at dksX0_wellBy_0 0 rfl rfl)
theorem dX0_wellBy_1 : decode cX0_wellBy 1 = .ok (.getfield 46, 3) := dk_180 0 46 (dk_at dksX0_wellBy_0 1 rfl rfl)
theorem dX0_wellBy_4 : decode cX0_wellBy 4 = .ok (.getfield 217, 3) := dk_180 0 217 (dk_at dksX0_wellBy_0 4 rfl rfl)
theorem dX0_wellBy_7 : decode cX0_wellBy 7 = .ok (.iconst 0, 1) := dk_3 (dk_at dksX0_wellBy_0 7 rfl rfl)
theorem dX0_wellBy_8 : decode cX0_wellBy 8 = .ok (.iaload, 1) := dk_46 (dk_at dksX0_wellBy_0 8 rfl rfl)
theorem dX0_wellBy_9 : decode cX0_wellBy 9 = .ok (.istore_n 1, 1) := dk_60 (dk_at dksX0_wellBy_0 9 rfl rfl)
theorem dX0_wellBy_10 : decode cX0_wellBy 10 = .ok (.bipush (-9), 2) := dk_16 247 (dk_at dksX0_wellBy_0 10 rfl rfl)
theorem dX0_wellBy_12 : decode cX0_wellBy 12 = .ok (.istore_n 2, 1) := dk_61 (dk_at dksX0_wellBy_0 12 rfl rfl)
theorem dX0_wellBy_13 : decode cX0_wellBy 13 = .ok (.iconst 1, 1) := dk_4 (dk_at dksX0_wellBy_0 13 rfl rfl)
theorem dX0_wellBy_14 : decode cX0_wellBy 14 = .ok (.istore_n 3, 1) := dk_62 (dk_at dksX0_wellBy_0 14 rfl rfl)
theorem dX0_wellBy_15 : decode cX0_wellBy 15 = .ok (.iload_n 3, 1) := dk_29 (dk_at dksX0_wellBy_0 15 rfl rfl)
theorem dX0_wellBy_16 : decode cX0_wellBy 16 = .ok (.bipush 60, 2) := dk_16 60 (dk_at dksX0_wellBy_0 16 rfl rfl)
theorem dX0_wellBy_18 : decode cX0_wellBy 18 = .ok (.if_icmp .gt 65, 3) := dk_163 0 65 (dk_at dksX0_wellBy_0 18 rfl rfl)
theorem dX0_wellBy_21 : decode cX0_wellBy 21 = .ok (.iload_n 2, 1) := dk_28 (dk_at dksX0_wellBy_0 21 rfl rfl)
theorem dX0_wellBy_22 : decode cX0_wellBy 22 = .ok (.bipush (-9), 2) := dk_16 247 (dk_at dksX0_wellBy_0 22 rfl rfl)
theorem dX0_wellBy_24 : decode cX0_wellBy 24 = .ok (.if_icmp .ne 59, 3) := dk_160 0 59 (dk_at dksX0_wellBy_1 0 rfl rfl)
theorem dX0_wellBy_27 : decode cX0_wellBy 27 = .ok (.aload_n 0, 1) := dk_42 (dk_at dksX0_wellBy_1 3 rfl rfl)
theorem dX0_wellBy_28 : decode cX0_wellBy 28 = .ok (.getfield 46, 3) := dk_180 0 46 (dk_at dksX0_wellBy_1 4 rfl rfl)
theorem dX0_wellBy_31 : decode cX0_wellBy 31 = .ok (.getfield 217, 3) := dk_180 0 217 (dk_at dksX0_wellBy_1 7 rfl rfl)
theorem dX0_wellBy_34 : decode cX0_wellBy 34 = .ok (.iconst 0, 1) := dk_3 (dk_at dksX0_wellBy_1 10 rfl rfl)
theorem dX0_wellBy_35 : decode cX0_wellBy 35 = .ok (.iload_n 3, 1) := dk_29 (dk_at dksX0_wellBy_1 11 rfl rfl)
theorem dX0_wellBy_36 : decode cX0_wellBy 36 = .ok (.iastore, 1) := dk_79 (dk_at dksX0_wellBy_1 12 rfl rfl)
theorem dX0_wellBy_37 : decode cX0_wellBy 37 = .ok (.aload_n 0, 1) := dk_42 (dk_at dksX0_wellBy_1 13 rfl rfl)
theorem dX0_wellBy_38 : decode cX0_wellBy 38 = .ok (.getfield 62, 3) := dk_180 0 62 (dk_at dksX0_wellBy_1 14 rfl rfl)
theorem dX0_wellBy_41 : decode cX0_wellBy 41 = .ok (.invokevirtual 97, 3) := dk_182 0 97 (dk_at dksX0_wellBy_1 17 rfl rfl)
theorem dX0_wellBy_44 : decode cX0_wellBy 44 = .ok (.aload_n 0, 1) := dk_42 (dk_at dksX0_wellBy_1 20 rfl rfl)
theorem dX0_wellBy_45 : decode cX0_wellBy 45 = .ok (.getfield 62, 3) := dk_180 0 62 (dk_at dksX0_wellBy_1 21 rfl rfl)
theorem dX0_wellBy_48 : decode cX0_wellBy 48 = .ok (.iconst 0, 1) := dk_3 (dk_at dksX0_wellBy_2 0 rfl rfl)
theorem dX0_wellBy_49 : decode cX0_wellBy 49 = .ok (.sipush 200, 3) := dk_17 0 200 (dk_at dksX0_wellBy_2 1 rfl rfl)
theorem dX0_wellBy_52 : decode cX0_wellBy 52 = .ok (.invokevirtual 210, 3) := dk_182 0 210 (dk_at dksX0_wellBy_2 4 rfl rfl)
theorem dX0_wellBy_55 : decode cX0_wellBy 55 = .ok (.ifCond .eq 19, 3) := dk_153 0 19 (dk_at dksX0_wellBy_2 7 rfl rfl)
theorem dX0_wellBy_58 : decode cX0_wellBy 58 = .ok (.aload_n 0, 1) := dk_42 (dk_at dksX0_wellBy_2 10 rfl rfl)
theorem dX0_wellBy_59 : decode cX0_wellBy 59 = .ok (.getfield 62, 3) := dk_180 0 62 (dk_at dksX0_wellBy_2 11 rfl rfl)
theorem dX0_wellBy_62 : decode cX0_wellBy 62 = .ok (.getfield 181, 3) := dk_180 0 181 (dk_at dksX0_wellBy_2 14 rfl rfl)
theorem dX0_wellBy_65 : decode cX0_wellBy 65 = .ok (.iconst 0, 1) := dk_3 (dk_at dksX0_wellBy_2 17 rfl rfl)
theorem dX0_wellBy_66 : decode cX0_wellBy 66 = .ok (.iaload, 1) := dk_46 (dk_at dksX0_wellBy_2 18 rfl rfl)
theorem dX0_wellBy_67 : decode cX0_wellBy 67 = .ok (.ifCond .ne 7, 3) := dk_154 0 7 (dk_at dksX0_wellBy_2 19 rfl rfl)
theorem dX0_wellBy_70 : decode cX0_wellBy 70 = .ok (.iload_n 3, 1) := dk_29 (dk_at dksX0_wellBy_2 22 rfl rfl)
theorem dX0_wellBy_71 : decode cX0_wellBy 71 = .ok (.goto 5, 3) := dk_167 0 5 (dk_at dksX0_wellBy_3 0 rfl rfl)
theorem dX0_wellBy_74 : decode cX0_wellBy 74 = .ok (.bipush (-9), 2) := dk_16 247 (dk_at dksX0_wellBy_3 3 rfl rfl)
theorem dX0_wellBy_76 : decode cX0_wellBy 76 = .ok (.istore_n 2, 1) := dk_61 (dk_at dksX0_wellBy_3 5 rfl rfl)
theorem dX0_wellBy_77 : decode cX0_wellBy 77 = .ok (.iinc 3 1, 3) := dk_132 3 1 (dk_at dksX0_wellBy_3 6 rfl rfl)
theorem dX0_wellBy_80 : decode cX0_wellBy 80 = .ok (.goto (-65), 3) := dk_167 255 191 (dk_at dksX0_wellBy_3 9 rfl rfl)
theorem dX0_wellBy_83 : decode cX0_wellBy 83 = .ok (.aload_n 0, 1) := dk_42 (dk_at dksX0_wellBy_3 12 rfl rfl)
theorem dX0_wellBy_84 : decode cX0_wellBy 84 = .ok (.getfield 46, 3) := dk_180 0 46 (dk_at dksX0_wellBy_3 13 rfl rfl)
theorem dX0_wellBy_87 : decode cX0_wellBy 87 = .ok (.getfield 217, 3) := dk_180 0 217 (dk_at dksX0_wellBy_3 16 rfl rfl)
theorem dX0_wellBy_90 : decode cX0_wellBy 90 = .ok (.iconst 0, 1) := dk_3 (dk_at dksX0_wellBy_3 19 rfl rfl)
theorem dX0_wellBy_91 : decode cX0_wellBy 91 = .ok (.iload_n 1, 1) := dk_27 (dk_at dksX0_wellBy_3 20 rfl rfl)
theorem dX0_wellBy_92 : decode cX0_wellBy 92 = .ok (.iastore, 1) := dk_79 (dk_at dksX0_wellBy_3 21 rfl rfl)
theorem dX0_wellBy_93 : decode cX0_wellBy 93 = .ok (.iload_n 2, 1) := dk_28 (dk_at dksX0_wellBy_3 22 rfl rfl)
theorem dX0_wellBy_94 : decode cX0_wellBy 94 = .ok (.ireturn, 1) := dk_172 (dk_at dksX0_wellBy_3 23 rfl rfl)
abbrev cX0_spares : ByteArray := prog_1_method_18_code
def yX0_spares : MethodName := ⟨RX0, "spares", "(I)I"⟩
def dkwX0_spares_4 : List UInt8 := [182, 0, 210, 153, 0, 15, 28, 42, 180, 0, 62, 180, 0, 137, 100, 167, 0, 5, 18, 220, 172]
abbrev dktX0_spares_4 : List UInt8 := dkwX0_spares_4 ++ []
def dkwX0_spares_3 : List UInt8 := [182, 0, 29, 87, 42, 180, 0, 62, 180, 0, 159, 27, 182, 0, 162, 42, 180, 0, 62, 3, 17, 0, 200]
abbrev dktX0_spares_3 : List UInt8 := dkwX0_spares_3 ++ dktX0_spares_4
def dkwX0_spares_2 : List UInt8 := [154, 0, 6, 18, 220, 172, 42, 180, 0, 62, 180, 0, 137, 61, 42, 180, 0, 62, 42, 180, 0, 25]
abbrev dktX0_spares_2 : List UInt8 := dkwX0_spares_2 ++ dktX0_spares_3
def dkwX0_spares_1 : List UInt8 := [172, 42, 180, 0, 62, 42, 180, 0, 25, 182, 0, 29, 87, 42, 180, 0, 62, 3, 17, 0, 200, 182, 0, 210]
abbrev dktX0_spares_1 : List UInt8 := dkwX0_spares_1 ++ dktX0_spares_2
def dkwX0_spares_0 : List UInt8 := [42, 27, 182, 0, 146, 153, 0, 17, 42, 180, 0, 25, 180, 0, 150, 27, 182, 0, 154, 154, 0, 6, 18, 220]
abbrev dktX0_spares_0 : List UInt8 := dkwX0_spares_0 ++ dktX0_spares_1
theorem dksX0_spares_0 : cX0_spares.data.toList.drop 0 = dktX0_spares_0 := by decide +kernel
theorem dksX0_spares_1 : cX0_spares.data.toList.drop 24 = dktX0_spares_1 := dk_seg dksX0_spares_0 24 rfl rfl
theorem dksX0_spares_2 : cX0_spares.data.toList.drop 48 = dktX0_spares_2 := dk_seg dksX0_spares_1 24 rfl rfl
theorem dksX0_spares_3 : cX0_spares.data.toList.drop 70 = dktX0_spares_3 := dk_seg dksX0_spares_2 22 rfl rfl
theorem dksX0_spares_4 : cX0_spares.data.toList.drop 93 = dktX0_spares_4 := dk_seg dksX0_spares_3 23 rfl rfl
theorem dX0_spares_0 : decode cX0_spares 0 = .ok (.aload_n 0, 1) := dk_42 (dk_at dksX0_spares_0 0 rfl rfl)
theorem dX0_spares_1 : decode cX0_spares 1 = .ok (.iload_n 1, 1) := dk_27 (dk_at dksX0_spares_0 1 rfl rfl)
theorem dX0_spares_2 : decode cX0_spares 2 = .ok (.invokevirtual 146, 3) := dk_182 0 146 (dk_at dksX0_spares_0 2 rfl rfl)
theorem dX0_spares_5 : decode cX0_spares 5 = .ok (.ifCond .eq 17, 3) := dk_153 0 17 (dk_at dksX0_spares_0 5 rfl rfl)
theorem dX0_spares_8 : decode cX0_spares 8 = .ok (.aload_n 0, 1) := dk_42 (dk_at dksX0_spares_0 8 rfl rfl)
theorem dX0_spares_9 : decode cX0_spares 9 = .ok (.getfield 25, 3) := dk_180 0 25 (dk_at dksX0_spares_0 9 rfl rfl)
theorem dX0_spares_12 : decode cX0_spares 12 = .ok (.getfield 150, 3) := dk_180 0 150 (dk_at dksX0_spares_0 12 rfl rfl)
theorem dX0_spares_15 : decode cX0_spares 15 = .ok (.iload_n 1, 1) := dk_27 (dk_at dksX0_spares_0 15 rfl rfl)
theorem dX0_spares_16 : decode cX0_spares 16 = .ok (.invokevirtual 154, 3) := dk_182 0 154 (dk_at dksX0_spares_0 16 rfl rfl)
theorem dX0_spares_19 : decode cX0_spares 19 = .ok (.ifCond .ne 6, 3) := dk_154 0 6 (dk_at dksX0_spares_0 19 rfl rfl)
theorem dX0_spares_22 : decode cX0_spares 22 = .ok (.ldc 220, 2) := dk_18 220 (dk_at dksX0_spares_0 22 rfl rfl)
theorem dX0_spares_24 : decode cX0_spares 24 = .ok (.ireturn, 1) := dk_172 (dk_at dksX0_spares_1 0 rfl rfl)
theorem dX0_spares_25 : decode cX0_spares 25 = .ok (.aload_n 0, 1) := dk_42 (dk_at dksX0_spares_1 1 rfl rfl)
theorem dX0_spares_26 : decode cX0_spares 26 = .ok (.getfield 62, 3) := dk_180 0 62 (dk_at dksX0_spares_1 2 rfl rfl)
theorem dX0_spares_29 : decode cX0_spares 29 = .ok (.aload_n 0, 1) := dk_42 (dk_at dksX0_spares_1 5 rfl rfl)
theorem dX0_spares_30 : decode cX0_spares 30 = .ok (.getfield 25, 3) := dk_180 0 25 (dk_at dksX0_spares_1 6 rfl rfl)
theorem dX0_spares_33 : decode cX0_spares 33 = .ok (.invokevirtual 29, 3) := dk_182 0 29 (dk_at dksX0_spares_1 9 rfl rfl)
theorem dX0_spares_36 : decode cX0_spares 36 = .ok (.pop, 1) := dk_87 (dk_at dksX0_spares_1 12 rfl rfl)
theorem dX0_spares_37 : decode cX0_spares 37 = .ok (.aload_n 0, 1) := dk_42 (dk_at dksX0_spares_1 13 rfl rfl)
theorem dX0_spares_38 : decode cX0_spares 38 = .ok (.getfield 62, 3) := dk_180 0 62 (dk_at dksX0_spares_1 14 rfl rfl)
theorem dX0_spares_41 : decode cX0_spares 41 = .ok (.iconst 0, 1) := dk_3 (dk_at dksX0_spares_1 17 rfl rfl)
theorem dX0_spares_42 : decode cX0_spares 42 = .ok (.sipush 200, 3) := dk_17 0 200 (dk_at dksX0_spares_1 18 rfl rfl)
theorem dX0_spares_45 : decode cX0_spares 45 = .ok (.invokevirtual 210, 3) := dk_182 0 210 (dk_at dksX0_spares_1 21 rfl rfl)
theorem dX0_spares_48 : decode cX0_spares 48 = .ok (.ifCond .ne 6, 3) := dk_154 0 6 (dk_at dksX0_spares_2 0 rfl rfl)
theorem dX0_spares_51 : decode cX0_spares 51 = .ok (.ldc 220, 2) := dk_18 220 (dk_at dksX0_spares_2 3 rfl rfl)
theorem dX0_spares_53 : decode cX0_spares 53 = .ok (.ireturn, 1) := dk_172 (dk_at dksX0_spares_2 5 rfl rfl)
theorem dX0_spares_54 : decode cX0_spares 54 = .ok (.aload_n 0, 1) := dk_42 (dk_at dksX0_spares_2 6 rfl rfl)
theorem dX0_spares_55 : decode cX0_spares 55 = .ok (.getfield 62, 3) := dk_180 0 62 (dk_at dksX0_spares_2 7 rfl rfl)
theorem dX0_spares_58 : decode cX0_spares 58 = .ok (.getfield 137, 3) := dk_180 0 137 (dk_at dksX0_spares_2 10 rfl rfl)
theorem dX0_spares_61 : decode cX0_spares 61 = .ok (.istore_n 2, 1) := dk_61 (dk_at dksX0_spares_2 13 rfl rfl)
theorem dX0_spares_62 : decode cX0_spares 62 = .ok (.aload_n 0, 1) := dk_42 (dk_at dksX0_spares_2 14 rfl rfl)
theorem dX0_spares_63 : decode cX0_spares 63 = .ok (.getfield 62, 3) := dk_180 0 62 (dk_at dksX0_spares_2 15 rfl rfl)
theorem dX0_spares_66 : decode cX0_spares 66 = .ok (.aload_n 0, 1) := dk_42 (dk_at dksX0_spares_2 18 rfl rfl)
theorem dX0_spares_67 : decode cX0_spares 67 = .ok (.getfield 25, 3) := dk_180 0 25 (dk_at dksX0_spares_2 19 rfl rfl)
theorem dX0_spares_70 : decode cX0_spares 70 = .ok (.invokevirtual 29, 3) := dk_182 0 29 (dk_at dksX0_spares_3 0 rfl rfl)
theorem dX0_spares_73 : decode cX0_spares 73 = .ok (.pop, 1) := dk_87 (dk_at dksX0_spares_3 3 rfl rfl)
theorem dX0_spares_74 : decode cX0_spares 74 = .ok (.aload_n 0, 1) := dk_42 (dk_at dksX0_spares_3 4 rfl rfl)
theorem dX0_spares_75 : decode cX0_spares 75 = .ok (.getfield 62, 3) := dk_180 0 62 (dk_at dksX0_spares_3 5 rfl rfl)
theorem dX0_spares_78 : decode cX0_spares 78 = .ok (.getfield 159, 3) := dk_180 0 159 (dk_at dksX0_spares_3 8 rfl rfl)
theorem dX0_spares_81 : decode cX0_spares 81 = .ok (.iload_n 1, 1) := dk_27 (dk_at dksX0_spares_3 11 rfl rfl)
theorem dX0_spares_82 : decode cX0_spares 82 = .ok (.invokevirtual 162, 3) := dk_182 0 162 (dk_at dksX0_spares_3 12 rfl rfl)
theorem dX0_spares_85 : decode cX0_spares 85 = .ok (.aload_n 0, 1) := dk_42 (dk_at dksX0_spares_3 15 rfl rfl)
theorem dX0_spares_86 : decode cX0_spares 86 = .ok (.getfield 62, 3) := dk_180 0 62 (dk_at dksX0_spares_3 16 rfl rfl)
theorem dX0_spares_89 : decode cX0_spares 89 = .ok (.iconst 0, 1) := dk_3 (dk_at dksX0_spares_3 19 rfl rfl)
theorem dX0_spares_90 : decode cX0_spares 90 = .ok (.sipush 200, 3) := dk_17 0 200 (dk_at dksX0_spares_3 20 rfl rfl)
theorem dX0_spares_93 : decode cX0_spares 93 = .ok (.invokevirtual 210, 3) := dk_182 0 210 (dk_at dksX0_spares_4 0 rfl rfl)
theorem dX0_spares_96 : decode cX0_spares 96 = .ok (.ifCond .eq 15, 3) := dk_153 0 15 (dk_at dksX0_spares_4 3 rfl rfl)
theorem dX0_spares_99 : decode cX0_spares 99 = .ok (.iload_n 2, 1) := dk_28 (dk_at dksX0_spares_4 6 rfl rfl)
theorem dX0_spares_100 : decode cX0_spares 100 = .ok (.aload_n 0, 1) := dk_42 (dk_at dksX0_spares_4 7 rfl rfl)
theorem dX0_spares_101 : decode cX0_spares 101 = .ok (.getfield 62, 3) := dk_180 0 62 (dk_at dksX0_spares_4 8 rfl rfl)
theorem dX0_spares_104 : decode cX0_spares 104 = .ok (.getfield 137, 3) := dk_180 0 137 (dk_at dksX0_spares_4 11 rfl rfl)
theorem dX0_spares_107 : decode cX0_spares 107 = .ok (.isub, 1) := dk_100 (dk_at dksX0_spares_4 14 rfl rfl)
theorem dX0_spares_108 : decode cX0_spares 108 = .ok (.goto 5, 3) := dk_167 0 5 (dk_at dksX0_spares_4 15 rfl rfl)
theorem dX0_spares_111 : decode cX0_spares 111 = .ok (.ldc 220, 2) := dk_18 220 (dk_at dksX0_spares_4 18 rfl rfl)
theorem dX0_spares_113 : decode cX0_spares 113 = .ok (.ireturn, 1) := dk_172 (dk_at dksX0_spares_4 20 rfl rfl)
abbrev cX0_sees : ByteArray := prog_1_method_19_code
def yX0_sees : MethodName := ⟨RX0, "sees", "(III)I"⟩
def dkwX0_sees_3 : List UInt8 := [79, 42, 89, 180, 0, 128, 4, 96, 181, 0, 128, 42, 180, 0, 128, 172]
abbrev dktX0_sees_3 : List UInt8 := dkwX0_sees_3 ++ []
def dkwX0_sees_2 : List UInt8 := [180, 0, 128, 27, 79, 42, 180, 0, 81, 42, 180, 0, 128, 28, 79, 42, 180, 0, 84, 42, 180, 0, 128, 29]
abbrev dktX0_sees_2 : List UInt8 := dkwX0_sees_2 ++ dktX0_sees_3
def dkwX0_sees_1 : List UInt8 := [154, 0, 5, 2, 172, 42, 180, 0, 128, 16, 6, 160, 0, 6, 16, 253, 172, 42, 180, 0, 77, 42]
abbrev dktX0_sees_1 : List UInt8 := dkwX0_sees_1 ++ dktX0_sees_2
def dkwX0_sees_0 : List UInt8 := [42, 27, 182, 0, 146, 153, 0, 22, 28, 4, 16, 60, 184, 0, 100, 153, 0, 12, 29, 3, 4, 184, 0, 100]
abbrev dktX0_sees_0 : List UInt8 := dkwX0_sees_0 ++ dktX0_sees_1
theorem dksX0_sees_0 : cX0_sees.data.toList.drop 0 = dktX0_sees_0 := by decide +kernel
theorem dksX0_sees_1 : cX0_sees.data.toList.drop 24 = dktX0_sees_1 := dk_seg dksX0_sees_0 24 rfl rfl
theorem dksX0_sees_2 : cX0_sees.data.toList.drop 46 = dktX0_sees_2 := dk_seg dksX0_sees_1 22 rfl rfl
theorem dksX0_sees_3 : cX0_sees.data.toList.drop 70 = dktX0_sees_3 := dk_seg dksX0_sees_2 24 rfl rfl
theorem dX0_sees_0 : decode cX0_sees 0 = .ok (.aload_n 0, 1) := dk_42 (dk_at dksX0_sees_0 0 rfl rfl)
theorem dX0_sees_1 : decode cX0_sees 1 = .ok (.iload_n 1, 1) := dk_27 (dk_at dksX0_sees_0 1 rfl rfl)
theorem dX0_sees_2 : decode cX0_sees 2 = .ok (.invokevirtual 146, 3) := dk_182 0 146 (dk_at dksX0_sees_0 2 rfl rfl)
theorem dX0_sees_5 : decode cX0_sees 5 = .ok (.ifCond .eq 22, 3) := dk_153 0 22 (dk_at dksX0_sees_0 5 rfl rfl)
theorem dX0_sees_8 : decode cX0_sees 8 = .ok (.iload_n 2, 1) := dk_28 (dk_at dksX0_sees_0 8 rfl rfl)
theorem dX0_sees_9 : decode cX0_sees 9 = .ok (.iconst 1, 1) := dk_4 (dk_at dksX0_sees_0 9 rfl rfl)
theorem dX0_sees_10 : decode cX0_sees 10 = .ok (.bipush 60, 2) := dk_16 60 (dk_at dksX0_sees_0 10 rfl rfl)
theorem dX0_sees_12 : decode cX0_sees 12 = .ok (.invokestatic 100, 3) := dk_184 0 100 (dk_at dksX0_sees_0 12 rfl rfl)
theorem dX0_sees_15 : decode cX0_sees 15 = .ok (.ifCond .eq 12, 3) := dk_153 0 12 (dk_at dksX0_sees_0 15 rfl rfl)
theorem dX0_sees_18 : decode cX0_sees 18 = .ok (.iload_n 3, 1) := dk_29 (dk_at dksX0_sees_0 18 rfl rfl)
theorem dX0_sees_19 : decode cX0_sees 19 = .ok (.iconst 0, 1) := dk_3 (dk_at dksX0_sees_0 19 rfl rfl)
theorem dX0_sees_20 : decode cX0_sees 20 = .ok (.iconst 1, 1) := dk_4 (dk_at dksX0_sees_0 20 rfl rfl)
theorem dX0_sees_21 : decode cX0_sees 21 = .ok (.invokestatic 100, 3) := dk_184 0 100 (dk_at dksX0_sees_0 21 rfl rfl)
theorem dX0_sees_24 : decode cX0_sees 24 = .ok (.ifCond .ne 5, 3) := dk_154 0 5 (dk_at dksX0_sees_1 0 rfl rfl)
theorem dX0_sees_27 : decode cX0_sees 27 = .ok (.iconst (-1), 1) := dk_2 (dk_at dksX0_sees_1 3 rfl rfl)
theorem dX0_sees_28 : decode cX0_sees 28 = .ok (.ireturn, 1) := dk_172 (dk_at dksX0_sees_1 4 rfl rfl)
theorem dX0_sees_29 : decode cX0_sees 29 = .ok (.aload_n 0, 1) := dk_42 (dk_at dksX0_sees_1 5 rfl rfl)
theorem dX0_sees_30 : decode cX0_sees 30 = .ok (.getfield 128, 3) := dk_180 0 128 (dk_at dksX0_sees_1 6 rfl rfl)
theorem dX0_sees_33 : decode cX0_sees 33 = .ok (.bipush 6, 2) := dk_16 6 (dk_at dksX0_sees_1 9 rfl rfl)
theorem dX0_sees_35 : decode cX0_sees 35 = .ok (.if_icmp .ne 6, 3) := dk_160 0 6 (dk_at dksX0_sees_1 11 rfl rfl)
theorem dX0_sees_38 : decode cX0_sees 38 = .ok (.bipush (-3), 2) := dk_16 253 (dk_at dksX0_sees_1 14 rfl rfl)
theorem dX0_sees_40 : decode cX0_sees 40 = .ok (.ireturn, 1) := dk_172 (dk_at dksX0_sees_1 16 rfl rfl)
theorem dX0_sees_41 : decode cX0_sees 41 = .ok (.aload_n 0, 1) := dk_42 (dk_at dksX0_sees_1 17 rfl rfl)
theorem dX0_sees_42 : decode cX0_sees 42 = .ok (.getfield 77, 3) := dk_180 0 77 (dk_at dksX0_sees_1 18 rfl rfl)
theorem dX0_sees_45 : decode cX0_sees 45 = .ok (.aload_n 0, 1) := dk_42 (dk_at dksX0_sees_1 21 rfl rfl)
theorem dX0_sees_46 : decode cX0_sees 46 = .ok (.getfield 128, 3) := dk_180 0 128 (dk_at dksX0_sees_2 0 rfl rfl)
theorem dX0_sees_49 : decode cX0_sees 49 = .ok (.iload_n 1, 1) := dk_27 (dk_at dksX0_sees_2 3 rfl rfl)
theorem dX0_sees_50 : decode cX0_sees 50 = .ok (.iastore, 1) := dk_79 (dk_at dksX0_sees_2 4 rfl rfl)
theorem dX0_sees_51 : decode cX0_sees 51 = .ok (.aload_n 0, 1) := dk_42 (dk_at dksX0_sees_2 5 rfl rfl)
theorem dX0_sees_52 : decode cX0_sees 52 = .ok (.getfield 81, 3) := dk_180 0 81 (dk_at dksX0_sees_2 6 rfl rfl)
theorem dX0_sees_55 : decode cX0_sees 55 = .ok (.aload_n 0, 1) := dk_42 (dk_at dksX0_sees_2 9 rfl rfl)
theorem dX0_sees_56 : decode cX0_sees 56 = .ok (.getfield 128, 3) := dk_180 0 128 (dk_at dksX0_sees_2 10 rfl rfl)
theorem dX0_sees_59 : decode cX0_sees 59 = .ok (.iload_n 2, 1) := dk_28 (dk_at dksX0_sees_2 13 rfl rfl)
theorem dX0_sees_60 : decode cX0_sees 60 = .ok (.iastore, 1) := dk_79 (dk_at dksX0_sees_2 14 rfl rfl)
theorem dX0_sees_61 : decode cX0_sees 61 = .ok (.aload_n 0, 1) := dk_42 (dk_at dksX0_sees_2 15 rfl rfl)
theorem dX0_sees_62 : decode cX0_sees 62 = .ok (.getfield 84, 3) := dk_180 0 84 (dk_at dksX0_sees_2 16 rfl rfl)
theorem dX0_sees_65 : decode cX0_sees 65 = .ok (.aload_n 0, 1) := dk_42 (dk_at dksX0_sees_2 19 rfl rfl)
theorem dX0_sees_66 : decode cX0_sees 66 = .ok (.getfield 128, 3) := dk_180 0 128 (dk_at dksX0_sees_2 20 rfl rfl)
theorem dX0_sees_69 : decode cX0_sees 69 = .ok (.iload_n 3, 1) := dk_29 (dk_at dksX0_sees_2 23 rfl rfl)
theorem dX0_sees_70 : decode cX0_sees 70 = .ok (.iastore, 1) := dk_79 (dk_at dksX0_sees_3 0 rfl rfl)
theorem dX0_sees_71 : decode cX0_sees 71 = .ok (.aload_n 0, 1) := dk_42 (dk_at dksX0_sees_3 1 rfl rfl)
theorem dX0_sees_72 : decode cX0_sees 72 = .ok (.dup, 1) := dk_89 (dk_at dksX0_sees_3 2 rfl rfl)
theorem dX0_sees_73 : decode cX0_sees 73 = .ok (.getfield 128, 3) := dk_180 0 128 (dk_at dksX0_sees_3 3 rfl rfl)
theorem dX0_sees_76 : decode cX0_sees 76 = .ok (.iconst 1, 1) := dk_4 (dk_at dksX0_sees_3 6 rfl rfl)
theorem dX0_sees_77 : decode cX0_sees 77 = .ok (.iadd, 1) := dk_96 (dk_at dksX0_sees_3 7 rfl rfl)
theorem dX0_sees_78 : decode cX0_sees 78 = .ok (.putfield 128, 3) := dk_181 0 128 (dk_at dksX0_sees_3 8 rfl rfl)
theorem dX0_sees_81 : decode cX0_sees 81 = .ok (.aload_n 0, 1) := dk_42 (dk_at dksX0_sees_3 11 rfl rfl)
theorem dX0_sees_82 : decode cX0_sees 82 = .ok (.getfield 128, 3) := dk_180 0 128 (dk_at dksX0_sees_3 12 rfl rfl)
theorem dX0_sees_85 : decode cX0_sees 85 = .ok (.ireturn, 1) := dk_172 (dk_at dksX0_sees_3 15 rfl rfl)
abbrev cX0_forget : ByteArray := prog_1_method_20_code
def yX0_forget : MethodName := ⟨RX0, "forget", "()I"⟩
def dkwX0_forget_0 : List UInt8 := [42, 180, 0, 128, 60, 42, 3, 181, 0, 128, 27, 172]
abbrev dktX0_forget_0 : List UInt8 := dkwX0_forget_0 ++ []
theorem dksX0_forget_0 : cX0_forget.data.toList.drop 0 = dktX0_forget_0 := by decide +kernel
theorem dX0_forget_0 : decode cX0_forget 0 = .ok (.aload_n 0, 1) := dk_42 (dk_at dksX0_forget_0 0 rfl rfl)
theorem dX0_forget_1 : decode cX0_forget 1 = .ok (.getfield 128, 3) := dk_180 0 128 (dk_at dksX0_forget_0 1 rfl rfl)
theorem dX0_forget_4 : decode cX0_forget 4 = .ok (.istore_n 1, 1) := dk_60 (dk_at dksX0_forget_0 4 rfl rfl)
theorem dX0_forget_5 : decode cX0_forget 5 = .ok (.aload_n 0, 1) := dk_42 (dk_at dksX0_forget_0 5 rfl rfl)
theorem dX0_forget_6 : decode cX0_forget 6 = .ok (.iconst 0, 1) := dk_3 (dk_at dksX0_forget_0 6 rfl rfl)
theorem dX0_forget_7 : decode cX0_forget 7 = .ok (.putfield 128, 3) := dk_181 0 128 (dk_at dksX0_forget_0 7 rfl rfl)
theorem dX0_forget_10 : decode cX0_forget 10 = .ok (.iload_n 1, 1) := dk_27 (dk_at dksX0_forget_0 10 rfl rfl)
theorem dX0_forget_11 : decode cX0_forget 11 = .ok (.ireturn, 1) := dk_172 (dk_at dksX0_forget_0 11 rfl rfl)
abbrev cX0_fits : ByteArray := prog_1_method_22_code
def yX0_fits : MethodName := ⟨RX0, "fits", "(I)I"⟩
def dkwX0_fits_3 : List UInt8 := [180, 0, 46, 180, 0, 217, 27, 28, 79, 29, 172]
abbrev dktX0_fits_3 : List UInt8 := dkwX0_fits_3 ++ []
def dkwX0_fits_2 : List UInt8 := [182, 0, 221, 153, 0, 10, 4, 21, 4, 120, 167, 0, 4, 3, 128, 62, 132, 4, 1, 167, 255, 217, 42]
abbrev dktX0_fits_2 : List UInt8 := dkwX0_fits_2 ++ dktX0_fits_3
def dkwX0_fits_1 : List UInt8 := [54, 4, 21, 4, 16, 30, 163, 0, 38, 42, 180, 0, 46, 180, 0, 217, 27, 21, 4, 79, 29, 42]
abbrev dktX0_fits_1 : List UInt8 := dkwX0_fits_1 ++ dktX0_fits_2
def dkwX0_fits_0 : List UInt8 := [42, 27, 182, 0, 146, 154, 0, 5, 2, 172, 42, 180, 0, 46, 180, 0, 217, 27, 46, 61, 3, 62, 4]
abbrev dktX0_fits_0 : List UInt8 := dkwX0_fits_0 ++ dktX0_fits_1
theorem dksX0_fits_0 : cX0_fits.data.toList.drop 0 = dktX0_fits_0 := by decide +kernel
theorem dksX0_fits_1 : cX0_fits.data.toList.drop 23 = dktX0_fits_1 := dk_seg dksX0_fits_0 23 rfl rfl
theorem dksX0_fits_2 : cX0_fits.data.toList.drop 45 = dktX0_fits_2 := dk_seg dksX0_fits_1 22 rfl rfl
theorem dksX0_fits_3 : cX0_fits.data.toList.drop 68 = dktX0_fits_3 := dk_seg dksX0_fits_2 23 rfl rfl
theorem dX0_fits_0 : decode cX0_fits 0 = .ok (.aload_n 0, 1) := dk_42 (dk_at dksX0_fits_0 0 rfl rfl)
theorem dX0_fits_1 : decode cX0_fits 1 = .ok (.iload_n 1, 1) := dk_27 (dk_at dksX0_fits_0 1 rfl rfl)
theorem dX0_fits_2 : decode cX0_fits 2 = .ok (.invokevirtual 146, 3) := dk_182 0 146 (dk_at dksX0_fits_0 2 rfl rfl)
theorem dX0_fits_5 : decode cX0_fits 5 = .ok (.ifCond .ne 5, 3) := dk_154 0 5 (dk_at dksX0_fits_0 5 rfl rfl)
theorem dX0_fits_8 : decode cX0_fits 8 = .ok (.iconst (-1), 1) := dk_2 (dk_at dksX0_fits_0 8 rfl rfl)
theorem dX0_fits_9 : decode cX0_fits 9 = .ok (.ireturn, 1) := dk_172 (dk_at dksX0_fits_0 9 rfl rfl)
theorem dX0_fits_10 : decode cX0_fits 10 = .ok (.aload_n 0, 1) := dk_42 (dk_at dksX0_fits_0 10 rfl rfl)
theorem dX0_fits_11 : decode cX0_fits 11 = .ok (.getfield 46, 3) := dk_180 0 46 (dk_at dksX0_fits_0 11 rfl rfl)
theorem dX0_fits_14 : decode cX0_fits 14 = .ok (.getfield 217, 3) := dk_180 0 217 (dk_at dksX0_fits_0 14 rfl rfl)
theorem dX0_fits_17 : decode cX0_fits 17 = .ok (.iload_n 1, 1) := dk_27 (dk_at dksX0_fits_0 17 rfl rfl)
theorem dX0_fits_18 : decode cX0_fits 18 = .ok (.iaload, 1) := dk_46 (dk_at dksX0_fits_0 18 rfl rfl)
theorem dX0_fits_19 : decode cX0_fits 19 = .ok (.istore_n 2, 1) := dk_61 (dk_at dksX0_fits_0 19 rfl rfl)
theorem dX0_fits_20 : decode cX0_fits 20 = .ok (.iconst 0, 1) := dk_3 (dk_at dksX0_fits_0 20 rfl rfl)
theorem dX0_fits_21 : decode cX0_fits 21 = .ok (.istore_n 3, 1) := dk_62 (dk_at dksX0_fits_0 21 rfl rfl)
theorem dX0_fits_22 : decode cX0_fits 22 = .ok (.iconst 1, 1) := dk_4 (dk_at dksX0_fits_0 22 rfl rfl)
theorem dX0_fits_23 : decode cX0_fits 23 = .ok (.istore 4, 2) := dk_54 4 (dk_at dksX0_fits_1 0 rfl rfl)
theorem dX0_fits_25 : decode cX0_fits 25 = .ok (.iload 4, 2) := dk_21 4 (dk_at dksX0_fits_1 2 rfl rfl)
theorem dX0_fits_27 : decode cX0_fits 27 = .ok (.bipush 30, 2) := dk_16 30 (dk_at dksX0_fits_1 4 rfl rfl)
theorem dX0_fits_29 : decode cX0_fits 29 = .ok (.if_icmp .gt 38, 3) := dk_163 0 38 (dk_at dksX0_fits_1 6 rfl rfl)
theorem dX0_fits_32 : decode cX0_fits 32 = .ok (.aload_n 0, 1) := dk_42 (dk_at dksX0_fits_1 9 rfl rfl)
theorem dX0_fits_33 : decode cX0_fits 33 = .ok (.getfield 46, 3) := dk_180 0 46 (dk_at dksX0_fits_1 10 rfl rfl)
theorem dX0_fits_36 : decode cX0_fits 36 = .ok (.getfield 217, 3) := dk_180 0 217 (dk_at dksX0_fits_1 13 rfl rfl)
theorem dX0_fits_39 : decode cX0_fits 39 = .ok (.iload_n 1, 1) := dk_27 (dk_at dksX0_fits_1 16 rfl rfl)
theorem dX0_fits_40 : decode cX0_fits 40 = .ok (.iload 4, 2) := dk_21 4 (dk_at dksX0_fits_1 17 rfl rfl)
theorem dX0_fits_42 : decode cX0_fits 42 = .ok (.iastore, 1) := dk_79 (dk_at dksX0_fits_1 19 rfl rfl)
theorem dX0_fits_43 : decode cX0_fits 43 = .ok (.iload_n 3, 1) := dk_29 (dk_at dksX0_fits_1 20 rfl rfl)
theorem dX0_fits_44 : decode cX0_fits 44 = .ok (.aload_n 0, 1) := dk_42 (dk_at dksX0_fits_1 21 rfl rfl)
theorem dX0_fits_45 : decode cX0_fits 45 = .ok (.invokevirtual 221, 3) := dk_182 0 221 (dk_at dksX0_fits_2 0 rfl rfl)
theorem dX0_fits_48 : decode cX0_fits 48 = .ok (.ifCond .eq 10, 3) := dk_153 0 10 (dk_at dksX0_fits_2 3 rfl rfl)
theorem dX0_fits_51 : decode cX0_fits 51 = .ok (.iconst 1, 1) := dk_4 (dk_at dksX0_fits_2 6 rfl rfl)
theorem dX0_fits_52 : decode cX0_fits 52 = .ok (.iload 4, 2) := dk_21 4 (dk_at dksX0_fits_2 7 rfl rfl)
theorem dX0_fits_54 : decode cX0_fits 54 = .ok (.ishl, 1) := dk_120 (dk_at dksX0_fits_2 9 rfl rfl)
theorem dX0_fits_55 : decode cX0_fits 55 = .ok (.goto 4, 3) := dk_167 0 4 (dk_at dksX0_fits_2 10 rfl rfl)
theorem dX0_fits_58 : decode cX0_fits 58 = .ok (.iconst 0, 1) := dk_3 (dk_at dksX0_fits_2 13 rfl rfl)
theorem dX0_fits_59 : decode cX0_fits 59 = .ok (.ior, 1) := dk_128 (dk_at dksX0_fits_2 14 rfl rfl)
theorem dX0_fits_60 : decode cX0_fits 60 = .ok (.istore_n 3, 1) := dk_62 (dk_at dksX0_fits_2 15 rfl rfl)
theorem dX0_fits_61 : decode cX0_fits 61 = .ok (.iinc 4 1, 3) := dk_132 4 1 (dk_at dksX0_fits_2 16 rfl rfl)
theorem dX0_fits_64 : decode cX0_fits 64 = .ok (.goto (-39), 3) := dk_167 255 217 (dk_at dksX0_fits_2 19 rfl rfl)
theorem dX0_fits_67 : decode cX0_fits 67 = .ok (.aload_n 0, 1) := dk_42 (dk_at dksX0_fits_2 22 rfl rfl)
theorem dX0_fits_68 : decode cX0_fits 68 = .ok (.getfield 46, 3) := dk_180 0 46 (dk_at dksX0_fits_3 0 rfl rfl)
theorem dX0_fits_71 : decode cX0_fits 71 = .ok (.getfield 217, 3) := dk_180 0 217 (dk_at dksX0_fits_3 3 rfl rfl)
theorem dX0_fits_74 : decode cX0_fits 74 = .ok (.iload_n 1, 1) := dk_27 (dk_at dksX0_fits_3 6 rfl rfl)
theorem dX0_fits_75 : decode cX0_fits 75 = .ok (.iload_n 2, 1) := dk_28 (dk_at dksX0_fits_3 7 rfl rfl)
theorem dX0_fits_76 : decode cX0_fits 76 = .ok (.iastore, 1) := dk_79 (dk_at dksX0_fits_3 8 rfl rfl)
theorem dX0_fits_77 : decode cX0_fits 77 = .ok (.iload_n 3, 1) := dk_29 (dk_at dksX0_fits_3 9 rfl rfl)
theorem dX0_fits_78 : decode cX0_fits 78 = .ok (.ireturn, 1) := dk_172 (dk_at dksX0_fits_3 10 rfl rfl)
abbrev cX0_isSo : ByteArray := prog_1_method_21_code
def yX0_isSo : MethodName := ⟨RX0, "isSo", "()Z"⟩
def dkwX0_isSo_3 : List UInt8 := [167, 255, 189, 27, 172]
abbrev dktX0_isSo_3 : List UInt8 := dkwX0_isSo_3 ++ []
def dkwX0_isSo_2 : List UInt8 := [28, 46, 4, 160, 0, 7, 4, 167, 0, 4, 3, 160, 0, 7, 4, 167, 0, 4, 3, 60, 132, 2, 1]
abbrev dktX0_isSo_2 : List UInt8 := dkwX0_isSo_2 ++ dktX0_isSo_3
def dkwX0_isSo_1 : List UInt8 := [180, 0, 77, 28, 46, 42, 180, 0, 81, 28, 46, 182, 0, 210, 62, 27, 153, 0, 26, 29, 42, 180, 0, 84]
abbrev dktX0_isSo_1 : List UInt8 := dkwX0_isSo_1 ++ dktX0_isSo_2
def dkwX0_isSo_0 : List UInt8 := [4, 60, 3, 61, 28, 42, 180, 0, 128, 162, 0, 65, 42, 180, 0, 62, 182, 0, 97, 42, 180, 0, 62, 42]
abbrev dktX0_isSo_0 : List UInt8 := dkwX0_isSo_0 ++ dktX0_isSo_1
theorem dksX0_isSo_0 : cX0_isSo.data.toList.drop 0 = dktX0_isSo_0 := by decide +kernel
theorem dksX0_isSo_1 : cX0_isSo.data.toList.drop 24 = dktX0_isSo_1 := dk_seg dksX0_isSo_0 24 rfl rfl
theorem dksX0_isSo_2 : cX0_isSo.data.toList.drop 48 = dktX0_isSo_2 := dk_seg dksX0_isSo_1 24 rfl rfl
theorem dksX0_isSo_3 : cX0_isSo.data.toList.drop 71 = dktX0_isSo_3 := dk_seg dksX0_isSo_2 23 rfl rfl
theorem dX0_isSo_0 : decode cX0_isSo 0 = .ok (.iconst 1, 1) := dk_4 (dk_at dksX0_isSo_0 0 rfl rfl)
theorem dX0_isSo_1 : decode cX0_isSo 1 = .ok (.istore_n 1, 1) := dk_60 (dk_at dksX0_isSo_0 1 rfl rfl)
theorem dX0_isSo_2 : decode cX0_isSo 2 = .ok (.iconst 0, 1) := dk_3 (dk_at dksX0_isSo_0 2 rfl rfl)
theorem dX0_isSo_3 : decode cX0_isSo 3 = .ok (.istore_n 2, 1) := dk_61 (dk_at dksX0_isSo_0 3 rfl rfl)
theorem dX0_isSo_4 : decode cX0_isSo 4 = .ok (.iload_n 2, 1) := dk_28 (dk_at dksX0_isSo_0 4 rfl rfl)
theorem dX0_isSo_5 : decode cX0_isSo 5 = .ok (.aload_n 0, 1) := dk_42 (dk_at dksX0_isSo_0 5 rfl rfl)
theorem dX0_isSo_6 : decode cX0_isSo 6 = .ok (.getfield 128, 3) := dk_180 0 128 (dk_at dksX0_isSo_0 6 rfl rfl)
theorem dX0_isSo_9 : decode cX0_isSo 9 = .ok (.if_icmp .ge 65, 3) := dk_162 0 65 (dk_at dksX0_isSo_0 9 rfl rfl)
theorem dX0_isSo_12 : decode cX0_isSo 12 = .ok (.aload_n 0, 1) := dk_42 (dk_at dksX0_isSo_0 12 rfl rfl)
theorem dX0_isSo_13 : decode cX0_isSo 13 = .ok (.getfield 62, 3) := dk_180 0 62 (dk_at dksX0_isSo_0 13 rfl rfl)
theorem dX0_isSo_16 : decode cX0_isSo 16 = .ok (.invokevirtual 97, 3) := dk_182 0 97 (dk_at dksX0_isSo_0 16 rfl rfl)
theorem dX0_isSo_19 : decode cX0_isSo 19 = .ok (.aload_n 0, 1) := dk_42 (dk_at dksX0_isSo_0 19 rfl rfl)
theorem dX0_isSo_20 : decode cX0_isSo 20 = .ok (.getfield 62, 3) := dk_180 0 62 (dk_at dksX0_isSo_0 20 rfl rfl)
theorem dX0_isSo_23 : decode cX0_isSo 23 = .ok (.aload_n 0, 1) := dk_42 (dk_at dksX0_isSo_0 23 rfl rfl)
theorem dX0_isSo_24 : decode cX0_isSo 24 = .ok (.getfield 77, 3) := dk_180 0 77 (dk_at dksX0_isSo_1 0 rfl rfl)
theorem dX0_isSo_27 : decode cX0_isSo 27 = .ok (.iload_n 2, 1) := dk_28 (dk_at dksX0_isSo_1 3 rfl rfl)
theorem dX0_isSo_28 : decode cX0_isSo 28 = .ok (.iaload, 1) := dk_46 (dk_at dksX0_isSo_1 4 rfl rfl)
theorem dX0_isSo_29 : decode cX0_isSo 29 = .ok (.aload_n 0, 1) := dk_42 (dk_at dksX0_isSo_1 5 rfl rfl)
theorem dX0_isSo_30 : decode cX0_isSo 30 = .ok (.getfield 81, 3) := dk_180 0 81 (dk_at dksX0_isSo_1 6 rfl rfl)
theorem dX0_isSo_33 : decode cX0_isSo 33 = .ok (.iload_n 2, 1) := dk_28 (dk_at dksX0_isSo_1 9 rfl rfl)
theorem dX0_isSo_34 : decode cX0_isSo 34 = .ok (.iaload, 1) := dk_46 (dk_at dksX0_isSo_1 10 rfl rfl)
theorem dX0_isSo_35 : decode cX0_isSo 35 = .ok (.invokevirtual 210, 3) := dk_182 0 210 (dk_at dksX0_isSo_1 11 rfl rfl)
theorem dX0_isSo_38 : decode cX0_isSo 38 = .ok (.istore_n 3, 1) := dk_62 (dk_at dksX0_isSo_1 14 rfl rfl)
theorem dX0_isSo_39 : decode cX0_isSo 39 = .ok (.iload_n 1, 1) := dk_27 (dk_at dksX0_isSo_1 15 rfl rfl)
theorem dX0_isSo_40 : decode cX0_isSo 40 = .ok (.ifCond .eq 26, 3) := dk_153 0 26 (dk_at dksX0_isSo_1 16 rfl rfl)
theorem dX0_isSo_43 : decode cX0_isSo 43 = .ok (.iload_n 3, 1) := dk_29 (dk_at dksX0_isSo_1 19 rfl rfl)
theorem dX0_isSo_44 : decode cX0_isSo 44 = .ok (.aload_n 0, 1) := dk_42 (dk_at dksX0_isSo_1 20 rfl rfl)
theorem dX0_isSo_45 : decode cX0_isSo 45 = .ok (.getfield 84, 3) := dk_180 0 84 (dk_at dksX0_isSo_1 21 rfl rfl)
theorem dX0_isSo_48 : decode cX0_isSo 48 = .ok (.iload_n 2, 1) := dk_28 (dk_at dksX0_isSo_2 0 rfl rfl)
theorem dX0_isSo_49 : decode cX0_isSo 49 = .ok (.iaload, 1) := dk_46 (dk_at dksX0_isSo_2 1 rfl rfl)
theorem dX0_isSo_50 : decode cX0_isSo 50 = .ok (.iconst 1, 1) := dk_4 (dk_at dksX0_isSo_2 2 rfl rfl)
theorem dX0_isSo_51 : decode cX0_isSo 51 = .ok (.if_icmp .ne 7, 3) := dk_160 0 7 (dk_at dksX0_isSo_2 3 rfl rfl)
theorem dX0_isSo_54 : decode cX0_isSo 54 = .ok (.iconst 1, 1) := dk_4 (dk_at dksX0_isSo_2 6 rfl rfl)
theorem dX0_isSo_55 : decode cX0_isSo 55 = .ok (.goto 4, 3) := dk_167 0 4 (dk_at dksX0_isSo_2 7 rfl rfl)
theorem dX0_isSo_58 : decode cX0_isSo 58 = .ok (.iconst 0, 1) := dk_3 (dk_at dksX0_isSo_2 10 rfl rfl)
theorem dX0_isSo_59 : decode cX0_isSo 59 = .ok (.if_icmp .ne 7, 3) := dk_160 0 7 (dk_at dksX0_isSo_2 11 rfl rfl)
theorem dX0_isSo_62 : decode cX0_isSo 62 = .ok (.iconst 1, 1) := dk_4 (dk_at dksX0_isSo_2 14 rfl rfl)
theorem dX0_isSo_63 : decode cX0_isSo 63 = .ok (.goto 4, 3) := dk_167 0 4 (dk_at dksX0_isSo_2 15 rfl rfl)
theorem dX0_isSo_66 : decode cX0_isSo 66 = .ok (.iconst 0, 1) := dk_3 (dk_at dksX0_isSo_2 18 rfl rfl)
theorem dX0_isSo_67 : decode cX0_isSo 67 = .ok (.istore_n 1, 1) := dk_60 (dk_at dksX0_isSo_2 19 rfl rfl)
theorem dX0_isSo_68 : decode cX0_isSo 68 = .ok (.iinc 2 1, 3) := dk_132 2 1 (dk_at dksX0_isSo_2 20 rfl rfl)
theorem dX0_isSo_71 : decode cX0_isSo 71 = .ok (.goto (-67), 3) := dk_167 255 189 (dk_at dksX0_isSo_3 0 rfl rfl)
theorem dX0_isSo_74 : decode cX0_isSo 74 = .ok (.iload_n 1, 1) := dk_27 (dk_at dksX0_isSo_3 3 rfl rfl)
theorem dX0_isSo_75 : decode cX0_isSo 75 = .ok (.ireturn, 1) := dk_172 (dk_at dksX0_isSo_3 4 rfl rfl)
abbrev cX0_keep : ByteArray := prog_1_method_23_code
def yX0_keep : MethodName := ⟨RX0, "keep", "(I)I"⟩
def dkwX0_keep_1 : List UInt8 := [87, 42, 180, 0, 69, 27, 4, 84, 42, 180, 0, 25, 180, 0, 137, 172]
abbrev dktX0_keep_1 : List UInt8 := dkwX0_keep_1 ++ []
def dkwX0_keep_0 : List UInt8 := [27, 3, 4, 184, 0, 100, 154, 0, 5, 2, 172, 42, 180, 0, 65, 27, 50, 42, 180, 0, 25, 182, 0, 29]
abbrev dktX0_keep_0 : List UInt8 := dkwX0_keep_0 ++ dktX0_keep_1
theorem dksX0_keep_0 : cX0_keep.data.toList.drop 0 = dktX0_keep_0 := by decide +kernel
theorem dksX0_keep_1 : cX0_keep.data.toList.drop 24 = dktX0_keep_1 := dk_seg dksX0_keep_0 24 rfl rfl
theorem dX0_keep_0 : decode cX0_keep 0 = .ok (.iload_n 1, 1) := dk_27 (dk_at dksX0_keep_0 0 rfl rfl)
theorem dX0_keep_1 : decode cX0_keep 1 = .ok (.iconst 0, 1) := dk_3 (dk_at dksX0_keep_0 1 rfl rfl)
theorem dX0_keep_2 : decode cX0_keep 2 = .ok (.iconst 1, 1) := dk_4 (dk_at dksX0_keep_0 2 rfl rfl)
theorem dX0_keep_3 : decode cX0_keep 3 = .ok (.invokestatic 100, 3) := dk_184 0 100 (dk_at dksX0_keep_0 3 rfl rfl)
theorem dX0_keep_6 : decode cX0_keep 6 = .ok (.ifCond .ne 5, 3) := dk_154 0 5 (dk_at dksX0_keep_0 6 rfl rfl)
theorem dX0_keep_9 : decode cX0_keep 9 = .ok (.iconst (-1), 1) := dk_2 (dk_at dksX0_keep_0 9 rfl rfl)
theorem dX0_keep_10 : decode cX0_keep 10 = .ok (.ireturn, 1) := dk_172 (dk_at dksX0_keep_0 10 rfl rfl)
theorem dX0_keep_11 : decode cX0_keep 11 = .ok (.aload_n 0, 1) := dk_42 (dk_at dksX0_keep_0 11 rfl rfl)
theorem dX0_keep_12 : decode cX0_keep 12 = .ok (.getfield 65, 3) := dk_180 0 65 (dk_at dksX0_keep_0 12 rfl rfl)
theorem dX0_keep_15 : decode cX0_keep 15 = .ok (.iload_n 1, 1) := dk_27 (dk_at dksX0_keep_0 15 rfl rfl)
theorem dX0_keep_16 : decode cX0_keep 16 = .ok (.aaload, 1) := dk_50 (dk_at dksX0_keep_0 16 rfl rfl)
theorem dX0_keep_17 : decode cX0_keep 17 = .ok (.aload_n 0, 1) := dk_42 (dk_at dksX0_keep_0 17 rfl rfl)
theorem dX0_keep_18 : decode cX0_keep 18 = .ok (.getfield 25, 3) := dk_180 0 25 (dk_at dksX0_keep_0 18 rfl rfl)
theorem dX0_keep_21 : decode cX0_keep 21 = .ok (.invokevirtual 29, 3) := dk_182 0 29 (dk_at dksX0_keep_0 21 rfl rfl)
theorem dX0_keep_24 : decode cX0_keep 24 = .ok (.pop, 1) := dk_87 (dk_at dksX0_keep_1 0 rfl rfl)
theorem dX0_keep_25 : decode cX0_keep 25 = .ok (.aload_n 0, 1) := dk_42 (dk_at dksX0_keep_1 1 rfl rfl)
theorem dX0_keep_26 : decode cX0_keep 26 = .ok (.getfield 69, 3) := dk_180 0 69 (dk_at dksX0_keep_1 2 rfl rfl)
theorem dX0_keep_29 : decode cX0_keep 29 = .ok (.iload_n 1, 1) := dk_27 (dk_at dksX0_keep_1 5 rfl rfl)
theorem dX0_keep_30 : decode cX0_keep 30 = .ok (.iconst 1, 1) := dk_4 (dk_at dksX0_keep_1 6 rfl rfl)
theorem dX0_keep_31 : decode cX0_keep 31 = .ok (.bastore, 1) := dk_84 (dk_at dksX0_keep_1 7 rfl rfl)
theorem dX0_keep_32 : decode cX0_keep 32 = .ok (.aload_n 0, 1) := dk_42 (dk_at dksX0_keep_1 8 rfl rfl)
theorem dX0_keep_33 : decode cX0_keep 33 = .ok (.getfield 25, 3) := dk_180 0 25 (dk_at dksX0_keep_1 9 rfl rfl)
theorem dX0_keep_36 : decode cX0_keep 36 = .ok (.getfield 137, 3) := dk_180 0 137 (dk_at dksX0_keep_1 12 rfl rfl)
theorem dX0_keep_39 : decode cX0_keep 39 = .ok (.ireturn, 1) := dk_172 (dk_at dksX0_keep_1 15 rfl rfl)
abbrev cX0_back : ByteArray := prog_1_method_24_code
def yX0_back : MethodName := ⟨RX0, "back", "(I)I"⟩
def dkwX0_back_2 : List UInt8 := [172]
abbrev dktX0_back_2 : List UInt8 := dkwX0_back_2 ++ []
def dkwX0_back_1 : List UInt8 := [180, 0, 25, 42, 180, 0, 65, 27, 50, 182, 0, 29, 87, 42, 182, 0, 125, 42, 180, 0, 25, 180, 0, 137]
abbrev dktX0_back_1 : List UInt8 := dkwX0_back_1 ++ dktX0_back_2
def dkwX0_back_0 : List UInt8 := [27, 3, 4, 184, 0, 100, 154, 0, 5, 2, 172, 42, 180, 0, 69, 27, 51, 154, 0, 6, 16, 254, 172, 42]
abbrev dktX0_back_0 : List UInt8 := dkwX0_back_0 ++ dktX0_back_1
theorem dksX0_back_0 : cX0_back.data.toList.drop 0 = dktX0_back_0 := by decide +kernel
theorem dksX0_back_1 : cX0_back.data.toList.drop 24 = dktX0_back_1 := dk_seg dksX0_back_0 24 rfl rfl
theorem dksX0_back_2 : cX0_back.data.toList.drop 48 = dktX0_back_2 := dk_seg dksX0_back_1 24 rfl rfl
theorem dX0_back_0 : decode cX0_back 0 = .ok (.iload_n 1, 1) := dk_27 (dk_at dksX0_back_0 0 rfl rfl)
theorem dX0_back_1 : decode cX0_back 1 = .ok (.iconst 0, 1) := dk_3 (dk_at dksX0_back_0 1 rfl rfl)
theorem dX0_back_2 : decode cX0_back 2 = .ok (.iconst 1, 1) := dk_4 (dk_at dksX0_back_0 2 rfl rfl)
theorem dX0_back_3 : decode cX0_back 3 = .ok (.invokestatic 100, 3) := dk_184 0 100 (dk_at dksX0_back_0 3 rfl rfl)
theorem dX0_back_6 : decode cX0_back 6 = .ok (.ifCond .ne 5, 3) := dk_154 0 5 (dk_at dksX0_back_0 6 rfl rfl)
theorem dX0_back_9 : decode cX0_back 9 = .ok (.iconst (-1), 1) := dk_2 (dk_at dksX0_back_0 9 rfl rfl)
theorem dX0_back_10 : decode cX0_back 10 = .ok (.ireturn, 1) := dk_172 (dk_at dksX0_back_0 10 rfl rfl)
theorem dX0_back_11 : decode cX0_back 11 = .ok (.aload_n 0, 1) := dk_42 (dk_at dksX0_back_0 11 rfl rfl)
theorem dX0_back_12 : decode cX0_back 12 = .ok (.getfield 69, 3) := dk_180 0 69 (dk_at dksX0_back_0 12 rfl rfl)
theorem dX0_back_15 : decode cX0_back 15 = .ok (.iload_n 1, 1) := dk_27 (dk_at dksX0_back_0 15 rfl rfl)
theorem dX0_back_16 : decode cX0_back 16 = .ok (.baload, 1) := dk_51 (dk_at dksX0_back_0 16 rfl rfl)
theorem dX0_back_17 : decode cX0_back 17 = .ok (.ifCond .ne 6, 3) := dk_154 0 6 (dk_at dksX0_back_0 17 rfl rfl)
theorem dX0_back_20 : decode cX0_back 20 = .ok (.bipush (-2), 2) := dk_16 254 (dk_at dksX0_back_0 20 rfl rfl)
theorem dX0_back_22 : decode cX0_back 22 = .ok (.ireturn, 1) := dk_172 (dk_at dksX0_back_0 22 rfl rfl)
theorem dX0_back_23 : decode cX0_back 23 = .ok (.aload_n 0, 1) := dk_42 (dk_at dksX0_back_0 23 rfl rfl)
theorem dX0_back_24 : decode cX0_back 24 = .ok (.getfield 25, 3) := dk_180 0 25 (dk_at dksX0_back_1 0 rfl rfl)
theorem dX0_back_27 : decode cX0_back 27 = .ok (.aload_n 0, 1) := dk_42 (dk_at dksX0_back_1 3 rfl rfl)
theorem dX0_back_28 : decode cX0_back 28 = .ok (.getfield 65, 3) := dk_180 0 65 (dk_at dksX0_back_1 4 rfl rfl)
theorem dX0_back_31 : decode cX0_back 31 = .ok (.iload_n 1, 1) := dk_27 (dk_at dksX0_back_1 7 rfl rfl)
theorem dX0_back_32 : decode cX0_back 32 = .ok (.aaload, 1) := dk_50 (dk_at dksX0_back_1 8 rfl rfl)
theorem dX0_back_33 : decode cX0_back 33 = .ok (.invokevirtual 29, 3) := dk_182 0 29 (dk_at dksX0_back_1 9 rfl rfl)
theorem dX0_back_36 : decode cX0_back 36 = .ok (.pop, 1) := dk_87 (dk_at dksX0_back_1 12 rfl rfl)
theorem dX0_back_37 : decode cX0_back 37 = .ok (.aload_n 0, 1) := dk_42 (dk_at dksX0_back_1 13 rfl rfl)
theorem dX0_back_38 : decode cX0_back 38 = .ok (.invokevirtual 125, 3) := dk_182 0 125 (dk_at dksX0_back_1 14 rfl rfl)
theorem dX0_back_41 : decode cX0_back 41 = .ok (.aload_n 0, 1) := dk_42 (dk_at dksX0_back_1 17 rfl rfl)
theorem dX0_back_42 : decode cX0_back 42 = .ok (.getfield 25, 3) := dk_180 0 25 (dk_at dksX0_back_1 18 rfl rfl)
theorem dX0_back_45 : decode cX0_back 45 = .ok (.getfield 137, 3) := dk_180 0 137 (dk_at dksX0_back_1 21 rfl rfl)
theorem dX0_back_48 : decode cX0_back 48 = .ok (.ireturn, 1) := dk_172 (dk_at dksX0_back_2 0 rfl rfl)
abbrev cX0_count : ByteArray := prog_1_method_25_code
def yX0_count : MethodName := ⟨RX0, "count", "(I)I"⟩
def dkwX0_count_5 : List UInt8 := [180, 0, 13, 182, 0, 168, 172, 2, 172]
abbrev dktX0_count_5 : List UInt8 := dkwX0_count_5 ++ []
def dkwX0_count_4 : List UInt8 := [182, 0, 224, 172, 42, 180, 0, 25, 180, 0, 198, 172, 42, 180, 0, 128, 172, 42, 180, 0, 104, 172, 42]
abbrev dktX0_count_4 : List UInt8 := dkwX0_count_4 ++ dktX0_count_5
def dkwX0_count_3 : List UInt8 := [182, 0, 224, 172, 42, 180, 0, 25, 180, 0, 175, 182, 0, 224, 172, 42, 180, 0, 25, 180, 0, 227]
abbrev dktX0_count_3 : List UInt8 := dkwX0_count_3 ++ dktX0_count_4
def dkwX0_count_2 : List UInt8 := [42, 180, 0, 46, 180, 0, 119, 172, 42, 180, 0, 25, 180, 0, 137, 172, 42, 180, 0, 25, 180, 0, 150]
abbrev dktX0_count_2 : List UInt8 := dkwX0_count_2 ++ dktX0_count_3
def dkwX0_count_1 : List UInt8 := [170, 0, 0, 0, 0, 0, 126, 0, 0, 0, 0, 0, 0, 0, 8, 0, 0, 0, 51, 0, 0, 0, 59, 0, 0, 0, 67, 0, 0, 0, 78, 0, 0, 0, 89, 0, 0, 0, 100, 0, 0, 0, 108, 0, 0, 0, 113, 0, 0, 0, 118]
abbrev dktX0_count_1 : List UInt8 := dkwX0_count_1 ++ dktX0_count_2
def dkwX0_count_0 : List UInt8 := [27]
abbrev dktX0_count_0 : List UInt8 := dkwX0_count_0 ++ dktX0_count_1
theorem dksX0_count_0 : cX0_count.data.toList.drop 0 = dktX0_count_0 := by decide +kernel
theorem dksX0_count_1 : cX0_count.data.toList.drop 1 = dktX0_count_1 := dk_seg dksX0_count_0 1 rfl rfl
theorem dksX0_count_2 : cX0_count.data.toList.drop 52 = dktX0_count_2 := dk_seg dksX0_count_1 51 rfl rfl
theorem dksX0_count_3 : cX0_count.data.toList.drop 75 = dktX0_count_3 := dk_seg dksX0_count_2 23 rfl rfl
theorem dksX0_count_4 : cX0_count.data.toList.drop 97 = dktX0_count_4 := dk_seg dksX0_count_3 22 rfl rfl
theorem dksX0_count_5 : cX0_count.data.toList.drop 120 = dktX0_count_5 := dk_seg dksX0_count_4 23 rfl rfl
theorem dX0_count_0 : decode cX0_count 0 = .ok (.iload_n 1, 1) := dk_27 (dk_at dksX0_count_0 0 rfl rfl)
theorem dX0_count_1 : decode cX0_count 1 = .ok (.tableswitch 126 0 8 #[51, 59, 67, 78, 89, 100, 108, 113, 118], 51) := by decide +kernel
theorem dX0_count_52 : decode cX0_count 52 = .ok (.aload_n 0, 1) := dk_42 (dk_at dksX0_count_2 0 rfl rfl)
theorem dX0_count_53 : decode cX0_count 53 = .ok (.getfield 46, 3) := dk_180 0 46 (dk_at dksX0_count_2 1 rfl rfl)
theorem dX0_count_56 : decode cX0_count 56 = .ok (.getfield 119, 3) := dk_180 0 119 (dk_at dksX0_count_2 4 rfl rfl)
theorem dX0_count_59 : decode cX0_count 59 = .ok (.ireturn, 1) := dk_172 (dk_at dksX0_count_2 7 rfl rfl)
theorem dX0_count_60 : decode cX0_count 60 = .ok (.aload_n 0, 1) := dk_42 (dk_at dksX0_count_2 8 rfl rfl)
theorem dX0_count_61 : decode cX0_count 61 = .ok (.getfield 25, 3) := dk_180 0 25 (dk_at dksX0_count_2 9 rfl rfl)
theorem dX0_count_64 : decode cX0_count 64 = .ok (.getfield 137, 3) := dk_180 0 137 (dk_at dksX0_count_2 12 rfl rfl)
theorem dX0_count_67 : decode cX0_count 67 = .ok (.ireturn, 1) := dk_172 (dk_at dksX0_count_2 15 rfl rfl)
theorem dX0_count_68 : decode cX0_count 68 = .ok (.aload_n 0, 1) := dk_42 (dk_at dksX0_count_2 16 rfl rfl)
theorem dX0_count_69 : decode cX0_count 69 = .ok (.getfield 25, 3) := dk_180 0 25 (dk_at dksX0_count_2 17 rfl rfl)
theorem dX0_count_72 : decode cX0_count 72 = .ok (.getfield 150, 3) := dk_180 0 150 (dk_at dksX0_count_2 20 rfl rfl)
theorem dX0_count_75 : decode cX0_count 75 = .ok (.invokevirtual 224, 3) := dk_182 0 224 (dk_at dksX0_count_3 0 rfl rfl)
theorem dX0_count_78 : decode cX0_count 78 = .ok (.ireturn, 1) := dk_172 (dk_at dksX0_count_3 3 rfl rfl)
theorem dX0_count_79 : decode cX0_count 79 = .ok (.aload_n 0, 1) := dk_42 (dk_at dksX0_count_3 4 rfl rfl)
theorem dX0_count_80 : decode cX0_count 80 = .ok (.getfield 25, 3) := dk_180 0 25 (dk_at dksX0_count_3 5 rfl rfl)
theorem dX0_count_83 : decode cX0_count 83 = .ok (.getfield 175, 3) := dk_180 0 175 (dk_at dksX0_count_3 8 rfl rfl)
theorem dX0_count_86 : decode cX0_count 86 = .ok (.invokevirtual 224, 3) := dk_182 0 224 (dk_at dksX0_count_3 11 rfl rfl)
theorem dX0_count_89 : decode cX0_count 89 = .ok (.ireturn, 1) := dk_172 (dk_at dksX0_count_3 14 rfl rfl)
theorem dX0_count_90 : decode cX0_count 90 = .ok (.aload_n 0, 1) := dk_42 (dk_at dksX0_count_3 15 rfl rfl)
theorem dX0_count_91 : decode cX0_count 91 = .ok (.getfield 25, 3) := dk_180 0 25 (dk_at dksX0_count_3 16 rfl rfl)
theorem dX0_count_94 : decode cX0_count 94 = .ok (.getfield 227, 3) := dk_180 0 227 (dk_at dksX0_count_3 19 rfl rfl)
theorem dX0_count_97 : decode cX0_count 97 = .ok (.invokevirtual 224, 3) := dk_182 0 224 (dk_at dksX0_count_4 0 rfl rfl)
theorem dX0_count_100 : decode cX0_count 100 = .ok (.ireturn, 1) := dk_172 (dk_at dksX0_count_4 3 rfl rfl)
theorem dX0_count_101 : decode cX0_count 101 = .ok (.aload_n 0, 1) := dk_42 (dk_at dksX0_count_4 4 rfl rfl)
theorem dX0_count_102 : decode cX0_count 102 = .ok (.getfield 25, 3) := dk_180 0 25 (dk_at dksX0_count_4 5 rfl rfl)
theorem dX0_count_105 : decode cX0_count 105 = .ok (.getfield 198, 3) := dk_180 0 198 (dk_at dksX0_count_4 8 rfl rfl)
theorem dX0_count_108 : decode cX0_count 108 = .ok (.ireturn, 1) := dk_172 (dk_at dksX0_count_4 11 rfl rfl)
theorem dX0_count_109 : decode cX0_count 109 = .ok (.aload_n 0, 1) := dk_42 (dk_at dksX0_count_4 12 rfl rfl)
theorem dX0_count_110 : decode cX0_count 110 = .ok (.getfield 128, 3) := dk_180 0 128 (dk_at dksX0_count_4 13 rfl rfl)
theorem dX0_count_113 : decode cX0_count 113 = .ok (.ireturn, 1) := dk_172 (dk_at dksX0_count_4 16 rfl rfl)
theorem dX0_count_114 : decode cX0_count 114 = .ok (.aload_n 0, 1) := dk_42 (dk_at dksX0_count_4 17 rfl rfl)
theorem dX0_count_115 : decode cX0_count 115 = .ok (.getfield 104, 3) := dk_180 0 104 (dk_at dksX0_count_4 18 rfl rfl)
theorem dX0_count_118 : decode cX0_count 118 = .ok (.ireturn, 1) := dk_172 (dk_at dksX0_count_4 21 rfl rfl)
theorem dX0_count_119 : decode cX0_count 119 = .ok (.aload_n 0, 1) := dk_42 (dk_at dksX0_count_4 22 rfl rfl)
theorem dX0_count_120 : decode cX0_count 120 = .ok (.getfield 13, 3) := dk_180 0 13 (dk_at dksX0_count_5 0 rfl rfl)
theorem dX0_count_123 : decode cX0_count 123 = .ok (.invokevirtual 168, 3) := dk_182 0 168 (dk_at dksX0_count_5 3 rfl rfl)
theorem dX0_count_126 : decode cX0_count 126 = .ok (.ireturn, 1) := dk_172 (dk_at dksX0_count_5 6 rfl rfl)
theorem dX0_count_127 : decode cX0_count 127 = .ok (.iconst (-1), 1) := dk_2 (dk_at dksX0_count_5 7 rfl rfl)
theorem dX0_count_128 : decode cX0_count 128 = .ok (.ireturn, 1) := dk_172 (dk_at dksX0_count_5 8 rfl rfl)
theorem q60 : (Jvm.Cond.initialized "ScopeTasks") ∈ lw_all := lw_g (lw_at lw_m1 1 rfl) rfl
theorem q85 : (Jvm.Cond.instantiable "ScopeTasks" (15 : Nat)) ∈ lw_all := lw_g (lw_at lw_m1 26 rfl) rfl
theorem q87 : (Jvm.Cond.instanceMethod ({ cls := "ScopeTasks", name := "<init>", desc := "()V" } : Jvm.MethodName)) ∈ lw_all := lw_g (lw_at lw_m1 28 rfl) rfl
theorem q88 : (Jvm.Cond.code ({ cls := "ScopeTasks", name := "<init>", desc := "()V" } : Jvm.MethodName) prog_1_method_4_code (2 : Nat) (Option.none : Option Jvm.ClassFile.FieldType)) ∈ lw_all := lw_g (lw_at lw_m1 29 rfl) rfl
theorem q89 : (Jvm.Cond.methodLink "ScopeTasks" (37 : Nat) ({ cls := "java/lang/Object", name := "<init>", desc := "()V" } : Jvm.MethodName)) ∈ lw_all := lw_g (lw_at lw_m1 30 rfl) rfl
theorem q92 : (Jvm.Cond.classLink "ScopeTasks" (43 : Nat) "ScopeTasks$Tree") ∈ lw_all := lw_g (lw_at lw_m1 33 rfl) rfl
theorem q94 : (Jvm.Cond.methodLinkNest "ScopeTasks" (45 : Nat) ({ cls := "ScopeTasks$Tree", name := "<init>", desc := "()V" } : Jvm.MethodName) "ScopeTasks") ∈ lw_tbl := lw_at lw_m1 35 rfl
theorem q127 : (Jvm.Cond.fieldLinkNest "ScopeTasks" (119 : Nat) "ScopeTasks$Tree" "tasks" "I" "ScopeTasks") ∈ lw_tbl := lw_at lw_m1 68 rfl
theorem q131 : (Jvm.Cond.fieldLinkNest "ScopeTasks" (172 : Nat) "ScopeTasks$Tree" "parent" "[I" "ScopeTasks") ∈ lw_tbl := lw_at lw_m1 72 rfl
theorem q144 : (Jvm.Cond.fieldLinkNest "ScopeTasks" (217 : Nat) "ScopeTasks$Tree" "deadline" "[I" "ScopeTasks") ∈ lw_tbl := lw_at lw_m1 85 rfl
theorem q173 : (Jvm.Cond.classLink "ScopeTasks" (8 : Nat) "java/util/ArrayDeque") ∈ lw_all := lw_g (lw_at lw_m1 114 rfl) rfl
theorem q175 : (Jvm.Cond.methodLink "ScopeTasks" (53 : Nat) ({ cls := "java/util/ArrayDeque", name := "<init>", desc := "(I)V" } : Jvm.MethodName)) ∈ lw_all := lw_g (lw_at lw_m1 116 rfl) rfl
theorem q195 : (Jvm.Cond.classLink "ScopeTasks" (20 : Nat) "ScopeTasks$Run") ∈ lw_all := lw_g (lw_at lw_m1 136 rfl) rfl
theorem q197 : (Jvm.Cond.methodLinkNest "ScopeTasks" (59 : Nat) ({ cls := "ScopeTasks$Run", name := "<init>", desc := "(LScopeTasks;)V" } : Jvm.MethodName) "ScopeTasks") ∈ lw_tbl := lw_at lw_m1 138 rfl
theorem q205 : (Jvm.Cond.fieldLinkNest "ScopeTasks" (137 : Nat) "ScopeTasks$Run" "tick" "I" "ScopeTasks") ∈ lw_tbl := lw_at lw_m1 146 rfl
theorem q207 : (Jvm.Cond.fieldLinkNest "ScopeTasks" (150 : Nat) "ScopeTasks$Run" "running" "Ljava/util/BitSet;" "ScopeTasks") ∈ lw_tbl := lw_at lw_m1 148 rfl
theorem q209 : (Jvm.Cond.fieldLinkNest "ScopeTasks" (175 : Nat) "ScopeTasks$Run" "closing" "Ljava/util/BitSet;" "ScopeTasks") ∈ lw_tbl := lw_at lw_m1 150 rfl
theorem q211 : (Jvm.Cond.fieldLinkNest "ScopeTasks" (227 : Nat) "ScopeTasks$Run" "ended" "Ljava/util/BitSet;" "ScopeTasks") ∈ lw_tbl := lw_at lw_m1 152 rfl
theorem q213 : (Jvm.Cond.fieldLinkNest "ScopeTasks" (159 : Nat) "ScopeTasks$Run" "asked" "Ljava/util/BitSet;" "ScopeTasks") ∈ lw_tbl := lw_at lw_m1 154 rfl
theorem q215 : (Jvm.Cond.fieldLinkNest "ScopeTasks" (181 : Nat) "ScopeTasks$Run" "out" "[I" "ScopeTasks") ∈ lw_tbl := lw_at lw_m1 156 rfl
theorem q217 : (Jvm.Cond.fieldLinkNest "ScopeTasks" (165 : Nat) "ScopeTasks$Run" "gone" "[I" "ScopeTasks") ∈ lw_tbl := lw_at lw_m1 158 rfl
theorem q220 : (Jvm.Cond.fieldLinkNest "ScopeTasks" (184 : Nat) "ScopeTasks$Run" "due" "[I" "ScopeTasks") ∈ lw_tbl := lw_at lw_m1 161 rfl
theorem q223 : (Jvm.Cond.fieldLinkNest "ScopeTasks" (214 : Nat) "ScopeTasks$Run" "end" "[I" "ScopeTasks") ∈ lw_tbl := lw_at lw_m1 164 rfl
theorem q225 : (Jvm.Cond.fieldLinkNest "ScopeTasks" (188 : Nat) "ScopeTasks$Run" "many" "[I" "ScopeTasks") ∈ lw_tbl := lw_at lw_m1 166 rfl
theorem q227 : (Jvm.Cond.fieldLinkNest "ScopeTasks" (194 : Nat) "ScopeTasks$Run" "list" "[[I" "ScopeTasks") ∈ lw_tbl := lw_at lw_m1 168 rfl
theorem q229 : (Jvm.Cond.fieldLinkNest "ScopeTasks" (201 : Nat) "ScopeTasks$Run" "traceTick" "[I" "ScopeTasks") ∈ lw_tbl := lw_at lw_m1 170 rfl
theorem q231 : (Jvm.Cond.fieldLinkNest "ScopeTasks" (204 : Nat) "ScopeTasks$Run" "traceTask" "[I" "ScopeTasks") ∈ lw_tbl := lw_at lw_m1 172 rfl
theorem q233 : (Jvm.Cond.fieldLinkNest "ScopeTasks" (207 : Nat) "ScopeTasks$Run" "traceWhat" "[I" "ScopeTasks") ∈ lw_tbl := lw_at lw_m1 174 rfl
theorem q235 : (Jvm.Cond.fieldLinkNest "ScopeTasks" (198 : Nat) "ScopeTasks$Run" "traced" "I" "ScopeTasks") ∈ lw_tbl := lw_at lw_m1 176 rfl
theorem q275 : (Jvm.Cond.methodLink "ScopeTasks" (87 : Nat) ({ cls := "java/util/ArrayDeque", name := "add", desc := "(Ljava/lang/Object;)Z" } : Jvm.MethodName)) ∈ lw_all := lw_g (lw_at lw_m1 216 rfl) rfl
theorem q301 : (Jvm.Cond.selects "ScopeTasks" ({ cls := "java/lang/Object", name := "getClass", desc := "()Ljava/lang/Class;" } : Jvm.MethodName) ({ cls := "java/lang/Object", name := "getClass", desc := "()Ljava/lang/Class;" } : Jvm.MethodName)) ∈ lw_all := lw_g (lw_at lw_m2 2 rfl) rfl
theorem q323 : (Jvm.Cond.methodLink "ScopeTasks" (91 : Nat) ({ cls := "ScopeTasks$Tree", name := "begin", desc := "()V" } : Jvm.MethodName)) ∈ lw_all := lw_g (lw_at lw_m2 24 rfl) rfl
theorem q331 : (Jvm.Cond.methodLink "ScopeTasks" (94 : Nat) ({ cls := "ScopeTasks$Tree", name := "add", desc := "(I)I" } : Jvm.MethodName)) ∈ lw_all := lw_g (lw_at lw_m2 32 rfl) rfl
theorem q335 : (Jvm.Cond.methodLink "ScopeTasks" (97 : Nat) ({ cls := "ScopeTasks$Run", name := "start", desc := "()V" } : Jvm.MethodName)) ∈ lw_all := lw_g (lw_at lw_m2 36 rfl) rfl
theorem q380 : (Jvm.Cond.fieldLink "ScopeTasks" (46 : Nat) "ScopeTasks" "tree" "LScopeTasks$Tree;") ∈ lw_all := lw_g (lw_at lw_m2 81 rfl) rfl
theorem q382 : (Jvm.Cond.fieldLink "ScopeTasks" (50 : Nat) "ScopeTasks" "draft" "LScopeTasks$Tree;") ∈ lw_all := lw_g (lw_at lw_m2 83 rfl) rfl
theorem q384 : (Jvm.Cond.fieldLink "ScopeTasks" (56 : Nat) "ScopeTasks" "turns" "Ljava/util/ArrayDeque;") ∈ lw_all := lw_g (lw_at lw_m2 85 rfl) rfl
theorem q386 : (Jvm.Cond.fieldLink "ScopeTasks" (25 : Nat) "ScopeTasks" "now" "LScopeTasks$Run;") ∈ lw_all := lw_g (lw_at lw_m2 87 rfl) rfl
theorem q387 : (Jvm.Cond.fieldLink "ScopeTasks" (62 : Nat) "ScopeTasks" "tried" "LScopeTasks$Run;") ∈ lw_all := lw_g (lw_at lw_m2 88 rfl) rfl
theorem q388 : (Jvm.Cond.fieldLink "ScopeTasks" (13 : Nat) "ScopeTasks" "before" "Ljava/util/ArrayDeque;") ∈ lw_all := lw_g (lw_at lw_m2 89 rfl) rfl
theorem q389 : (Jvm.Cond.fieldLink "ScopeTasks" (1 : Nat) "ScopeTasks" "free" "Ljava/util/ArrayDeque;") ∈ lw_all := lw_g (lw_at lw_m2 90 rfl) rfl
theorem q390 : (Jvm.Cond.fieldLink "ScopeTasks" (65 : Nat) "ScopeTasks" "images" "[LScopeTasks$Run;") ∈ lw_all := lw_g (lw_at lw_m2 91 rfl) rfl
theorem q391 : (Jvm.Cond.fieldLink "ScopeTasks" (69 : Nat) "ScopeTasks" "isKept" "[Z") ∈ lw_all := lw_g (lw_at lw_m2 92 rfl) rfl
theorem q393 : (Jvm.Cond.fieldLink "ScopeTasks" (73 : Nat) "ScopeTasks" "text" "[B") ∈ lw_all := lw_g (lw_at lw_m2 94 rfl) rfl
theorem q395 : (Jvm.Cond.fieldLink "ScopeTasks" (104 : Nat) "ScopeTasks" "typed" "I") ∈ lw_all := lw_g (lw_at lw_m2 96 rfl) rfl
theorem q396 : (Jvm.Cond.fieldLink "ScopeTasks" (77 : Nat) "ScopeTasks" "factOf" "[I") ∈ lw_all := lw_g (lw_at lw_m2 97 rfl) rfl
theorem q397 : (Jvm.Cond.fieldLink "ScopeTasks" (81 : Nat) "ScopeTasks" "factAt" "[I") ∈ lw_all := lw_g (lw_at lw_m2 98 rfl) rfl
theorem q398 : (Jvm.Cond.fieldLink "ScopeTasks" (84 : Nat) "ScopeTasks" "factIs" "[I") ∈ lw_all := lw_g (lw_at lw_m2 99 rfl) rfl
theorem q399 : (Jvm.Cond.fieldLink "ScopeTasks" (128 : Nat) "ScopeTasks" "facts" "I") ∈ lw_all := lw_g (lw_at lw_m2 100 rfl) rfl
theorem q400 : (Jvm.Cond.laysFinal "ScopeTasks" "ScopeTasks" "tree" "LScopeTasks$Tree;") ∈ lw_all := lw_g (lw_at lw_m2 101 rfl) rfl
theorem q401 : (Jvm.Cond.soleField "ScopeTasks" "tree") ∈ lw_all := lw_g (lw_at lw_m2 102 rfl) rfl
theorem q402 : (Jvm.Cond.laysFinal "ScopeTasks" "ScopeTasks" "draft" "LScopeTasks$Tree;") ∈ lw_all := lw_g (lw_at lw_m2 103 rfl) rfl
theorem q403 : (Jvm.Cond.soleField "ScopeTasks" "draft") ∈ lw_all := lw_g (lw_at lw_m2 104 rfl) rfl
theorem q404 : (Jvm.Cond.laysFinal "ScopeTasks" "ScopeTasks" "turns" "Ljava/util/ArrayDeque;") ∈ lw_all := lw_g (lw_at lw_m2 105 rfl) rfl
theorem q405 : (Jvm.Cond.soleField "ScopeTasks" "turns") ∈ lw_all := lw_g (lw_at lw_m2 106 rfl) rfl
theorem q406 : (Jvm.Cond.laysFinal "ScopeTasks" "ScopeTasks" "now" "LScopeTasks$Run;") ∈ lw_all := lw_g (lw_at lw_m2 107 rfl) rfl
theorem q407 : (Jvm.Cond.soleField "ScopeTasks" "now") ∈ lw_all := lw_g (lw_at lw_m2 108 rfl) rfl
theorem q408 : (Jvm.Cond.laysFinal "ScopeTasks" "ScopeTasks" "tried" "LScopeTasks$Run;") ∈ lw_all := lw_g (lw_at lw_m2 109 rfl) rfl
theorem q409 : (Jvm.Cond.soleField "ScopeTasks" "tried") ∈ lw_all := lw_g (lw_at lw_m2 110 rfl) rfl
theorem q410 : (Jvm.Cond.laysFinal "ScopeTasks" "ScopeTasks" "before" "Ljava/util/ArrayDeque;") ∈ lw_all := lw_g (lw_at lw_m2 111 rfl) rfl
theorem q411 : (Jvm.Cond.soleField "ScopeTasks" "before") ∈ lw_all := lw_g (lw_at lw_m2 112 rfl) rfl
theorem q412 : (Jvm.Cond.laysFinal "ScopeTasks" "ScopeTasks" "free" "Ljava/util/ArrayDeque;") ∈ lw_all := lw_g (lw_at lw_m2 113 rfl) rfl
theorem q413 : (Jvm.Cond.soleField "ScopeTasks" "free") ∈ lw_all := lw_g (lw_at lw_m2 114 rfl) rfl
theorem q414 : (Jvm.Cond.laysFinal "ScopeTasks" "ScopeTasks" "images" "[LScopeTasks$Run;") ∈ lw_all := lw_g (lw_at lw_m2 115 rfl) rfl
theorem q415 : (Jvm.Cond.soleField "ScopeTasks" "images") ∈ lw_all := lw_g (lw_at lw_m2 116 rfl) rfl
theorem q416 : (Jvm.Cond.laysFinal "ScopeTasks" "ScopeTasks" "isKept" "[Z") ∈ lw_all := lw_g (lw_at lw_m2 117 rfl) rfl
theorem q417 : (Jvm.Cond.soleField "ScopeTasks" "isKept") ∈ lw_all := lw_g (lw_at lw_m2 118 rfl) rfl
theorem q418 : (Jvm.Cond.laysFinal "ScopeTasks" "ScopeTasks" "text" "[B") ∈ lw_all := lw_g (lw_at lw_m2 119 rfl) rfl
theorem q419 : (Jvm.Cond.soleField "ScopeTasks" "text") ∈ lw_all := lw_g (lw_at lw_m2 120 rfl) rfl
theorem q420 : (Jvm.Cond.lays "ScopeTasks" "ScopeTasks" "typed" "I") ∈ lw_all := lw_g (lw_at lw_m2 121 rfl) rfl
theorem q421 : (Jvm.Cond.soleField "ScopeTasks" "typed") ∈ lw_all := lw_g (lw_at lw_m2 122 rfl) rfl
theorem q422 : (Jvm.Cond.laysFinal "ScopeTasks" "ScopeTasks" "factOf" "[I") ∈ lw_all := lw_g (lw_at lw_m2 123 rfl) rfl
theorem q423 : (Jvm.Cond.soleField "ScopeTasks" "factOf") ∈ lw_all := lw_g (lw_at lw_m2 124 rfl) rfl
theorem q424 : (Jvm.Cond.laysFinal "ScopeTasks" "ScopeTasks" "factAt" "[I") ∈ lw_all := lw_g (lw_at lw_m2 125 rfl) rfl
theorem q425 : (Jvm.Cond.soleField "ScopeTasks" "factAt") ∈ lw_all := lw_g (lw_at lw_m2 126 rfl) rfl
theorem q426 : (Jvm.Cond.laysFinal "ScopeTasks" "ScopeTasks" "factIs" "[I") ∈ lw_all := lw_g (lw_at lw_m2 127 rfl) rfl
theorem q427 : (Jvm.Cond.soleField "ScopeTasks" "factIs") ∈ lw_all := lw_g (lw_at lw_m2 128 rfl) rfl
theorem q428 : (Jvm.Cond.lays "ScopeTasks" "ScopeTasks" "facts" "I") ∈ lw_all := lw_g (lw_at lw_m2 129 rfl) rfl
theorem q429 : (Jvm.Cond.soleField "ScopeTasks" "facts") ∈ lw_all := lw_g (lw_at lw_m2 130 rfl) rfl
theorem q430 : (Jvm.Cond.superclass "ScopeTasks" "java/lang/Object") ∈ lw_all := lw_g (lw_at lw_m2 131 rfl) rfl
theorem q434 : (Jvm.Cond.instanceMethod ({ cls := "ScopeTasks", name := "type", desc := "(I)I" } : Jvm.MethodName)) ∈ lw_all := lw_g (lw_at lw_m2 135 rfl) rfl
theorem q435 : (Jvm.Cond.selects "ScopeTasks" ({ cls := "ScopeTasks", name := "type", desc := "(I)I" } : Jvm.MethodName) ({ cls := "ScopeTasks", name := "type", desc := "(I)I" } : Jvm.MethodName)) ∈ lw_all := lw_g (lw_at lw_m2 136 rfl) rfl
theorem q436 : (Jvm.Cond.code ({ cls := "ScopeTasks", name := "type", desc := "(I)I" } : Jvm.MethodName) prog_1_method_5_code (2 : Nat) (Option.some Jvm.ClassFile.FieldType.int)) ∈ lw_all := lw_g (lw_at lw_m2 137 rfl) rfl
theorem q437 : (Jvm.Cond.methodLink "ScopeTasks" (100 : Nat) ({ cls := "ScopeTasks", name := "in", desc := "(III)Z" } : Jvm.MethodName)) ∈ lw_all := lw_g (lw_at lw_m2 138 rfl) rfl
theorem q438 : (Jvm.Cond.static ({ cls := "ScopeTasks", name := "in", desc := "(III)Z" } : Jvm.MethodName)) ∈ lw_all := lw_g (lw_at lw_m2 139 rfl) rfl
theorem q439 : (Jvm.Cond.code ({ cls := "ScopeTasks", name := "in", desc := "(III)Z" } : Jvm.MethodName) prog_1_method_1_code (3 : Nat) (Option.some Jvm.ClassFile.FieldType.boolean)) ∈ lw_all := lw_g (lw_at lw_m2 140 rfl) rfl
theorem q441 : (Jvm.Cond.instanceMethod ({ cls := "ScopeTasks", name := "clear", desc := "()I" } : Jvm.MethodName)) ∈ lw_all := lw_g (lw_at lw_m2 142 rfl) rfl
theorem q442 : (Jvm.Cond.selects "ScopeTasks" ({ cls := "ScopeTasks", name := "clear", desc := "()I" } : Jvm.MethodName) ({ cls := "ScopeTasks", name := "clear", desc := "()I" } : Jvm.MethodName)) ∈ lw_all := lw_g (lw_at lw_m2 143 rfl) rfl
theorem q443 : (Jvm.Cond.code ({ cls := "ScopeTasks", name := "clear", desc := "()I" } : Jvm.MethodName) prog_1_method_6_code (2 : Nat) (Option.some Jvm.ClassFile.FieldType.int)) ∈ lw_all := lw_g (lw_at lw_m2 144 rfl) rfl
theorem q445 : (Jvm.Cond.instanceMethod ({ cls := "ScopeTasks", name := "tree", desc := "()I" } : Jvm.MethodName)) ∈ lw_all := lw_g (lw_at lw_m2 146 rfl) rfl
theorem q446 : (Jvm.Cond.selects "ScopeTasks" ({ cls := "ScopeTasks", name := "tree", desc := "()I" } : Jvm.MethodName) ({ cls := "ScopeTasks", name := "tree", desc := "()I" } : Jvm.MethodName)) ∈ lw_all := lw_g (lw_at lw_m2 147 rfl) rfl
theorem q447 : (Jvm.Cond.codeWith ({ cls := "ScopeTasks", name := "tree", desc := "()I" } : Jvm.MethodName) prog_1_method_7_code (3 : Nat) (Option.some Jvm.ClassFile.FieldType.int) [((9 : Nat), (13 : Nat), (16 : Nat), (114 : Nat))]) ∈ lw_all := lw_g (lw_at lw_m2 148 rfl) rfl
theorem q448 : (Jvm.Cond.classLink "ScopeTasks" (114 : Nat) "ScopeTasks$Wrong") ∈ lw_all := lw_g (lw_at lw_m2 149 rfl) rfl
theorem q449 : (Jvm.Cond.classLink "ScopeTasks" (108 : Nat) "ScopeTasks$Reader") ∈ lw_all := lw_g (lw_at lw_m2 150 rfl) rfl
theorem q451 : (Jvm.Cond.methodLinkNest "ScopeTasks" (110 : Nat) ({ cls := "ScopeTasks$Reader", name := "<init>", desc := "(LScopeTasks;)V" } : Jvm.MethodName) "ScopeTasks") ∈ lw_tbl := lw_at lw_m2 152 rfl
theorem q459 : (Jvm.Cond.fieldLinkNest "ScopeTasks" (131 : Nat) "ScopeTasks$Reader" "items" "I" "ScopeTasks") ∈ lw_tbl := lw_at lw_m2 160 rfl
theorem q475 : (Jvm.Cond.methodLink "ScopeTasks" (111 : Nat) ({ cls := "ScopeTasks$Reader", name := "read", desc := "()V" } : Jvm.MethodName)) ∈ lw_all := lw_g (lw_at lw_m2 176 rfl) rfl
theorem q633 : (Jvm.Cond.fieldLinkNest "ScopeTasks" (116 : Nat) "ScopeTasks$Wrong" "at" "I" "ScopeTasks") ∈ lw_tbl := lw_at lw_m3 94 rfl
theorem q671 : (Jvm.Cond.methodLink "ScopeTasks" (122 : Nat) ({ cls := "ScopeTasks$Tree", name := "copyOf", desc := "(LScopeTasks$Tree;)V" } : Jvm.MethodName)) ∈ lw_all := lw_g (lw_at lw_m3 132 rfl) rfl
theorem q682 : (Jvm.Cond.methodLink "ScopeTasks" (125 : Nat) ({ cls := "ScopeTasks", name := "forgetAll", desc := "()V" } : Jvm.MethodName)) ∈ lw_all := lw_g (lw_at lw_m3 143 rfl) rfl
theorem q683 : (Jvm.Cond.privateMethod ({ cls := "ScopeTasks", name := "forgetAll", desc := "()V" } : Jvm.MethodName)) ∈ lw_tbl := lw_at lw_m3 144 rfl
theorem q684 : (Jvm.Cond.instanceMethod ({ cls := "ScopeTasks", name := "forgetAll", desc := "()V" } : Jvm.MethodName)) ∈ lw_all := lw_g (lw_at lw_m3 145 rfl) rfl
theorem q685 : (Jvm.Cond.code ({ cls := "ScopeTasks", name := "forgetAll", desc := "()V" } : Jvm.MethodName) prog_1_method_3_code (1 : Nat) (Option.none : Option Jvm.ClassFile.FieldType)) ∈ lw_all := lw_g (lw_at lw_m3 146 rfl) rfl
theorem q686 : (Jvm.Cond.methodLink "ScopeTasks" (7 : Nat) ({ cls := "java/util/ArrayDeque", name := "isEmpty", desc := "()Z" } : Jvm.MethodName)) ∈ lw_all := lw_g (lw_at lw_m3 147 rfl) rfl
theorem q690 : (Jvm.Cond.methodLink "ScopeTasks" (22 : Nat) ({ cls := "java/util/ArrayDeque", name := "removeLast", desc := "()Ljava/lang/Object;" } : Jvm.MethodName)) ∈ lw_all := lw_g (lw_at lw_m3 151 rfl) rfl
theorem q704 : (Jvm.Cond.methodLink "ScopeTasks" (33 : Nat) ({ cls := "java/util/ArrayDeque", name := "addLast", desc := "(Ljava/lang/Object;)V" } : Jvm.MethodName)) ∈ lw_all := lw_g (lw_at lw_m3 165 rfl) rfl
theorem q706 : (Jvm.Cond.instanceMethod ({ cls := "ScopeTasks", name := "ticks", desc := "(I)I" } : Jvm.MethodName)) ∈ lw_all := lw_g (lw_at lw_m3 167 rfl) rfl
theorem q707 : (Jvm.Cond.selects "ScopeTasks" ({ cls := "ScopeTasks", name := "ticks", desc := "(I)I" } : Jvm.MethodName) ({ cls := "ScopeTasks", name := "ticks", desc := "(I)I" } : Jvm.MethodName)) ∈ lw_all := lw_g (lw_at lw_m3 168 rfl) rfl
theorem q708 : (Jvm.Cond.code ({ cls := "ScopeTasks", name := "ticks", desc := "(I)I" } : Jvm.MethodName) prog_1_method_9_code (3 : Nat) (Option.some Jvm.ClassFile.FieldType.int)) ∈ lw_all := lw_g (lw_at lw_m3 169 rfl) rfl
theorem q709 : (Jvm.Cond.methodLink "ScopeTasks" (134 : Nat) ({ cls := "ScopeTasks$Run", name := "isOver", desc := "()Z" } : Jvm.MethodName)) ∈ lw_all := lw_g (lw_at lw_m3 170 rfl) rfl
theorem q714 : (Jvm.Cond.methodLink "ScopeTasks" (140 : Nat) ({ cls := "ScopeTasks", name := "know", desc := "()V" } : Jvm.MethodName)) ∈ lw_all := lw_g (lw_at lw_m3 175 rfl) rfl
theorem q715 : (Jvm.Cond.privateMethod ({ cls := "ScopeTasks", name := "know", desc := "()V" } : Jvm.MethodName)) ∈ lw_tbl := lw_at lw_m3 176 rfl
theorem q716 : (Jvm.Cond.instanceMethod ({ cls := "ScopeTasks", name := "know", desc := "()V" } : Jvm.MethodName)) ∈ lw_all := lw_g (lw_at lw_m3 177 rfl) rfl
theorem q717 : (Jvm.Cond.code ({ cls := "ScopeTasks", name := "know", desc := "()V" } : Jvm.MethodName) prog_1_method_2_code (2 : Nat) (Option.none : Option Jvm.ClassFile.FieldType)) ∈ lw_all := lw_g (lw_at lw_m3 178 rfl) rfl
theorem q718 : (Jvm.Cond.methodLink "ScopeTasks" (16 : Nat) ({ cls := "java/util/ArrayDeque", name := "removeFirst", desc := "()Ljava/lang/Object;" } : Jvm.MethodName)) ∈ lw_all := lw_g (lw_at lw_m3 179 rfl) rfl
theorem q726 : (Jvm.Cond.methodLink "ScopeTasks" (29 : Nat) ({ cls := "ScopeTasks$Run", name := "copyOf", desc := "(LScopeTasks$Run;)LScopeTasks$Run;" } : Jvm.MethodName)) ∈ lw_all := lw_g (lw_at lw_m3 187 rfl) rfl
theorem q732 : (Jvm.Cond.methodLink "ScopeTasks" (143 : Nat) ({ cls := "ScopeTasks$Run", name := "pass", desc := "()V" } : Jvm.MethodName)) ∈ lw_all := lw_g (lw_at lw_m3 193 rfl) rfl
theorem q832 : (Jvm.Cond.instanceMethod ({ cls := "ScopeTasks", name := "asks", desc := "(I)I" } : Jvm.MethodName)) ∈ lw_all := lw_g (lw_at lw_m4 53 rfl) rfl
theorem q833 : (Jvm.Cond.selects "ScopeTasks" ({ cls := "ScopeTasks", name := "asks", desc := "(I)I" } : Jvm.MethodName) ({ cls := "ScopeTasks", name := "asks", desc := "(I)I" } : Jvm.MethodName)) ∈ lw_all := lw_g (lw_at lw_m4 54 rfl) rfl
theorem q834 : (Jvm.Cond.code ({ cls := "ScopeTasks", name := "asks", desc := "(I)I" } : Jvm.MethodName) prog_1_method_10_code (2 : Nat) (Option.some Jvm.ClassFile.FieldType.int)) ∈ lw_all := lw_g (lw_at lw_m4 55 rfl) rfl
theorem q835 : (Jvm.Cond.methodLink "ScopeTasks" (146 : Nat) ({ cls := "ScopeTasks", name := "isTask", desc := "(I)Z" } : Jvm.MethodName)) ∈ lw_all := lw_g (lw_at lw_m4 56 rfl) rfl
theorem q836 : (Jvm.Cond.privateMethod ({ cls := "ScopeTasks", name := "isTask", desc := "(I)Z" } : Jvm.MethodName)) ∈ lw_tbl := lw_at lw_m4 57 rfl
theorem q837 : (Jvm.Cond.instanceMethod ({ cls := "ScopeTasks", name := "isTask", desc := "(I)Z" } : Jvm.MethodName)) ∈ lw_all := lw_g (lw_at lw_m4 58 rfl) rfl
theorem q838 : (Jvm.Cond.code ({ cls := "ScopeTasks", name := "isTask", desc := "(I)Z" } : Jvm.MethodName) prog_1_method_8_code (2 : Nat) (Option.some Jvm.ClassFile.FieldType.boolean)) ∈ lw_all := lw_g (lw_at lw_m4 59 rfl) rfl
theorem q839 : (Jvm.Cond.methodLink "ScopeTasks" (154 : Nat) ({ cls := "java/util/BitSet", name := "get", desc := "(I)Z" } : Jvm.MethodName)) ∈ lw_all := lw_g (lw_at lw_m4 60 rfl) rfl
theorem q840 : (Jvm.Cond.methodLink "ScopeTasks" (162 : Nat) ({ cls := "java/util/BitSet", name := "set", desc := "(I)V" } : Jvm.MethodName)) ∈ lw_all := lw_g (lw_at lw_m4 61 rfl) rfl
theorem q842 : (Jvm.Cond.instanceMethod ({ cls := "ScopeTasks", name := "undo", desc := "()I" } : Jvm.MethodName)) ∈ lw_all := lw_g (lw_at lw_m4 63 rfl) rfl
theorem q843 : (Jvm.Cond.selects "ScopeTasks" ({ cls := "ScopeTasks", name := "undo", desc := "()I" } : Jvm.MethodName) ({ cls := "ScopeTasks", name := "undo", desc := "()I" } : Jvm.MethodName)) ∈ lw_all := lw_g (lw_at lw_m4 64 rfl) rfl
theorem q844 : (Jvm.Cond.code ({ cls := "ScopeTasks", name := "undo", desc := "()I" } : Jvm.MethodName) prog_1_method_11_code (2 : Nat) (Option.some Jvm.ClassFile.FieldType.int)) ∈ lw_all := lw_g (lw_at lw_m4 65 rfl) rfl
theorem q845 : (Jvm.Cond.methodLink "ScopeTasks" (168 : Nat) ({ cls := "java/util/ArrayDeque", name := "size", desc := "()I" } : Jvm.MethodName)) ∈ lw_all := lw_g (lw_at lw_m4 66 rfl) rfl
theorem q853 : (Jvm.Cond.instanceMethod ({ cls := "ScopeTasks", name := "task", desc := "(II)I" } : Jvm.MethodName)) ∈ lw_all := lw_g (lw_at lw_m4 74 rfl) rfl
theorem q854 : (Jvm.Cond.selects "ScopeTasks" ({ cls := "ScopeTasks", name := "task", desc := "(II)I" } : Jvm.MethodName) ({ cls := "ScopeTasks", name := "task", desc := "(II)I" } : Jvm.MethodName)) ∈ lw_all := lw_g (lw_at lw_m4 75 rfl) rfl
theorem q855 : (Jvm.Cond.code ({ cls := "ScopeTasks", name := "task", desc := "(II)I" } : Jvm.MethodName) prog_1_method_13_code (3 : Nat) (Option.some Jvm.ClassFile.FieldType.int)) ∈ lw_all := lw_g (lw_at lw_m4 76 rfl) rfl
theorem q856 : (Jvm.Cond.methodLink "ScopeTasks" (178 : Nat) ({ cls := "ScopeTasks$Run", name := "how", desc := "(I)I" } : Jvm.MethodName)) ∈ lw_all := lw_g (lw_at lw_m4 77 rfl) rfl
theorem q860 : (Jvm.Cond.constant "ScopeTasks" (187 : Nat) (100000 : Int32)) ∈ lw_all := lw_g (lw_at lw_m4 81 rfl) rfl
theorem q861 : (Jvm.Cond.methodLink "ScopeTasks" (191 : Nat) ({ cls := "ScopeTasks", name := "childrenOf", desc := "(I)I" } : Jvm.MethodName)) ∈ lw_all := lw_g (lw_at lw_m4 82 rfl) rfl
theorem q862 : (Jvm.Cond.privateMethod ({ cls := "ScopeTasks", name := "childrenOf", desc := "(I)I" } : Jvm.MethodName)) ∈ lw_tbl := lw_at lw_m4 83 rfl
theorem q863 : (Jvm.Cond.instanceMethod ({ cls := "ScopeTasks", name := "childrenOf", desc := "(I)I" } : Jvm.MethodName)) ∈ lw_all := lw_g (lw_at lw_m4 84 rfl) rfl
theorem q864 : (Jvm.Cond.code ({ cls := "ScopeTasks", name := "childrenOf", desc := "(I)I" } : Jvm.MethodName) prog_1_method_12_code (5 : Nat) (Option.some Jvm.ClassFile.FieldType.int)) ∈ lw_all := lw_g (lw_at lw_m4 85 rfl) rfl
theorem q866 : (Jvm.Cond.instanceMethod ({ cls := "ScopeTasks", name := "failure", desc := "(II)I" } : Jvm.MethodName)) ∈ lw_all := lw_g (lw_at lw_m4 87 rfl) rfl
theorem q867 : (Jvm.Cond.selects "ScopeTasks" ({ cls := "ScopeTasks", name := "failure", desc := "(II)I" } : Jvm.MethodName) ({ cls := "ScopeTasks", name := "failure", desc := "(II)I" } : Jvm.MethodName)) ∈ lw_all := lw_g (lw_at lw_m4 88 rfl) rfl
theorem q868 : (Jvm.Cond.code ({ cls := "ScopeTasks", name := "failure", desc := "(II)I" } : Jvm.MethodName) prog_1_method_14_code (3 : Nat) (Option.some Jvm.ClassFile.FieldType.int)) ∈ lw_all := lw_g (lw_at lw_m4 89 rfl) rfl
theorem q870 : (Jvm.Cond.instanceMethod ({ cls := "ScopeTasks", name := "trace", desc := "(II)I" } : Jvm.MethodName)) ∈ lw_all := lw_g (lw_at lw_m4 91 rfl) rfl
theorem q871 : (Jvm.Cond.selects "ScopeTasks" ({ cls := "ScopeTasks", name := "trace", desc := "(II)I" } : Jvm.MethodName) ({ cls := "ScopeTasks", name := "trace", desc := "(II)I" } : Jvm.MethodName)) ∈ lw_all := lw_g (lw_at lw_m4 92 rfl) rfl
theorem q872 : (Jvm.Cond.code ({ cls := "ScopeTasks", name := "trace", desc := "(II)I" } : Jvm.MethodName) prog_1_method_15_code (3 : Nat) (Option.some Jvm.ClassFile.FieldType.int)) ∈ lw_all := lw_g (lw_at lw_m4 93 rfl) rfl
theorem q874 : (Jvm.Cond.instanceMethod ({ cls := "ScopeTasks", name := "ends", desc := "(II)I" } : Jvm.MethodName)) ∈ lw_all := lw_g (lw_at lw_m4 95 rfl) rfl
theorem q875 : (Jvm.Cond.selects "ScopeTasks" ({ cls := "ScopeTasks", name := "ends", desc := "(II)I" } : Jvm.MethodName) ({ cls := "ScopeTasks", name := "ends", desc := "(II)I" } : Jvm.MethodName)) ∈ lw_all := lw_g (lw_at lw_m4 96 rfl) rfl
theorem q876 : (Jvm.Cond.code ({ cls := "ScopeTasks", name := "ends", desc := "(II)I" } : Jvm.MethodName) prog_1_method_16_code (3 : Nat) (Option.some Jvm.ClassFile.FieldType.int)) ∈ lw_all := lw_g (lw_at lw_m4 97 rfl) rfl
theorem q877 : (Jvm.Cond.methodLink "ScopeTasks" (210 : Nat) ({ cls := "ScopeTasks$Run", name := "goTill", desc := "(II)Z" } : Jvm.MethodName)) ∈ lw_all := lw_g (lw_at lw_m4 98 rfl) rfl
theorem q884 : (Jvm.Cond.instanceMethod ({ cls := "ScopeTasks", name := "wellBy", desc := "()I" } : Jvm.MethodName)) ∈ lw_all := lw_g (lw_at lw_m4 105 rfl) rfl
theorem q885 : (Jvm.Cond.selects "ScopeTasks" ({ cls := "ScopeTasks", name := "wellBy", desc := "()I" } : Jvm.MethodName) ({ cls := "ScopeTasks", name := "wellBy", desc := "()I" } : Jvm.MethodName)) ∈ lw_all := lw_g (lw_at lw_m4 106 rfl) rfl
theorem q886 : (Jvm.Cond.code ({ cls := "ScopeTasks", name := "wellBy", desc := "()I" } : Jvm.MethodName) prog_1_method_17_code (4 : Nat) (Option.some Jvm.ClassFile.FieldType.int)) ∈ lw_all := lw_g (lw_at lw_m4 107 rfl) rfl
theorem q888 : (Jvm.Cond.instanceMethod ({ cls := "ScopeTasks", name := "spares", desc := "(I)I" } : Jvm.MethodName)) ∈ lw_all := lw_g (lw_at lw_m4 109 rfl) rfl
theorem q889 : (Jvm.Cond.selects "ScopeTasks" ({ cls := "ScopeTasks", name := "spares", desc := "(I)I" } : Jvm.MethodName) ({ cls := "ScopeTasks", name := "spares", desc := "(I)I" } : Jvm.MethodName)) ∈ lw_all := lw_g (lw_at lw_m4 110 rfl) rfl
theorem q890 : (Jvm.Cond.code ({ cls := "ScopeTasks", name := "spares", desc := "(I)I" } : Jvm.MethodName) prog_1_method_18_code (3 : Nat) (Option.some Jvm.ClassFile.FieldType.int)) ∈ lw_all := lw_g (lw_at lw_m4 111 rfl) rfl
theorem q891 : (Jvm.Cond.constant "ScopeTasks" (220 : Nat) (-1000000 : Int32)) ∈ lw_all := lw_g (lw_at lw_m4 112 rfl) rfl
theorem q893 : (Jvm.Cond.instanceMethod ({ cls := "ScopeTasks", name := "sees", desc := "(III)I" } : Jvm.MethodName)) ∈ lw_all := lw_g (lw_at lw_m4 114 rfl) rfl
theorem q894 : (Jvm.Cond.selects "ScopeTasks" ({ cls := "ScopeTasks", name := "sees", desc := "(III)I" } : Jvm.MethodName) ({ cls := "ScopeTasks", name := "sees", desc := "(III)I" } : Jvm.MethodName)) ∈ lw_all := lw_g (lw_at lw_m4 115 rfl) rfl
theorem q895 : (Jvm.Cond.code ({ cls := "ScopeTasks", name := "sees", desc := "(III)I" } : Jvm.MethodName) prog_1_method_19_code (4 : Nat) (Option.some Jvm.ClassFile.FieldType.int)) ∈ lw_all := lw_g (lw_at lw_m4 116 rfl) rfl
theorem q897 : (Jvm.Cond.instanceMethod ({ cls := "ScopeTasks", name := "forget", desc := "()I" } : Jvm.MethodName)) ∈ lw_all := lw_g (lw_at lw_m4 118 rfl) rfl
theorem q898 : (Jvm.Cond.selects "ScopeTasks" ({ cls := "ScopeTasks", name := "forget", desc := "()I" } : Jvm.MethodName) ({ cls := "ScopeTasks", name := "forget", desc := "()I" } : Jvm.MethodName)) ∈ lw_all := lw_g (lw_at lw_m4 119 rfl) rfl
theorem q899 : (Jvm.Cond.code ({ cls := "ScopeTasks", name := "forget", desc := "()I" } : Jvm.MethodName) prog_1_method_20_code (2 : Nat) (Option.some Jvm.ClassFile.FieldType.int)) ∈ lw_all := lw_g (lw_at lw_m4 120 rfl) rfl
theorem q901 : (Jvm.Cond.instanceMethod ({ cls := "ScopeTasks", name := "fits", desc := "(I)I" } : Jvm.MethodName)) ∈ lw_all := lw_g (lw_at lw_m4 122 rfl) rfl
theorem q902 : (Jvm.Cond.selects "ScopeTasks" ({ cls := "ScopeTasks", name := "fits", desc := "(I)I" } : Jvm.MethodName) ({ cls := "ScopeTasks", name := "fits", desc := "(I)I" } : Jvm.MethodName)) ∈ lw_all := lw_g (lw_at lw_m4 123 rfl) rfl
theorem q903 : (Jvm.Cond.code ({ cls := "ScopeTasks", name := "fits", desc := "(I)I" } : Jvm.MethodName) prog_1_method_22_code (5 : Nat) (Option.some Jvm.ClassFile.FieldType.int)) ∈ lw_all := lw_g (lw_at lw_m4 124 rfl) rfl
theorem q904 : (Jvm.Cond.methodLink "ScopeTasks" (221 : Nat) ({ cls := "ScopeTasks", name := "isSo", desc := "()Z" } : Jvm.MethodName)) ∈ lw_all := lw_g (lw_at lw_m4 125 rfl) rfl
theorem q905 : (Jvm.Cond.privateMethod ({ cls := "ScopeTasks", name := "isSo", desc := "()Z" } : Jvm.MethodName)) ∈ lw_tbl := lw_at lw_m4 126 rfl
theorem q906 : (Jvm.Cond.instanceMethod ({ cls := "ScopeTasks", name := "isSo", desc := "()Z" } : Jvm.MethodName)) ∈ lw_all := lw_g (lw_at lw_m4 127 rfl) rfl
theorem q907 : (Jvm.Cond.code ({ cls := "ScopeTasks", name := "isSo", desc := "()Z" } : Jvm.MethodName) prog_1_method_21_code (4 : Nat) (Option.some Jvm.ClassFile.FieldType.boolean)) ∈ lw_all := lw_g (lw_at lw_m4 128 rfl) rfl
theorem q909 : (Jvm.Cond.instanceMethod ({ cls := "ScopeTasks", name := "keep", desc := "(I)I" } : Jvm.MethodName)) ∈ lw_all := lw_g (lw_at lw_m4 130 rfl) rfl
theorem q910 : (Jvm.Cond.selects "ScopeTasks" ({ cls := "ScopeTasks", name := "keep", desc := "(I)I" } : Jvm.MethodName) ({ cls := "ScopeTasks", name := "keep", desc := "(I)I" } : Jvm.MethodName)) ∈ lw_all := lw_g (lw_at lw_m4 131 rfl) rfl
theorem q911 : (Jvm.Cond.code ({ cls := "ScopeTasks", name := "keep", desc := "(I)I" } : Jvm.MethodName) prog_1_method_23_code (2 : Nat) (Option.some Jvm.ClassFile.FieldType.int)) ∈ lw_all := lw_g (lw_at lw_m4 132 rfl) rfl
theorem q913 : (Jvm.Cond.instanceMethod ({ cls := "ScopeTasks", name := "back", desc := "(I)I" } : Jvm.MethodName)) ∈ lw_all := lw_g (lw_at lw_m4 134 rfl) rfl
theorem q914 : (Jvm.Cond.selects "ScopeTasks" ({ cls := "ScopeTasks", name := "back", desc := "(I)I" } : Jvm.MethodName) ({ cls := "ScopeTasks", name := "back", desc := "(I)I" } : Jvm.MethodName)) ∈ lw_all := lw_g (lw_at lw_m4 135 rfl) rfl
theorem q915 : (Jvm.Cond.code ({ cls := "ScopeTasks", name := "back", desc := "(I)I" } : Jvm.MethodName) prog_1_method_24_code (2 : Nat) (Option.some Jvm.ClassFile.FieldType.int)) ∈ lw_all := lw_g (lw_at lw_m4 136 rfl) rfl
theorem q917 : (Jvm.Cond.instanceMethod ({ cls := "ScopeTasks", name := "count", desc := "(I)I" } : Jvm.MethodName)) ∈ lw_all := lw_g (lw_at lw_m4 138 rfl) rfl
theorem q918 : (Jvm.Cond.selects "ScopeTasks" ({ cls := "ScopeTasks", name := "count", desc := "(I)I" } : Jvm.MethodName) ({ cls := "ScopeTasks", name := "count", desc := "(I)I" } : Jvm.MethodName)) ∈ lw_all := lw_g (lw_at lw_m4 139 rfl) rfl
theorem q919 : (Jvm.Cond.code ({ cls := "ScopeTasks", name := "count", desc := "(I)I" } : Jvm.MethodName) prog_1_method_25_code (2 : Nat) (Option.some Jvm.ClassFile.FieldType.int)) ∈ lw_all := lw_g (lw_at lw_m4 140 rfl) rfl
theorem q920 : (Jvm.Cond.methodLink "ScopeTasks" (224 : Nat) ({ cls := "java/util/BitSet", name := "cardinality", desc := "()I" } : Jvm.MethodName)) ∈ lw_all := lw_g (lw_at lw_m4 141 rfl) rfl
theorem q1248 : (Jvm.Cond.castable "ScopeTasks" "java/lang/Object") ∈ lw_tbl := lw_at lw_m5 229 rfl
theorem in_X0 : ∀ w ∈ wsX00, w ∈ lw_all := lw_in wsX00 [400, 402, 404, 406, 408, 410, 412, 414, 416, 418, 420, 422, 424, 426, 428] (by decide +kernel) (by decide +kernel)
/-! ScopeTasks$Tree -/
set_option maxRecDepth 100000
def RX1 : String := "ScopeTasks$Tree"
def TX1 : u_T := fun k => match k with
  | 0 => ("ScopeTasks$Tree", "tasks", "I", false)
  | 1 => ("ScopeTasks$Tree", "parent", "[I", true)
  | 2 => ("ScopeTasks$Tree", "length", "[I", true)
  | 3 => ("ScopeTasks$Tree", "what", "[[I", true)
  | 4 => ("ScopeTasks$Tree", "of", "[[I", true)
  | 5 => ("ScopeTasks$Tree", "deadline", "[I", true)
  | 6 => ("ScopeTasks$Tree", "shield", "[I", true)
  | 7 => ("ScopeTasks$Tree", "cleanUp", "[I", true)
  | _ => ("ScopeTasks$Tree", "gathers", "Ljava/util/BitSet;", true)
def tyX1 : Nat → FieldType := fun k => match k with
  | 0 => .int
  | 1 => .array .int
  | 2 => .array .int
  | 3 => .array (.array .int)
  | 4 => .array (.array .int)
  | 5 => .array .int
  | 6 => .array .int
  | 7 => .array .int
  | _ => .object "java/util/BitSet"
abbrev wsX10 : List Cond := u_ws RX1 TX1 9
theorem nmX1 : ∀ a, a < 9 → ∀ b, b < 9 → a ≠ b → (TX1 a).2.1 ≠ (TX1 b).2.1 := by decide +kernel
theorem tyX1_ok : ∀ k, k < 9 → parseFieldDescriptor (TX1 k).2.2.1 = some (tyX1 k) := by decide +kernel
abbrev cX1_init : ByteArray := prog_4_method_1_code
def yX1_init : MethodName := ⟨RX1, "<init>", "()V"⟩
def dkwX1_init_3 : List UInt8 := [187, 0, 35, 89, 16, 8, 183, 0, 37, 181, 0, 40, 177]
abbrev dktX1_init_3 : List UInt8 := dkwX1_init_3 ++ []
def dkwX1_init_2 : List UInt8 := [188, 10, 181, 0, 26, 42, 16, 8, 188, 10, 181, 0, 29, 42, 16, 8, 188, 10, 181, 0, 32, 42]
abbrev dktX1_init_2 : List UInt8 := dkwX1_init_2 ++ dktX1_init_3
def dkwX1_init_1 : List UInt8 := [16, 6, 197, 0, 18, 2, 181, 0, 20, 42, 16, 8, 16, 6, 197, 0, 18, 2, 181, 0, 23, 42, 16, 8]
abbrev dktX1_init_1 : List UInt8 := dkwX1_init_1 ++ dktX1_init_2
def dkwX1_init_0 : List UInt8 := [42, 183, 0, 3, 42, 16, 8, 188, 10, 181, 0, 9, 42, 16, 8, 188, 10, 181, 0, 15, 42, 16, 8]
abbrev dktX1_init_0 : List UInt8 := dkwX1_init_0 ++ dktX1_init_1
theorem dksX1_init_0 : cX1_init.data.toList.drop 0 = dktX1_init_0 := by decide +kernel
theorem dksX1_init_1 : cX1_init.data.toList.drop 23 = dktX1_init_1 := dk_seg dksX1_init_0 23 rfl rfl
theorem dksX1_init_2 : cX1_init.data.toList.drop 47 = dktX1_init_2 := dk_seg dksX1_init_1 24 rfl rfl
theorem dksX1_init_3 : cX1_init.data.toList.drop 69 = dktX1_init_3 := dk_seg dksX1_init_2 22 rfl rfl
theorem dX1_init_0 : decode cX1_init 0 = .ok (.aload_n 0, 1) := dk_42 (dk_at dksX1_init_0 0 rfl rfl)
theorem dX1_init_1 : decode cX1_init 1 = .ok (.invokespecial 3, 3) := dk_183 0 3 (dk_at dksX1_init_0 1 rfl rfl)
theorem dX1_init_4 : decode cX1_init 4 = .ok (.aload_n 0, 1) := dk_42 (dk_at dksX1_init_0 4 rfl rfl)
theorem dX1_init_5 : decode cX1_init 5 = .ok (.bipush 8, 2) := dk_16 8 (dk_at dksX1_init_0 5 rfl rfl)
theorem dX1_init_7 : decode cX1_init 7 = .ok (.newarray .int, 2) := dk_188_10 (dk_at dksX1_init_0 7 rfl rfl)
theorem dX1_init_9 : decode cX1_init 9 = .ok (.putfield 9, 3) := dk_181 0 9 (dk_at dksX1_init_0 9 rfl rfl)
theorem dX1_init_12 : decode cX1_init 12 = .ok (.aload_n 0, 1) := dk_42 (dk_at dksX1_init_0 12 rfl rfl)
theorem dX1_init_13 : decode cX1_init 13 = .ok (.bipush 8, 2) := dk_16 8 (dk_at dksX1_init_0 13 rfl rfl)
theorem dX1_init_15 : decode cX1_init 15 = .ok (.newarray .int, 2) := dk_188_10 (dk_at dksX1_init_0 15 rfl rfl)
theorem dX1_init_17 : decode cX1_init 17 = .ok (.putfield 15, 3) := dk_181 0 15 (dk_at dksX1_init_0 17 rfl rfl)
theorem dX1_init_20 : decode cX1_init 20 = .ok (.aload_n 0, 1) := dk_42 (dk_at dksX1_init_0 20 rfl rfl)
theorem dX1_init_21 : decode cX1_init 21 = .ok (.bipush 8, 2) := dk_16 8 (dk_at dksX1_init_0 21 rfl rfl)
theorem dX1_init_23 : decode cX1_init 23 = .ok (.bipush 6, 2) := dk_16 6 (dk_at dksX1_init_1 0 rfl rfl)
theorem dX1_init_25 : decode cX1_init 25 = .ok (.multianewarray 18 2, 4) := by decide +kernel
theorem dX1_init_29 : decode cX1_init 29 = .ok (.putfield 20, 3) := dk_181 0 20 (dk_at dksX1_init_1 6 rfl rfl)
theorem dX1_init_32 : decode cX1_init 32 = .ok (.aload_n 0, 1) := dk_42 (dk_at dksX1_init_1 9 rfl rfl)
theorem dX1_init_33 : decode cX1_init 33 = .ok (.bipush 8, 2) := dk_16 8 (dk_at dksX1_init_1 10 rfl rfl)
theorem dX1_init_35 : decode cX1_init 35 = .ok (.bipush 6, 2) := dk_16 6 (dk_at dksX1_init_1 12 rfl rfl)
theorem dX1_init_37 : decode cX1_init 37 = .ok (.multianewarray 18 2, 4) := by decide +kernel
theorem dX1_init_41 : decode cX1_init 41 = .ok (.putfield 23, 3) := dk_181 0 23 (dk_at dksX1_init_1 18 rfl rfl)
theorem dX1_init_44 : decode cX1_init 44 = .ok (.aload_n 0, 1) := dk_42 (dk_at dksX1_init_1 21 rfl rfl)
theorem dX1_init_45 : decode cX1_init 45 = .ok (.bipush 8, 2) := dk_16 8 (dk_at dksX1_init_1 22 rfl rfl)
theorem dX1_init_47 : decode cX1_init 47 = .ok (.newarray .int, 2) := dk_188_10 (dk_at dksX1_init_2 0 rfl rfl)
theorem dX1_init_49 : decode cX1_init 49 = .ok (.putfield 26, 3) := dk_181 0 26 (dk_at dksX1_init_2 2 rfl rfl)
theorem dX1_init_52 : decode cX1_init 52 = .ok (.aload_n 0, 1) := dk_42 (dk_at dksX1_init_2 5 rfl rfl)
theorem dX1_init_53 : decode cX1_init 53 = .ok (.bipush 8, 2) := dk_16 8 (dk_at dksX1_init_2 6 rfl rfl)
theorem dX1_init_55 : decode cX1_init 55 = .ok (.newarray .int, 2) := dk_188_10 (dk_at dksX1_init_2 8 rfl rfl)
theorem dX1_init_57 : decode cX1_init 57 = .ok (.putfield 29, 3) := dk_181 0 29 (dk_at dksX1_init_2 10 rfl rfl)
theorem dX1_init_60 : decode cX1_init 60 = .ok (.aload_n 0, 1) := dk_42 (dk_at dksX1_init_2 13 rfl rfl)
theorem dX1_init_61 : decode cX1_init 61 = .ok (.bipush 8, 2) := dk_16 8 (dk_at dksX1_init_2 14 rfl rfl)
theorem dX1_init_63 : decode cX1_init 63 = .ok (.newarray .int, 2) := dk_188_10 (dk_at dksX1_init_2 16 rfl rfl)
theorem dX1_init_65 : decode cX1_init 65 = .ok (.putfield 32, 3) := dk_181 0 32 (dk_at dksX1_init_2 18 rfl rfl)
theorem dX1_init_68 : decode cX1_init 68 = .ok (.aload_n 0, 1) := dk_42 (dk_at dksX1_init_2 21 rfl rfl)
theorem dX1_init_69 : decode cX1_init 69 = .ok (.new 35, 3) := dk_187 0 35 (dk_at dksX1_init_3 0 rfl rfl)
theorem dX1_init_72 : decode cX1_init 72 = .ok (.dup, 1) := dk_89 (dk_at dksX1_init_3 3 rfl rfl)
theorem dX1_init_73 : decode cX1_init 73 = .ok (.bipush 8, 2) := dk_16 8 (dk_at dksX1_init_3 4 rfl rfl)
theorem dX1_init_75 : decode cX1_init 75 = .ok (.invokespecial 37, 3) := dk_183 0 37 (dk_at dksX1_init_3 6 rfl rfl)
theorem dX1_init_78 : decode cX1_init 78 = .ok (.putfield 40, 3) := dk_181 0 40 (dk_at dksX1_init_3 9 rfl rfl)
theorem dX1_init_81 : decode cX1_init 81 = .ok (.return_, 1) := dk_177 (dk_at dksX1_init_3 12 rfl rfl)
abbrev cX1_begin : ByteArray := prog_4_method_2_code
def yX1_begin : MethodName := ⟨RX1, "begin", "()V"⟩
def dkwX1_begin_0 : List UInt8 := [42, 3, 181, 0, 44, 42, 180, 0, 40, 182, 0, 48, 177]
abbrev dktX1_begin_0 : List UInt8 := dkwX1_begin_0 ++ []
theorem dksX1_begin_0 : cX1_begin.data.toList.drop 0 = dktX1_begin_0 := by decide +kernel
theorem dX1_begin_0 : decode cX1_begin 0 = .ok (.aload_n 0, 1) := dk_42 (dk_at dksX1_begin_0 0 rfl rfl)
theorem dX1_begin_1 : decode cX1_begin 1 = .ok (.iconst 0, 1) := dk_3 (dk_at dksX1_begin_0 1 rfl rfl)
theorem dX1_begin_2 : decode cX1_begin 2 = .ok (.putfield 44, 3) := dk_181 0 44 (dk_at dksX1_begin_0 2 rfl rfl)
theorem dX1_begin_5 : decode cX1_begin 5 = .ok (.aload_n 0, 1) := dk_42 (dk_at dksX1_begin_0 5 rfl rfl)
theorem dX1_begin_6 : decode cX1_begin 6 = .ok (.getfield 40, 3) := dk_180 0 40 (dk_at dksX1_begin_0 6 rfl rfl)
theorem dX1_begin_9 : decode cX1_begin 9 = .ok (.invokevirtual 48, 3) := dk_182 0 48 (dk_at dksX1_begin_0 9 rfl rfl)
theorem dX1_begin_12 : decode cX1_begin 12 = .ok (.return_, 1) := dk_177 (dk_at dksX1_begin_0 12 rfl rfl)
abbrev cX1_add : ByteArray := prog_4_method_3_code
def yX1_add : MethodName := ⟨RX1, "add", "(I)I"⟩
def dkwX1_add_2 : List UInt8 := [180, 0, 44, 3, 79, 42, 89, 180, 0, 44, 4, 96, 181, 0, 44, 42, 180, 0, 44, 4, 100, 172]
abbrev dktX1_add_2 : List UInt8 := dkwX1_add_2 ++ []
def dkwX1_add_1 : List UInt8 := [42, 180, 0, 44, 16, 99, 79, 42, 180, 0, 29, 42, 180, 0, 44, 3, 79, 42, 180, 0, 32, 42]
abbrev dktX1_add_1 : List UInt8 := dkwX1_add_1 ++ dktX1_add_2
def dkwX1_add_0 : List UInt8 := [42, 180, 0, 9, 42, 180, 0, 44, 27, 79, 42, 180, 0, 15, 42, 180, 0, 44, 3, 79, 42, 180, 0, 26]
abbrev dktX1_add_0 : List UInt8 := dkwX1_add_0 ++ dktX1_add_1
theorem dksX1_add_0 : cX1_add.data.toList.drop 0 = dktX1_add_0 := by decide +kernel
theorem dksX1_add_1 : cX1_add.data.toList.drop 24 = dktX1_add_1 := dk_seg dksX1_add_0 24 rfl rfl
theorem dksX1_add_2 : cX1_add.data.toList.drop 46 = dktX1_add_2 := dk_seg dksX1_add_1 22 rfl rfl
theorem dX1_add_0 : decode cX1_add 0 = .ok (.aload_n 0, 1) := dk_42 (dk_at dksX1_add_0 0 rfl rfl)
theorem dX1_add_1 : decode cX1_add 1 = .ok (.getfield 9, 3) := dk_180 0 9 (dk_at dksX1_add_0 1 rfl rfl)
theorem dX1_add_4 : decode cX1_add 4 = .ok (.aload_n 0, 1) := dk_42 (dk_at dksX1_add_0 4 rfl rfl)
theorem dX1_add_5 : decode cX1_add 5 = .ok (.getfield 44, 3) := dk_180 0 44 (dk_at dksX1_add_0 5 rfl rfl)
theorem dX1_add_8 : decode cX1_add 8 = .ok (.iload_n 1, 1) := dk_27 (dk_at dksX1_add_0 8 rfl rfl)
theorem dX1_add_9 : decode cX1_add 9 = .ok (.iastore, 1) := dk_79 (dk_at dksX1_add_0 9 rfl rfl)
theorem dX1_add_10 : decode cX1_add 10 = .ok (.aload_n 0, 1) := dk_42 (dk_at dksX1_add_0 10 rfl rfl)
theorem dX1_add_11 : decode cX1_add 11 = .ok (.getfield 15, 3) := dk_180 0 15 (dk_at dksX1_add_0 11 rfl rfl)
theorem dX1_add_14 : decode cX1_add 14 = .ok (.aload_n 0, 1) := dk_42 (dk_at dksX1_add_0 14 rfl rfl)
theorem dX1_add_15 : decode cX1_add 15 = .ok (.getfield 44, 3) := dk_180 0 44 (dk_at dksX1_add_0 15 rfl rfl)
theorem dX1_add_18 : decode cX1_add 18 = .ok (.iconst 0, 1) := dk_3 (dk_at dksX1_add_0 18 rfl rfl)
theorem dX1_add_19 : decode cX1_add 19 = .ok (.iastore, 1) := dk_79 (dk_at dksX1_add_0 19 rfl rfl)
theorem dX1_add_20 : decode cX1_add 20 = .ok (.aload_n 0, 1) := dk_42 (dk_at dksX1_add_0 20 rfl rfl)
theorem dX1_add_21 : decode cX1_add 21 = .ok (.getfield 26, 3) := dk_180 0 26 (dk_at dksX1_add_0 21 rfl rfl)
theorem dX1_add_24 : decode cX1_add 24 = .ok (.aload_n 0, 1) := dk_42 (dk_at dksX1_add_1 0 rfl rfl)
theorem dX1_add_25 : decode cX1_add 25 = .ok (.getfield 44, 3) := dk_180 0 44 (dk_at dksX1_add_1 1 rfl rfl)
theorem dX1_add_28 : decode cX1_add 28 = .ok (.bipush 99, 2) := dk_16 99 (dk_at dksX1_add_1 4 rfl rfl)
theorem dX1_add_30 : decode cX1_add 30 = .ok (.iastore, 1) := dk_79 (dk_at dksX1_add_1 6 rfl rfl)
theorem dX1_add_31 : decode cX1_add 31 = .ok (.aload_n 0, 1) := dk_42 (dk_at dksX1_add_1 7 rfl rfl)
theorem dX1_add_32 : decode cX1_add 32 = .ok (.getfield 29, 3) := dk_180 0 29 (dk_at dksX1_add_1 8 rfl rfl)
theorem dX1_add_35 : decode cX1_add 35 = .ok (.aload_n 0, 1) := dk_42 (dk_at dksX1_add_1 11 rfl rfl)
theorem dX1_add_36 : decode cX1_add 36 = .ok (.getfield 44, 3) := dk_180 0 44 (dk_at dksX1_add_1 12 rfl rfl)
theorem dX1_add_39 : decode cX1_add 39 = .ok (.iconst 0, 1) := dk_3 (dk_at dksX1_add_1 15 rfl rfl)
theorem dX1_add_40 : decode cX1_add 40 = .ok (.iastore, 1) := dk_79 (dk_at dksX1_add_1 16 rfl rfl)
theorem dX1_add_41 : decode cX1_add 41 = .ok (.aload_n 0, 1) := dk_42 (dk_at dksX1_add_1 17 rfl rfl)
theorem dX1_add_42 : decode cX1_add 42 = .ok (.getfield 32, 3) := dk_180 0 32 (dk_at dksX1_add_1 18 rfl rfl)
theorem dX1_add_45 : decode cX1_add 45 = .ok (.aload_n 0, 1) := dk_42 (dk_at dksX1_add_1 21 rfl rfl)
theorem dX1_add_46 : decode cX1_add 46 = .ok (.getfield 44, 3) := dk_180 0 44 (dk_at dksX1_add_2 0 rfl rfl)
theorem dX1_add_49 : decode cX1_add 49 = .ok (.iconst 0, 1) := dk_3 (dk_at dksX1_add_2 3 rfl rfl)
theorem dX1_add_50 : decode cX1_add 50 = .ok (.iastore, 1) := dk_79 (dk_at dksX1_add_2 4 rfl rfl)
theorem dX1_add_51 : decode cX1_add 51 = .ok (.aload_n 0, 1) := dk_42 (dk_at dksX1_add_2 5 rfl rfl)
theorem dX1_add_52 : decode cX1_add 52 = .ok (.dup, 1) := dk_89 (dk_at dksX1_add_2 6 rfl rfl)
theorem dX1_add_53 : decode cX1_add 53 = .ok (.getfield 44, 3) := dk_180 0 44 (dk_at dksX1_add_2 7 rfl rfl)
theorem dX1_add_56 : decode cX1_add 56 = .ok (.iconst 1, 1) := dk_4 (dk_at dksX1_add_2 10 rfl rfl)
theorem dX1_add_57 : decode cX1_add 57 = .ok (.iadd, 1) := dk_96 (dk_at dksX1_add_2 11 rfl rfl)
theorem dX1_add_58 : decode cX1_add 58 = .ok (.putfield 44, 3) := dk_181 0 44 (dk_at dksX1_add_2 12 rfl rfl)
theorem dX1_add_61 : decode cX1_add 61 = .ok (.aload_n 0, 1) := dk_42 (dk_at dksX1_add_2 15 rfl rfl)
theorem dX1_add_62 : decode cX1_add 62 = .ok (.getfield 44, 3) := dk_180 0 44 (dk_at dksX1_add_2 16 rfl rfl)
theorem dX1_add_65 : decode cX1_add 65 = .ok (.iconst 1, 1) := dk_4 (dk_at dksX1_add_2 19 rfl rfl)
theorem dX1_add_66 : decode cX1_add 66 = .ok (.isub, 1) := dk_100 (dk_at dksX1_add_2 20 rfl rfl)
theorem dX1_add_67 : decode cX1_add 67 = .ok (.ireturn, 1) := dk_172 (dk_at dksX1_add_2 21 rfl rfl)
abbrev cX1_copyOf : ByteArray := prog_4_method_4_code
def yX1_copyOf : MethodName := ⟨RX1, "copyOf", "(LScopeTasks$Tree;)V"⟩
def dkwX1_copyOf_6 : List UInt8 := [182, 0, 48, 42, 180, 0, 40, 43, 180, 0, 40, 182, 0, 57, 177]
abbrev dktX1_copyOf_6 : List UInt8 := dkwX1_copyOf_6 ++ []
def dkwX1_copyOf_5 : List UInt8 := [184, 0, 51, 43, 180, 0, 32, 3, 42, 180, 0, 32, 3, 16, 8, 184, 0, 51, 42, 180, 0, 40]
abbrev dktX1_copyOf_5 : List UInt8 := dkwX1_copyOf_5 ++ dktX1_copyOf_6
def dkwX1_copyOf_4 : List UInt8 := [42, 180, 0, 26, 3, 16, 8, 184, 0, 51, 43, 180, 0, 29, 3, 42, 180, 0, 29, 3, 16, 8]
abbrev dktX1_copyOf_4 : List UInt8 := dkwX1_copyOf_4 ++ dktX1_copyOf_5
def dkwX1_copyOf_3 : List UInt8 := [3, 42, 180, 0, 23, 28, 50, 3, 16, 6, 184, 0, 51, 132, 2, 1, 167, 255, 209, 43, 180, 0, 26, 3]
abbrev dktX1_copyOf_3 : List UInt8 := dkwX1_copyOf_3 ++ dktX1_copyOf_4
def dkwX1_copyOf_2 : List UInt8 := [180, 0, 20, 28, 50, 3, 42, 180, 0, 20, 28, 50, 3, 16, 6, 184, 0, 51, 43, 180, 0, 23, 28, 50]
abbrev dktX1_copyOf_2 : List UInt8 := dkwX1_copyOf_2 ++ dktX1_copyOf_3
def dkwX1_copyOf_1 : List UInt8 := [180, 0, 15, 3, 42, 180, 0, 15, 3, 16, 8, 184, 0, 51, 3, 61, 28, 16, 8, 162, 0, 47, 43]
abbrev dktX1_copyOf_1 : List UInt8 := dkwX1_copyOf_1 ++ dktX1_copyOf_2
def dkwX1_copyOf_0 : List UInt8 := [42, 43, 180, 0, 44, 181, 0, 44, 43, 180, 0, 9, 3, 42, 180, 0, 9, 3, 16, 8, 184, 0, 51, 43]
abbrev dktX1_copyOf_0 : List UInt8 := dkwX1_copyOf_0 ++ dktX1_copyOf_1
theorem dksX1_copyOf_0 : cX1_copyOf.data.toList.drop 0 = dktX1_copyOf_0 := by decide +kernel
theorem dksX1_copyOf_1 : cX1_copyOf.data.toList.drop 24 = dktX1_copyOf_1 := dk_seg dksX1_copyOf_0 24 rfl rfl
theorem dksX1_copyOf_2 : cX1_copyOf.data.toList.drop 47 = dktX1_copyOf_2 := dk_seg dksX1_copyOf_1 23 rfl rfl
theorem dksX1_copyOf_3 : cX1_copyOf.data.toList.drop 71 = dktX1_copyOf_3 := dk_seg dksX1_copyOf_2 24 rfl rfl
theorem dksX1_copyOf_4 : cX1_copyOf.data.toList.drop 95 = dktX1_copyOf_4 := dk_seg dksX1_copyOf_3 24 rfl rfl
theorem dksX1_copyOf_5 : cX1_copyOf.data.toList.drop 117 = dktX1_copyOf_5 := dk_seg dksX1_copyOf_4 22 rfl rfl
theorem dksX1_copyOf_6 : cX1_copyOf.data.toList.drop 139 = dktX1_copyOf_6 := dk_seg dksX1_copyOf_5 22 rfl rfl
theorem dX1_copyOf_0 : decode cX1_copyOf 0 = .ok (.aload_n 0, 1) := dk_42 (dk_at dksX1_copyOf_0 0 rfl rfl)
theorem dX1_copyOf_1 : decode cX1_copyOf 1 = .ok (.aload_n 1, 1) := dk_43 (dk_at dksX1_copyOf_0 1 rfl rfl)
theorem dX1_copyOf_2 : decode cX1_copyOf 2 = .ok (.getfield 44, 3) := dk_180 0 44 (dk_at dksX1_copyOf_0 2 rfl rfl)
theorem dX1_copyOf_5 : decode cX1_copyOf 5 = .ok (.putfield 44, 3) := dk_181 0 44 (dk_at dksX1_copyOf_0 5 rfl rfl)
theorem dX1_copyOf_8 : decode cX1_copyOf 8 = .ok (.aload_n 1, 1) := dk_43 (dk_at dksX1_copyOf_0 8 rfl rfl)
theorem dX1_copyOf_9 : decode cX1_copyOf 9 = .ok (.getfield 9, 3) := dk_180 0 9 (dk_at dksX1_copyOf_0 9 rfl rfl)
theorem dX1_copyOf_12 : decode cX1_copyOf 12 = .ok (.iconst 0, 1) := dk_3 (dk_at dksX1_copyOf_0 12 rfl rfl)
theorem dX1_copyOf_13 : decode cX1_copyOf 13 = .ok (.aload_n 0, 1) := dk_42 (dk_at dksX1_copyOf_0 13 rfl rfl)
theorem dX1_copyOf_14 : decode cX1_copyOf 14 = .ok (.getfield 9, 3) := dk_180 0 9 (dk_at dksX1_copyOf_0 14 rfl rfl)
theorem dX1_copyOf_17 : decode cX1_copyOf 17 = .ok (.iconst 0, 1) := dk_3 (dk_at dksX1_copyOf_0 17 rfl rfl)
theorem dX1_copyOf_18 : decode cX1_copyOf 18 = .ok (.bipush 8, 2) := dk_16 8 (dk_at dksX1_copyOf_0 18 rfl rfl)
theorem dX1_copyOf_20 : decode cX1_copyOf 20 = .ok (.invokestatic 51, 3) := dk_184 0 51 (dk_at dksX1_copyOf_0 20 rfl rfl)
theorem dX1_copyOf_23 : decode cX1_copyOf 23 = .ok (.aload_n 1, 1) := dk_43 (dk_at dksX1_copyOf_0 23 rfl rfl)
theorem dX1_copyOf_24 : decode cX1_copyOf 24 = .ok (.getfield 15, 3) := dk_180 0 15 (dk_at dksX1_copyOf_1 0 rfl rfl)
theorem dX1_copyOf_27 : decode cX1_copyOf 27 = .ok (.iconst 0, 1) := dk_3 (dk_at dksX1_copyOf_1 3 rfl rfl)
theorem dX1_copyOf_28 : decode cX1_copyOf 28 = .ok (.aload_n 0, 1) := dk_42 (dk_at dksX1_copyOf_1 4 rfl rfl)
theorem dX1_copyOf_29 : decode cX1_copyOf 29 = .ok (.getfield 15, 3) := dk_180 0 15 (dk_at dksX1_copyOf_1 5 rfl rfl)
theorem dX1_copyOf_32 : decode cX1_copyOf 32 = .ok (.iconst 0, 1) := dk_3 (dk_at dksX1_copyOf_1 8 rfl rfl)
theorem dX1_copyOf_33 : decode cX1_copyOf 33 = .ok (.bipush 8, 2) := dk_16 8 (dk_at dksX1_copyOf_1 9 rfl rfl)
theorem dX1_copyOf_35 : decode cX1_copyOf 35 = .ok (.invokestatic 51, 3) := dk_184 0 51 (dk_at dksX1_copyOf_1 11 rfl rfl)
theorem dX1_copyOf_38 : decode cX1_copyOf 38 = .ok (.iconst 0, 1) := dk_3 (dk_at dksX1_copyOf_1 14 rfl rfl)
theorem dX1_copyOf_39 : decode cX1_copyOf 39 = .ok (.istore_n 2, 1) := dk_61 (dk_at dksX1_copyOf_1 15 rfl rfl)
theorem dX1_copyOf_40 : decode cX1_copyOf 40 = .ok (.iload_n 2, 1) := dk_28 (dk_at dksX1_copyOf_1 16 rfl rfl)
theorem dX1_copyOf_41 : decode cX1_copyOf 41 = .ok (.bipush 8, 2) := dk_16 8 (dk_at dksX1_copyOf_1 17 rfl rfl)
theorem dX1_copyOf_43 : decode cX1_copyOf 43 = .ok (.if_icmp .ge 47, 3) := dk_162 0 47 (dk_at dksX1_copyOf_1 19 rfl rfl)
theorem dX1_copyOf_46 : decode cX1_copyOf 46 = .ok (.aload_n 1, 1) := dk_43 (dk_at dksX1_copyOf_1 22 rfl rfl)
theorem dX1_copyOf_47 : decode cX1_copyOf 47 = .ok (.getfield 20, 3) := dk_180 0 20 (dk_at dksX1_copyOf_2 0 rfl rfl)
theorem dX1_copyOf_50 : decode cX1_copyOf 50 = .ok (.iload_n 2, 1) := dk_28 (dk_at dksX1_copyOf_2 3 rfl rfl)
theorem dX1_copyOf_51 : decode cX1_copyOf 51 = .ok (.aaload, 1) := dk_50 (dk_at dksX1_copyOf_2 4 rfl rfl)
theorem dX1_copyOf_52 : decode cX1_copyOf 52 = .ok (.iconst 0, 1) := dk_3 (dk_at dksX1_copyOf_2 5 rfl rfl)
theorem dX1_copyOf_53 : decode cX1_copyOf 53 = .ok (.aload_n 0, 1) := dk_42 (dk_at dksX1_copyOf_2 6 rfl rfl)
theorem dX1_copyOf_54 : decode cX1_copyOf 54 = .ok (.getfield 20, 3) := dk_180 0 20 (dk_at dksX1_copyOf_2 7 rfl rfl)
theorem dX1_copyOf_57 : decode cX1_copyOf 57 = .ok (.iload_n 2, 1) := dk_28 (dk_at dksX1_copyOf_2 10 rfl rfl)
theorem dX1_copyOf_58 : decode cX1_copyOf 58 = .ok (.aaload, 1) := dk_50 (dk_at dksX1_copyOf_2 11 rfl rfl)
theorem dX1_copyOf_59 : decode cX1_copyOf 59 = .ok (.iconst 0, 1) := dk_3 (dk_at dksX1_copyOf_2 12 rfl rfl)
theorem dX1_copyOf_60 : decode cX1_copyOf 60 = .ok (.bipush 6, 2) := dk_16 6 (dk_at dksX1_copyOf_2 13 rfl rfl)
theorem dX1_copyOf_62 : decode cX1_copyOf 62 = .ok (.invokestatic 51, 3) := dk_184 0 51 (dk_at dksX1_copyOf_2 15 rfl rfl)
theorem dX1_copyOf_65 : decode cX1_copyOf 65 = .ok (.aload_n 1, 1) := dk_43 (dk_at dksX1_copyOf_2 18 rfl rfl)
theorem dX1_copyOf_66 : decode cX1_copyOf 66 = .ok (.getfield 23, 3) := dk_180 0 23 (dk_at dksX1_copyOf_2 19 rfl rfl)
theorem dX1_copyOf_69 : decode cX1_copyOf 69 = .ok (.iload_n 2, 1) := dk_28 (dk_at dksX1_copyOf_2 22 rfl rfl)
theorem dX1_copyOf_70 : decode cX1_copyOf 70 = .ok (.aaload, 1) := dk_50 (dk_at dksX1_copyOf_2 23 rfl rfl)
theorem dX1_copyOf_71 : decode cX1_copyOf 71 = .ok (.iconst 0, 1) := dk_3 (dk_at dksX1_copyOf_3 0 rfl rfl)
theorem dX1_copyOf_72 : decode cX1_copyOf 72 = .ok (.aload_n 0, 1) := dk_42 (dk_at dksX1_copyOf_3 1 rfl rfl)
theorem dX1_copyOf_73 : decode cX1_copyOf 73 = .ok (.getfield 23, 3) := dk_180 0 23 (dk_at dksX1_copyOf_3 2 rfl rfl)
theorem dX1_copyOf_76 : decode cX1_copyOf 76 = .ok (.iload_n 2, 1) := dk_28 (dk_at dksX1_copyOf_3 5 rfl rfl)
theorem dX1_copyOf_77 : decode cX1_copyOf 77 = .ok (.aaload, 1) := dk_50 (dk_at dksX1_copyOf_3 6 rfl rfl)
theorem dX1_copyOf_78 : decode cX1_copyOf 78 = .ok (.iconst 0, 1) := dk_3 (dk_at dksX1_copyOf_3 7 rfl rfl)
theorem dX1_copyOf_79 : decode cX1_copyOf 79 = .ok (.bipush 6, 2) := dk_16 6 (dk_at dksX1_copyOf_3 8 rfl rfl)
theorem dX1_copyOf_81 : decode cX1_copyOf 81 = .ok (.invokestatic 51, 3) := dk_184 0 51 (dk_at dksX1_copyOf_3 10 rfl rfl)
theorem dX1_copyOf_84 : decode cX1_copyOf 84 = .ok (.iinc 2 1, 3) := dk_132 2 1 (dk_at dksX1_copyOf_3 13 rfl rfl)
theorem dX1_copyOf_87 : decode cX1_copyOf 87 = .ok (.goto (-47), 3) := dk_167 255 209 (dk_at dksX1_copyOf_3 16 rfl rfl)
theorem dX1_copyOf_90 : decode cX1_copyOf 90 = .ok (.aload_n 1, 1) := dk_43 (dk_at dksX1_copyOf_3 19 rfl rfl)
theorem dX1_copyOf_91 : decode cX1_copyOf 91 = .ok (.getfield 26, 3) := dk_180 0 26 (dk_at dksX1_copyOf_3 20 rfl rfl)
theorem dX1_copyOf_94 : decode cX1_copyOf 94 = .ok (.iconst 0, 1) := dk_3 (dk_at dksX1_copyOf_3 23 rfl rfl)
theorem dX1_copyOf_95 : decode cX1_copyOf 95 = .ok (.aload_n 0, 1) := dk_42 (dk_at dksX1_copyOf_4 0 rfl rfl)
theorem dX1_copyOf_96 : decode cX1_copyOf 96 = .ok (.getfield 26, 3) := dk_180 0 26 (dk_at dksX1_copyOf_4 1 rfl rfl)
theorem dX1_copyOf_99 : decode cX1_copyOf 99 = .ok (.iconst 0, 1) := dk_3 (dk_at dksX1_copyOf_4 4 rfl rfl)
theorem dX1_copyOf_100 : decode cX1_copyOf 100 = .ok (.bipush 8, 2) := dk_16 8 (dk_at dksX1_copyOf_4 5 rfl rfl)
theorem dX1_copyOf_102 : decode cX1_copyOf 102 = .ok (.invokestatic 51, 3) := dk_184 0 51 (dk_at dksX1_copyOf_4 7 rfl rfl)
theorem dX1_copyOf_105 : decode cX1_copyOf 105 = .ok (.aload_n 1, 1) := dk_43 (dk_at dksX1_copyOf_4 10 rfl rfl)
theorem dX1_copyOf_106 : decode cX1_copyOf 106 = .ok (.getfield 29, 3) := dk_180 0 29 (dk_at dksX1_copyOf_4 11 rfl rfl)
theorem dX1_copyOf_109 : decode cX1_copyOf 109 = .ok (.iconst 0, 1) := dk_3 (dk_at dksX1_copyOf_4 14 rfl rfl)
theorem dX1_copyOf_110 : decode cX1_copyOf 110 = .ok (.aload_n 0, 1) := dk_42 (dk_at dksX1_copyOf_4 15 rfl rfl)
theorem dX1_copyOf_111 : decode cX1_copyOf 111 = .ok (.getfield 29, 3) := dk_180 0 29 (dk_at dksX1_copyOf_4 16 rfl rfl)
theorem dX1_copyOf_114 : decode cX1_copyOf 114 = .ok (.iconst 0, 1) := dk_3 (dk_at dksX1_copyOf_4 19 rfl rfl)
theorem dX1_copyOf_115 : decode cX1_copyOf 115 = .ok (.bipush 8, 2) := dk_16 8 (dk_at dksX1_copyOf_4 20 rfl rfl)
theorem dX1_copyOf_117 : decode cX1_copyOf 117 = .ok (.invokestatic 51, 3) := dk_184 0 51 (dk_at dksX1_copyOf_5 0 rfl rfl)
theorem dX1_copyOf_120 : decode cX1_copyOf 120 = .ok (.aload_n 1, 1) := dk_43 (dk_at dksX1_copyOf_5 3 rfl rfl)
theorem dX1_copyOf_121 : decode cX1_copyOf 121 = .ok (.getfield 32, 3) := dk_180 0 32 (dk_at dksX1_copyOf_5 4 rfl rfl)
theorem dX1_copyOf_124 : decode cX1_copyOf 124 = .ok (.iconst 0, 1) := dk_3 (dk_at dksX1_copyOf_5 7 rfl rfl)
theorem dX1_copyOf_125 : decode cX1_copyOf 125 = .ok (.aload_n 0, 1) := dk_42 (dk_at dksX1_copyOf_5 8 rfl rfl)
theorem dX1_copyOf_126 : decode cX1_copyOf 126 = .ok (.getfield 32, 3) := dk_180 0 32 (dk_at dksX1_copyOf_5 9 rfl rfl)
theorem dX1_copyOf_129 : decode cX1_copyOf 129 = .ok (.iconst 0, 1) := dk_3 (dk_at dksX1_copyOf_5 12 rfl rfl)
theorem dX1_copyOf_130 : decode cX1_copyOf 130 = .ok (.bipush 8, 2) := dk_16 8 (dk_at dksX1_copyOf_5 13 rfl rfl)
theorem dX1_copyOf_132 : decode cX1_copyOf 132 = .ok (.invokestatic 51, 3) := dk_184 0 51 (dk_at dksX1_copyOf_5 15 rfl rfl)
theorem dX1_copyOf_135 : decode cX1_copyOf 135 = .ok (.aload_n 0, 1) := dk_42 (dk_at dksX1_copyOf_5 18 rfl rfl)
theorem dX1_copyOf_136 : decode cX1_copyOf 136 = .ok (.getfield 40, 3) := dk_180 0 40 (dk_at dksX1_copyOf_5 19 rfl rfl)
theorem dX1_copyOf_139 : decode cX1_copyOf 139 = .ok (.invokevirtual 48, 3) := dk_182 0 48 (dk_at dksX1_copyOf_6 0 rfl rfl)
theorem dX1_copyOf_142 : decode cX1_copyOf 142 = .ok (.aload_n 0, 1) := dk_42 (dk_at dksX1_copyOf_6 3 rfl rfl)
theorem dX1_copyOf_143 : decode cX1_copyOf 143 = .ok (.getfield 40, 3) := dk_180 0 40 (dk_at dksX1_copyOf_6 4 rfl rfl)
theorem dX1_copyOf_146 : decode cX1_copyOf 146 = .ok (.aload_n 1, 1) := dk_43 (dk_at dksX1_copyOf_6 7 rfl rfl)
theorem dX1_copyOf_147 : decode cX1_copyOf 147 = .ok (.getfield 40, 3) := dk_180 0 40 (dk_at dksX1_copyOf_6 8 rfl rfl)
theorem dX1_copyOf_150 : decode cX1_copyOf 150 = .ok (.invokevirtual 57, 3) := dk_182 0 57 (dk_at dksX1_copyOf_6 11 rfl rfl)
theorem dX1_copyOf_153 : decode cX1_copyOf 153 = .ok (.return_, 1) := dk_177 (dk_at dksX1_copyOf_6 14 rfl rfl)
theorem q61 : (Jvm.Cond.initialized "ScopeTasks$Tree") ∈ lw_all := lw_g (lw_at lw_m1 2 rfl) rfl
theorem q93 : (Jvm.Cond.instantiable "ScopeTasks$Tree" (9 : Nat)) ∈ lw_all := lw_g (lw_at lw_m1 34 rfl) rfl
theorem q95 : (Jvm.Cond.instanceMethod ({ cls := "ScopeTasks$Tree", name := "<init>", desc := "()V" } : Jvm.MethodName)) ∈ lw_all := lw_g (lw_at lw_m1 36 rfl) rfl
theorem q96 : (Jvm.Cond.code ({ cls := "ScopeTasks$Tree", name := "<init>", desc := "()V" } : Jvm.MethodName) prog_4_method_1_code (1 : Nat) (Option.none : Option Jvm.ClassFile.FieldType)) ∈ lw_all := lw_g (lw_at lw_m1 37 rfl) rfl
theorem q97 : (Jvm.Cond.methodLink "ScopeTasks$Tree" (3 : Nat) ({ cls := "java/lang/Object", name := "<init>", desc := "()V" } : Jvm.MethodName)) ∈ lw_all := lw_g (lw_at lw_m1 38 rfl) rfl
theorem q98 : (Jvm.Cond.classLink "ScopeTasks$Tree" (18 : Nat) "[[I") ∈ lw_all := lw_g (lw_at lw_m1 39 rfl) rfl
theorem q100 : (Jvm.Cond.classLink "ScopeTasks$Tree" (35 : Nat) "java/util/BitSet") ∈ lw_all := lw_g (lw_at lw_m1 41 rfl) rfl
theorem q102 : (Jvm.Cond.methodLink "ScopeTasks$Tree" (37 : Nat) ({ cls := "java/util/BitSet", name := "<init>", desc := "(I)V" } : Jvm.MethodName)) ∈ lw_all := lw_g (lw_at lw_m1 43 rfl) rfl
theorem q125 : (Jvm.Cond.fieldLink "ScopeTasks$Tree" (44 : Nat) "ScopeTasks$Tree" "tasks" "I") ∈ lw_all := lw_g (lw_at lw_m1 66 rfl) rfl
theorem q129 : (Jvm.Cond.fieldLink "ScopeTasks$Tree" (9 : Nat) "ScopeTasks$Tree" "parent" "[I") ∈ lw_all := lw_g (lw_at lw_m1 70 rfl) rfl
theorem q132 : (Jvm.Cond.fieldLink "ScopeTasks$Tree" (15 : Nat) "ScopeTasks$Tree" "length" "[I") ∈ lw_all := lw_g (lw_at lw_m1 73 rfl) rfl
theorem q135 : (Jvm.Cond.fieldLink "ScopeTasks$Tree" (20 : Nat) "ScopeTasks$Tree" "what" "[[I") ∈ lw_all := lw_g (lw_at lw_m1 76 rfl) rfl
theorem q138 : (Jvm.Cond.fieldLink "ScopeTasks$Tree" (23 : Nat) "ScopeTasks$Tree" "of" "[[I") ∈ lw_all := lw_g (lw_at lw_m1 79 rfl) rfl
theorem q141 : (Jvm.Cond.fieldLink "ScopeTasks$Tree" (26 : Nat) "ScopeTasks$Tree" "deadline" "[I") ∈ lw_all := lw_g (lw_at lw_m1 82 rfl) rfl
theorem q145 : (Jvm.Cond.fieldLink "ScopeTasks$Tree" (29 : Nat) "ScopeTasks$Tree" "shield" "[I") ∈ lw_all := lw_g (lw_at lw_m1 86 rfl) rfl
theorem q148 : (Jvm.Cond.fieldLink "ScopeTasks$Tree" (32 : Nat) "ScopeTasks$Tree" "cleanUp" "[I") ∈ lw_all := lw_g (lw_at lw_m1 89 rfl) rfl
theorem q151 : (Jvm.Cond.fieldLink "ScopeTasks$Tree" (40 : Nat) "ScopeTasks$Tree" "gathers" "Ljava/util/BitSet;") ∈ lw_all := lw_g (lw_at lw_m1 92 rfl) rfl
theorem q154 : (Jvm.Cond.lays "ScopeTasks$Tree" "ScopeTasks$Tree" "tasks" "I") ∈ lw_all := lw_g (lw_at lw_m1 95 rfl) rfl
theorem q155 : (Jvm.Cond.soleField "ScopeTasks$Tree" "tasks") ∈ lw_all := lw_g (lw_at lw_m1 96 rfl) rfl
theorem q156 : (Jvm.Cond.laysFinal "ScopeTasks$Tree" "ScopeTasks$Tree" "parent" "[I") ∈ lw_all := lw_g (lw_at lw_m1 97 rfl) rfl
theorem q157 : (Jvm.Cond.soleField "ScopeTasks$Tree" "parent") ∈ lw_all := lw_g (lw_at lw_m1 98 rfl) rfl
theorem q158 : (Jvm.Cond.laysFinal "ScopeTasks$Tree" "ScopeTasks$Tree" "length" "[I") ∈ lw_all := lw_g (lw_at lw_m1 99 rfl) rfl
theorem q159 : (Jvm.Cond.soleField "ScopeTasks$Tree" "length") ∈ lw_all := lw_g (lw_at lw_m1 100 rfl) rfl
theorem q160 : (Jvm.Cond.laysFinal "ScopeTasks$Tree" "ScopeTasks$Tree" "what" "[[I") ∈ lw_all := lw_g (lw_at lw_m1 101 rfl) rfl
theorem q161 : (Jvm.Cond.soleField "ScopeTasks$Tree" "what") ∈ lw_all := lw_g (lw_at lw_m1 102 rfl) rfl
theorem q162 : (Jvm.Cond.laysFinal "ScopeTasks$Tree" "ScopeTasks$Tree" "of" "[[I") ∈ lw_all := lw_g (lw_at lw_m1 103 rfl) rfl
theorem q163 : (Jvm.Cond.soleField "ScopeTasks$Tree" "of") ∈ lw_all := lw_g (lw_at lw_m1 104 rfl) rfl
theorem q164 : (Jvm.Cond.laysFinal "ScopeTasks$Tree" "ScopeTasks$Tree" "deadline" "[I") ∈ lw_all := lw_g (lw_at lw_m1 105 rfl) rfl
theorem q165 : (Jvm.Cond.soleField "ScopeTasks$Tree" "deadline") ∈ lw_all := lw_g (lw_at lw_m1 106 rfl) rfl
theorem q166 : (Jvm.Cond.laysFinal "ScopeTasks$Tree" "ScopeTasks$Tree" "shield" "[I") ∈ lw_all := lw_g (lw_at lw_m1 107 rfl) rfl
theorem q167 : (Jvm.Cond.soleField "ScopeTasks$Tree" "shield") ∈ lw_all := lw_g (lw_at lw_m1 108 rfl) rfl
theorem q168 : (Jvm.Cond.laysFinal "ScopeTasks$Tree" "ScopeTasks$Tree" "cleanUp" "[I") ∈ lw_all := lw_g (lw_at lw_m1 109 rfl) rfl
theorem q169 : (Jvm.Cond.soleField "ScopeTasks$Tree" "cleanUp") ∈ lw_all := lw_g (lw_at lw_m1 110 rfl) rfl
theorem q170 : (Jvm.Cond.laysFinal "ScopeTasks$Tree" "ScopeTasks$Tree" "gathers" "Ljava/util/BitSet;") ∈ lw_all := lw_g (lw_at lw_m1 111 rfl) rfl
theorem q171 : (Jvm.Cond.soleField "ScopeTasks$Tree" "gathers") ∈ lw_all := lw_g (lw_at lw_m1 112 rfl) rfl
theorem q172 : (Jvm.Cond.superclass "ScopeTasks$Tree" "java/lang/Object") ∈ lw_all := lw_g (lw_at lw_m1 113 rfl) rfl
theorem q304 : (Jvm.Cond.selects "ScopeTasks$Tree" ({ cls := "java/lang/Object", name := "getClass", desc := "()Ljava/lang/Class;" } : Jvm.MethodName) ({ cls := "java/lang/Object", name := "getClass", desc := "()Ljava/lang/Class;" } : Jvm.MethodName)) ∈ lw_all := lw_g (lw_at lw_m2 5 rfl) rfl
theorem q324 : (Jvm.Cond.instanceMethod ({ cls := "ScopeTasks$Tree", name := "begin", desc := "()V" } : Jvm.MethodName)) ∈ lw_all := lw_g (lw_at lw_m2 25 rfl) rfl
theorem q325 : (Jvm.Cond.selects "ScopeTasks$Tree" ({ cls := "ScopeTasks$Tree", name := "begin", desc := "()V" } : Jvm.MethodName) ({ cls := "ScopeTasks$Tree", name := "begin", desc := "()V" } : Jvm.MethodName)) ∈ lw_all := lw_g (lw_at lw_m2 26 rfl) rfl
theorem q326 : (Jvm.Cond.code ({ cls := "ScopeTasks$Tree", name := "begin", desc := "()V" } : Jvm.MethodName) prog_4_method_2_code (1 : Nat) (Option.none : Option Jvm.ClassFile.FieldType)) ∈ lw_all := lw_g (lw_at lw_m2 27 rfl) rfl
theorem q327 : (Jvm.Cond.methodLink "ScopeTasks$Tree" (48 : Nat) ({ cls := "java/util/BitSet", name := "clear", desc := "()V" } : Jvm.MethodName)) ∈ lw_all := lw_g (lw_at lw_m2 28 rfl) rfl
theorem q332 : (Jvm.Cond.instanceMethod ({ cls := "ScopeTasks$Tree", name := "add", desc := "(I)I" } : Jvm.MethodName)) ∈ lw_all := lw_g (lw_at lw_m2 33 rfl) rfl
theorem q333 : (Jvm.Cond.selects "ScopeTasks$Tree" ({ cls := "ScopeTasks$Tree", name := "add", desc := "(I)I" } : Jvm.MethodName) ({ cls := "ScopeTasks$Tree", name := "add", desc := "(I)I" } : Jvm.MethodName)) ∈ lw_all := lw_g (lw_at lw_m2 34 rfl) rfl
theorem q334 : (Jvm.Cond.code ({ cls := "ScopeTasks$Tree", name := "add", desc := "(I)I" } : Jvm.MethodName) prog_4_method_3_code (2 : Nat) (Option.some Jvm.ClassFile.FieldType.int)) ∈ lw_all := lw_g (lw_at lw_m2 35 rfl) rfl
theorem q672 : (Jvm.Cond.instanceMethod ({ cls := "ScopeTasks$Tree", name := "copyOf", desc := "(LScopeTasks$Tree;)V" } : Jvm.MethodName)) ∈ lw_all := lw_g (lw_at lw_m3 133 rfl) rfl
theorem q673 : (Jvm.Cond.selects "ScopeTasks$Tree" ({ cls := "ScopeTasks$Tree", name := "copyOf", desc := "(LScopeTasks$Tree;)V" } : Jvm.MethodName) ({ cls := "ScopeTasks$Tree", name := "copyOf", desc := "(LScopeTasks$Tree;)V" } : Jvm.MethodName)) ∈ lw_all := lw_g (lw_at lw_m3 134 rfl) rfl
theorem q674 : (Jvm.Cond.code ({ cls := "ScopeTasks$Tree", name := "copyOf", desc := "(LScopeTasks$Tree;)V" } : Jvm.MethodName) prog_4_method_4_code (3 : Nat) (Option.none : Option Jvm.ClassFile.FieldType)) ∈ lw_all := lw_g (lw_at lw_m3 135 rfl) rfl
theorem q675 : (Jvm.Cond.methodLink "ScopeTasks$Tree" (51 : Nat) ({ cls := "java/lang/System", name := "arraycopy", desc := "(Ljava/lang/Object;ILjava/lang/Object;II)V" } : Jvm.MethodName)) ∈ lw_all := lw_g (lw_at lw_m3 136 rfl) rfl
theorem q676 : (Jvm.Cond.methodLink "ScopeTasks$Tree" (57 : Nat) ({ cls := "java/util/BitSet", name := "or", desc := "(Ljava/util/BitSet;)V" } : Jvm.MethodName)) ∈ lw_all := lw_g (lw_at lw_m3 137 rfl) rfl
theorem q1249 : (Jvm.Cond.castable "ScopeTasks$Tree" "java/lang/Object") ∈ lw_tbl := lw_at lw_m5 230 rfl
theorem in_X1 : ∀ w ∈ wsX10, w ∈ lw_all := lw_in wsX10 [154, 156, 158, 160, 162, 164, 166, 168, 170] (by decide +kernel) (by decide +kernel)
/-! ScopeTasks$Run -/
set_option maxRecDepth 100000
def RX2 : String := "ScopeTasks$Run"
def TX2 : u_T := fun k => match k with
  | 0 => ("ScopeTasks$Run", "tick", "I", false)
  | 1 => ("ScopeTasks$Run", "running", "Ljava/util/BitSet;", true)
  | 2 => ("ScopeTasks$Run", "closing", "Ljava/util/BitSet;", true)
  | 3 => ("ScopeTasks$Run", "ended", "Ljava/util/BitSet;", true)
  | 4 => ("ScopeTasks$Run", "asked", "Ljava/util/BitSet;", true)
  | 5 => ("ScopeTasks$Run", "out", "[I", true)
  | 6 => ("ScopeTasks$Run", "gone", "[I", true)
  | 7 => ("ScopeTasks$Run", "worked", "[I", true)
  | 8 => ("ScopeTasks$Run", "due", "[I", true)
  | 9 => ("ScopeTasks$Run", "begun", "[I", true)
  | 10 => ("ScopeTasks$Run", "end", "[I", true)
  | 11 => ("ScopeTasks$Run", "many", "[I", true)
  | 12 => ("ScopeTasks$Run", "list", "[[I", true)
  | 13 => ("ScopeTasks$Run", "traceTick", "[I", true)
  | 14 => ("ScopeTasks$Run", "traceTask", "[I", true)
  | 15 => ("ScopeTasks$Run", "traceWhat", "[I", true)
  | 16 => ("ScopeTasks$Run", "traced", "I", false)
  | _ => ("ScopeTasks$Run", "this$0", "LScopeTasks;", true)
def tyX2 : Nat → FieldType := fun k => match k with
  | 0 => .int
  | 1 => .object "java/util/BitSet"
  | 2 => .object "java/util/BitSet"
  | 3 => .object "java/util/BitSet"
  | 4 => .object "java/util/BitSet"
  | 5 => .array .int
  | 6 => .array .int
  | 7 => .array .int
  | 8 => .array .int
  | 9 => .array .int
  | 10 => .array .int
  | 11 => .array .int
  | 12 => .array (.array .int)
  | 13 => .array .int
  | 14 => .array .int
  | 15 => .array .int
  | 16 => .int
  | _ => .object "ScopeTasks"
abbrev wsX20 : List Cond := u_ws RX2 TX2 18
set_option maxRecDepth 100000 in
theorem nmX2 : ∀ a, a < 18 → ∀ b, b < 18 → a ≠ b → (TX2 a).2.1 ≠ (TX2 b).2.1 := by decide +kernel
set_option maxRecDepth 100000 in
theorem tyX2_ok : ∀ k, k < 18 → parseFieldDescriptor (TX2 k).2.2.1 = some (tyX2 k) := by decide +kernel
abbrev cX2_init : ByteArray := prog_3_method_1_code
def yX2_init : MethodName := ⟨RX2, "<init>", "(LScopeTasks;)V"⟩
def dkwX2_init_6 : List UInt8 := [188, 10, 181, 0, 63, 42, 16, 60, 188, 10, 181, 0, 66, 177]
abbrev dktX2_init_6 : List UInt8 := dkwX2_init_6 ++ []
def dkwX2_init_5 : List UInt8 := [42, 16, 8, 16, 8, 197, 0, 55, 2, 181, 0, 57, 42, 16, 60, 188, 10, 181, 0, 60, 42, 16, 60]
abbrev dktX2_init_5 : List UInt8 := dkwX2_init_5 ++ dktX2_init_6
def dkwX2_init_4 : List UInt8 := [42, 16, 8, 188, 10, 181, 0, 46, 42, 16, 8, 188, 10, 181, 0, 49, 42, 16, 8, 188, 10, 181, 0, 52]
abbrev dktX2_init_4 : List UInt8 := dkwX2_init_4 ++ dktX2_init_5
def dkwX2_init_3 : List UInt8 := [42, 16, 8, 188, 10, 181, 0, 37, 42, 16, 8, 188, 10, 181, 0, 40, 42, 16, 8, 188, 10, 181, 0, 43]
abbrev dktX2_init_3 : List UInt8 := dkwX2_init_3 ++ dktX2_init_4
def dkwX2_init_2 : List UInt8 := [181, 0, 27, 42, 187, 0, 15, 89, 16, 8, 183, 0, 17, 181, 0, 30, 42, 16, 8, 188, 10, 181, 0, 33]
abbrev dktX2_init_2 : List UInt8 := dkwX2_init_2 ++ dktX2_init_3
def dkwX2_init_1 : List UInt8 := [187, 0, 15, 89, 16, 8, 183, 0, 17, 181, 0, 24, 42, 187, 0, 15, 89, 16, 8, 183, 0, 17]
abbrev dktX2_init_1 : List UInt8 := dkwX2_init_1 ++ dktX2_init_2
def dkwX2_init_0 : List UInt8 := [42, 43, 181, 0, 3, 42, 183, 0, 9, 42, 187, 0, 15, 89, 16, 8, 183, 0, 17, 181, 0, 20, 42]
abbrev dktX2_init_0 : List UInt8 := dkwX2_init_0 ++ dktX2_init_1
theorem dksX2_init_0 : cX2_init.data.toList.drop 0 = dktX2_init_0 := by decide +kernel
theorem dksX2_init_1 : cX2_init.data.toList.drop 23 = dktX2_init_1 := dk_seg dksX2_init_0 23 rfl rfl
theorem dksX2_init_2 : cX2_init.data.toList.drop 45 = dktX2_init_2 := dk_seg dksX2_init_1 22 rfl rfl
theorem dksX2_init_3 : cX2_init.data.toList.drop 69 = dktX2_init_3 := dk_seg dksX2_init_2 24 rfl rfl
theorem dksX2_init_4 : cX2_init.data.toList.drop 93 = dktX2_init_4 := dk_seg dksX2_init_3 24 rfl rfl
theorem dksX2_init_5 : cX2_init.data.toList.drop 117 = dktX2_init_5 := dk_seg dksX2_init_4 24 rfl rfl
theorem dksX2_init_6 : cX2_init.data.toList.drop 140 = dktX2_init_6 := dk_seg dksX2_init_5 23 rfl rfl
theorem dX2_init_0 : decode cX2_init 0 = .ok (.aload_n 0, 1) := dk_42 (dk_at dksX2_init_0 0 rfl rfl)
theorem dX2_init_1 : decode cX2_init 1 = .ok (.aload_n 1, 1) := dk_43 (dk_at dksX2_init_0 1 rfl rfl)
theorem dX2_init_2 : decode cX2_init 2 = .ok (.putfield 3, 3) := dk_181 0 3 (dk_at dksX2_init_0 2 rfl rfl)
theorem dX2_init_5 : decode cX2_init 5 = .ok (.aload_n 0, 1) := dk_42 (dk_at dksX2_init_0 5 rfl rfl)
theorem dX2_init_6 : decode cX2_init 6 = .ok (.invokespecial 9, 3) := dk_183 0 9 (dk_at dksX2_init_0 6 rfl rfl)
theorem dX2_init_9 : decode cX2_init 9 = .ok (.aload_n 0, 1) := dk_42 (dk_at dksX2_init_0 9 rfl rfl)
theorem dX2_init_10 : decode cX2_init 10 = .ok (.new 15, 3) := dk_187 0 15 (dk_at dksX2_init_0 10 rfl rfl)
theorem dX2_init_13 : decode cX2_init 13 = .ok (.dup, 1) := dk_89 (dk_at dksX2_init_0 13 rfl rfl)
theorem dX2_init_14 : decode cX2_init 14 = .ok (.bipush 8, 2) := dk_16 8 (dk_at dksX2_init_0 14 rfl rfl)
theorem dX2_init_16 : decode cX2_init 16 = .ok (.invokespecial 17, 3) := dk_183 0 17 (dk_at dksX2_init_0 16 rfl rfl)
theorem dX2_init_19 : decode cX2_init 19 = .ok (.putfield 20, 3) := dk_181 0 20 (dk_at dksX2_init_0 19 rfl rfl)
theorem dX2_init_22 : decode cX2_init 22 = .ok (.aload_n 0, 1) := dk_42 (dk_at dksX2_init_0 22 rfl rfl)
theorem dX2_init_23 : decode cX2_init 23 = .ok (.new 15, 3) := dk_187 0 15 (dk_at dksX2_init_1 0 rfl rfl)
theorem dX2_init_26 : decode cX2_init 26 = .ok (.dup, 1) := dk_89 (dk_at dksX2_init_1 3 rfl rfl)
theorem dX2_init_27 : decode cX2_init 27 = .ok (.bipush 8, 2) := dk_16 8 (dk_at dksX2_init_1 4 rfl rfl)
theorem dX2_init_29 : decode cX2_init 29 = .ok (.invokespecial 17, 3) := dk_183 0 17 (dk_at dksX2_init_1 6 rfl rfl)
theorem dX2_init_32 : decode cX2_init 32 = .ok (.putfield 24, 3) := dk_181 0 24 (dk_at dksX2_init_1 9 rfl rfl)
theorem dX2_init_35 : decode cX2_init 35 = .ok (.aload_n 0, 1) := dk_42 (dk_at dksX2_init_1 12 rfl rfl)
theorem dX2_init_36 : decode cX2_init 36 = .ok (.new 15, 3) := dk_187 0 15 (dk_at dksX2_init_1 13 rfl rfl)
theorem dX2_init_39 : decode cX2_init 39 = .ok (.dup, 1) := dk_89 (dk_at dksX2_init_1 16 rfl rfl)
theorem dX2_init_40 : decode cX2_init 40 = .ok (.bipush 8, 2) := dk_16 8 (dk_at dksX2_init_1 17 rfl rfl)
theorem dX2_init_42 : decode cX2_init 42 = .ok (.invokespecial 17, 3) := dk_183 0 17 (dk_at dksX2_init_1 19 rfl rfl)
theorem dX2_init_45 : decode cX2_init 45 = .ok (.putfield 27, 3) := dk_181 0 27 (dk_at dksX2_init_2 0 rfl rfl)
theorem dX2_init_48 : decode cX2_init 48 = .ok (.aload_n 0, 1) := dk_42 (dk_at dksX2_init_2 3 rfl rfl)
theorem dX2_init_49 : decode cX2_init 49 = .ok (.new 15, 3) := dk_187 0 15 (dk_at dksX2_init_2 4 rfl rfl)
theorem dX2_init_52 : decode cX2_init 52 = .ok (.dup, 1) := dk_89 (dk_at dksX2_init_2 7 rfl rfl)
theorem dX2_init_53 : decode cX2_init 53 = .ok (.bipush 8, 2) := dk_16 8 (dk_at dksX2_init_2 8 rfl rfl)
theorem dX2_init_55 : decode cX2_init 55 = .ok (.invokespecial 17, 3) := dk_183 0 17 (dk_at dksX2_init_2 10 rfl rfl)
theorem dX2_init_58 : decode cX2_init 58 = .ok (.putfield 30, 3) := dk_181 0 30 (dk_at dksX2_init_2 13 rfl rfl)
theorem dX2_init_61 : decode cX2_init 61 = .ok (.aload_n 0, 1) := dk_42 (dk_at dksX2_init_2 16 rfl rfl)
theorem dX2_init_62 : decode cX2_init 62 = .ok (.bipush 8, 2) := dk_16 8 (dk_at dksX2_init_2 17 rfl rfl)
theorem dX2_init_64 : decode cX2_init 64 = .ok (.newarray .int, 2) := dk_188_10 (dk_at dksX2_init_2 19 rfl rfl)
theorem dX2_init_66 : decode cX2_init 66 = .ok (.putfield 33, 3) := dk_181 0 33 (dk_at dksX2_init_2 21 rfl rfl)
theorem dX2_init_69 : decode cX2_init 69 = .ok (.aload_n 0, 1) := dk_42 (dk_at dksX2_init_3 0 rfl rfl)
theorem dX2_init_70 : decode cX2_init 70 = .ok (.bipush 8, 2) := dk_16 8 (dk_at dksX2_init_3 1 rfl rfl)
theorem dX2_init_72 : decode cX2_init 72 = .ok (.newarray .int, 2) := dk_188_10 (dk_at dksX2_init_3 3 rfl rfl)
theorem dX2_init_74 : decode cX2_init 74 = .ok (.putfield 37, 3) := dk_181 0 37 (dk_at dksX2_init_3 5 rfl rfl)
theorem dX2_init_77 : decode cX2_init 77 = .ok (.aload_n 0, 1) := dk_42 (dk_at dksX2_init_3 8 rfl rfl)
theorem dX2_init_78 : decode cX2_init 78 = .ok (.bipush 8, 2) := dk_16 8 (dk_at dksX2_init_3 9 rfl rfl)
theorem dX2_init_80 : decode cX2_init 80 = .ok (.newarray .int, 2) := dk_188_10 (dk_at dksX2_init_3 11 rfl rfl)
theorem dX2_init_82 : decode cX2_init 82 = .ok (.putfield 40, 3) := dk_181 0 40 (dk_at dksX2_init_3 13 rfl rfl)
theorem dX2_init_85 : decode cX2_init 85 = .ok (.aload_n 0, 1) := dk_42 (dk_at dksX2_init_3 16 rfl rfl)
theorem dX2_init_86 : decode cX2_init 86 = .ok (.bipush 8, 2) := dk_16 8 (dk_at dksX2_init_3 17 rfl rfl)
theorem dX2_init_88 : decode cX2_init 88 = .ok (.newarray .int, 2) := dk_188_10 (dk_at dksX2_init_3 19 rfl rfl)
theorem dX2_init_90 : decode cX2_init 90 = .ok (.putfield 43, 3) := dk_181 0 43 (dk_at dksX2_init_3 21 rfl rfl)
theorem dX2_init_93 : decode cX2_init 93 = .ok (.aload_n 0, 1) := dk_42 (dk_at dksX2_init_4 0 rfl rfl)
theorem dX2_init_94 : decode cX2_init 94 = .ok (.bipush 8, 2) := dk_16 8 (dk_at dksX2_init_4 1 rfl rfl)
theorem dX2_init_96 : decode cX2_init 96 = .ok (.newarray .int, 2) := dk_188_10 (dk_at dksX2_init_4 3 rfl rfl)
theorem dX2_init_98 : decode cX2_init 98 = .ok (.putfield 46, 3) := dk_181 0 46 (dk_at dksX2_init_4 5 rfl rfl)
theorem dX2_init_101 : decode cX2_init 101 = .ok (.aload_n 0, 1) := dk_42 (dk_at dksX2_init_4 8 rfl rfl)
theorem dX2_init_102 : decode cX2_init 102 = .ok (.bipush 8, 2) := dk_16 8 (dk_at dksX2_init_4 9 rfl rfl)
theorem dX2_init_104 : decode cX2_init 104 = .ok (.newarray .int, 2) := dk_188_10 (dk_at dksX2_init_4 11 rfl rfl)
theorem dX2_init_106 : decode cX2_init 106 = .ok (.putfield 49, 3) := dk_181 0 49 (dk_at dksX2_init_4 13 rfl rfl)
theorem dX2_init_109 : decode cX2_init 109 = .ok (.aload_n 0, 1) := dk_42 (dk_at dksX2_init_4 16 rfl rfl)
theorem dX2_init_110 : decode cX2_init 110 = .ok (.bipush 8, 2) := dk_16 8 (dk_at dksX2_init_4 17 rfl rfl)
theorem dX2_init_112 : decode cX2_init 112 = .ok (.newarray .int, 2) := dk_188_10 (dk_at dksX2_init_4 19 rfl rfl)
theorem dX2_init_114 : decode cX2_init 114 = .ok (.putfield 52, 3) := dk_181 0 52 (dk_at dksX2_init_4 21 rfl rfl)
theorem dX2_init_117 : decode cX2_init 117 = .ok (.aload_n 0, 1) := dk_42 (dk_at dksX2_init_5 0 rfl rfl)
theorem dX2_init_118 : decode cX2_init 118 = .ok (.bipush 8, 2) := dk_16 8 (dk_at dksX2_init_5 1 rfl rfl)
theorem dX2_init_120 : decode cX2_init 120 = .ok (.bipush 8, 2) := dk_16 8 (dk_at dksX2_init_5 3 rfl rfl)
theorem dX2_init_122 : decode cX2_init 122 = .ok (.multianewarray 55 2, 4) := by decide +kernel
theorem dX2_init_126 : decode cX2_init 126 = .ok (.putfield 57, 3) := dk_181 0 57 (dk_at dksX2_init_5 9 rfl rfl)
theorem dX2_init_129 : decode cX2_init 129 = .ok (.aload_n 0, 1) := dk_42 (dk_at dksX2_init_5 12 rfl rfl)
theorem dX2_init_130 : decode cX2_init 130 = .ok (.bipush 60, 2) := dk_16 60 (dk_at dksX2_init_5 13 rfl rfl)
theorem dX2_init_132 : decode cX2_init 132 = .ok (.newarray .int, 2) := dk_188_10 (dk_at dksX2_init_5 15 rfl rfl)
theorem dX2_init_134 : decode cX2_init 134 = .ok (.putfield 60, 3) := dk_181 0 60 (dk_at dksX2_init_5 17 rfl rfl)
theorem dX2_init_137 : decode cX2_init 137 = .ok (.aload_n 0, 1) := dk_42 (dk_at dksX2_init_5 20 rfl rfl)
theorem dX2_init_138 : decode cX2_init 138 = .ok (.bipush 60, 2) := dk_16 60 (dk_at dksX2_init_5 21 rfl rfl)
theorem dX2_init_140 : decode cX2_init 140 = .ok (.newarray .int, 2) := dk_188_10 (dk_at dksX2_init_6 0 rfl rfl)
theorem dX2_init_142 : decode cX2_init 142 = .ok (.putfield 63, 3) := dk_181 0 63 (dk_at dksX2_init_6 2 rfl rfl)
theorem dX2_init_145 : decode cX2_init 145 = .ok (.aload_n 0, 1) := dk_42 (dk_at dksX2_init_6 5 rfl rfl)
theorem dX2_init_146 : decode cX2_init 146 = .ok (.bipush 60, 2) := dk_16 60 (dk_at dksX2_init_6 6 rfl rfl)
theorem dX2_init_148 : decode cX2_init 148 = .ok (.newarray .int, 2) := dk_188_10 (dk_at dksX2_init_6 8 rfl rfl)
theorem dX2_init_150 : decode cX2_init 150 = .ok (.putfield 66, 3) := dk_181 0 66 (dk_at dksX2_init_6 10 rfl rfl)
theorem dX2_init_153 : decode cX2_init 153 = .ok (.return_, 1) := dk_177 (dk_at dksX2_init_6 13 rfl rfl)
abbrev cX2_start : ByteArray := prog_3_method_2_code
def yX2_start : MethodName := ⟨RX2, "start", "()V"⟩
def dkwX2_start_5 : List UInt8 := [3, 18, 88, 182, 0, 89, 79, 177]
abbrev dktX2_start_5 : List UInt8 := dkwX2_start_5 ++ []
def dkwX2_start_4 : List UInt8 := [184, 0, 79, 42, 180, 0, 20, 3, 182, 0, 85, 42, 180, 0, 46, 3, 3, 79, 42, 180, 0, 43, 3, 42]
abbrev dktX2_start_4 : List UInt8 := dkwX2_start_4 ++ dktX2_start_5
def dkwX2_start_3 : List UInt8 := [42, 180, 0, 49, 16, 247, 184, 0, 79, 42, 180, 0, 43, 16, 247, 184, 0, 79, 42, 180, 0, 46, 16, 247]
abbrev dktX2_start_3 : List UInt8 := dkwX2_start_3 ++ dktX2_start_4
def dkwX2_start_2 : List UInt8 := [180, 0, 37, 3, 184, 0, 79, 42, 180, 0, 40, 3, 184, 0, 79, 42, 180, 0, 33, 16, 247, 184, 0, 79]
abbrev dktX2_start_2 : List UInt8 := dkwX2_start_2 ++ dktX2_start_3
def dkwX2_start_1 : List UInt8 := [182, 0, 73, 42, 180, 0, 30, 182, 0, 73, 42, 3, 181, 0, 76, 42, 180, 0, 52, 3, 184, 0, 79, 42]
abbrev dktX2_start_1 : List UInt8 := dkwX2_start_1 ++ dktX2_start_2
def dkwX2_start_0 : List UInt8 := [42, 3, 181, 0, 69, 42, 180, 0, 20, 182, 0, 73, 42, 180, 0, 24, 182, 0, 73, 42, 180, 0, 27]
abbrev dktX2_start_0 : List UInt8 := dkwX2_start_0 ++ dktX2_start_1
theorem dksX2_start_0 : cX2_start.data.toList.drop 0 = dktX2_start_0 := by decide +kernel
theorem dksX2_start_1 : cX2_start.data.toList.drop 23 = dktX2_start_1 := dk_seg dksX2_start_0 23 rfl rfl
theorem dksX2_start_2 : cX2_start.data.toList.drop 47 = dktX2_start_2 := dk_seg dksX2_start_1 24 rfl rfl
theorem dksX2_start_3 : cX2_start.data.toList.drop 71 = dktX2_start_3 := dk_seg dksX2_start_2 24 rfl rfl
theorem dksX2_start_4 : cX2_start.data.toList.drop 95 = dktX2_start_4 := dk_seg dksX2_start_3 24 rfl rfl
theorem dksX2_start_5 : cX2_start.data.toList.drop 119 = dktX2_start_5 := dk_seg dksX2_start_4 24 rfl rfl
theorem dX2_start_0 : decode cX2_start 0 = .ok (.aload_n 0, 1) := dk_42 (dk_at dksX2_start_0 0 rfl rfl)
theorem dX2_start_1 : decode cX2_start 1 = .ok (.iconst 0, 1) := dk_3 (dk_at dksX2_start_0 1 rfl rfl)
theorem dX2_start_2 : decode cX2_start 2 = .ok (.putfield 69, 3) := dk_181 0 69 (dk_at dksX2_start_0 2 rfl rfl)
theorem dX2_start_5 : decode cX2_start 5 = .ok (.aload_n 0, 1) := dk_42 (dk_at dksX2_start_0 5 rfl rfl)
theorem dX2_start_6 : decode cX2_start 6 = .ok (.getfield 20, 3) := dk_180 0 20 (dk_at dksX2_start_0 6 rfl rfl)
theorem dX2_start_9 : decode cX2_start 9 = .ok (.invokevirtual 73, 3) := dk_182 0 73 (dk_at dksX2_start_0 9 rfl rfl)
theorem dX2_start_12 : decode cX2_start 12 = .ok (.aload_n 0, 1) := dk_42 (dk_at dksX2_start_0 12 rfl rfl)
theorem dX2_start_13 : decode cX2_start 13 = .ok (.getfield 24, 3) := dk_180 0 24 (dk_at dksX2_start_0 13 rfl rfl)
theorem dX2_start_16 : decode cX2_start 16 = .ok (.invokevirtual 73, 3) := dk_182 0 73 (dk_at dksX2_start_0 16 rfl rfl)
theorem dX2_start_19 : decode cX2_start 19 = .ok (.aload_n 0, 1) := dk_42 (dk_at dksX2_start_0 19 rfl rfl)
theorem dX2_start_20 : decode cX2_start 20 = .ok (.getfield 27, 3) := dk_180 0 27 (dk_at dksX2_start_0 20 rfl rfl)
theorem dX2_start_23 : decode cX2_start 23 = .ok (.invokevirtual 73, 3) := dk_182 0 73 (dk_at dksX2_start_1 0 rfl rfl)
theorem dX2_start_26 : decode cX2_start 26 = .ok (.aload_n 0, 1) := dk_42 (dk_at dksX2_start_1 3 rfl rfl)
theorem dX2_start_27 : decode cX2_start 27 = .ok (.getfield 30, 3) := dk_180 0 30 (dk_at dksX2_start_1 4 rfl rfl)
theorem dX2_start_30 : decode cX2_start 30 = .ok (.invokevirtual 73, 3) := dk_182 0 73 (dk_at dksX2_start_1 7 rfl rfl)
theorem dX2_start_33 : decode cX2_start 33 = .ok (.aload_n 0, 1) := dk_42 (dk_at dksX2_start_1 10 rfl rfl)
theorem dX2_start_34 : decode cX2_start 34 = .ok (.iconst 0, 1) := dk_3 (dk_at dksX2_start_1 11 rfl rfl)
theorem dX2_start_35 : decode cX2_start 35 = .ok (.putfield 76, 3) := dk_181 0 76 (dk_at dksX2_start_1 12 rfl rfl)
theorem dX2_start_38 : decode cX2_start 38 = .ok (.aload_n 0, 1) := dk_42 (dk_at dksX2_start_1 15 rfl rfl)
theorem dX2_start_39 : decode cX2_start 39 = .ok (.getfield 52, 3) := dk_180 0 52 (dk_at dksX2_start_1 16 rfl rfl)
theorem dX2_start_42 : decode cX2_start 42 = .ok (.iconst 0, 1) := dk_3 (dk_at dksX2_start_1 19 rfl rfl)
theorem dX2_start_43 : decode cX2_start 43 = .ok (.invokestatic 79, 3) := dk_184 0 79 (dk_at dksX2_start_1 20 rfl rfl)
theorem dX2_start_46 : decode cX2_start 46 = .ok (.aload_n 0, 1) := dk_42 (dk_at dksX2_start_1 23 rfl rfl)
theorem dX2_start_47 : decode cX2_start 47 = .ok (.getfield 37, 3) := dk_180 0 37 (dk_at dksX2_start_2 0 rfl rfl)
theorem dX2_start_50 : decode cX2_start 50 = .ok (.iconst 0, 1) := dk_3 (dk_at dksX2_start_2 3 rfl rfl)
theorem dX2_start_51 : decode cX2_start 51 = .ok (.invokestatic 79, 3) := dk_184 0 79 (dk_at dksX2_start_2 4 rfl rfl)
theorem dX2_start_54 : decode cX2_start 54 = .ok (.aload_n 0, 1) := dk_42 (dk_at dksX2_start_2 7 rfl rfl)
theorem dX2_start_55 : decode cX2_start 55 = .ok (.getfield 40, 3) := dk_180 0 40 (dk_at dksX2_start_2 8 rfl rfl)
theorem dX2_start_58 : decode cX2_start 58 = .ok (.iconst 0, 1) := dk_3 (dk_at dksX2_start_2 11 rfl rfl)
theorem dX2_start_59 : decode cX2_start 59 = .ok (.invokestatic 79, 3) := dk_184 0 79 (dk_at dksX2_start_2 12 rfl rfl)
theorem dX2_start_62 : decode cX2_start 62 = .ok (.aload_n 0, 1) := dk_42 (dk_at dksX2_start_2 15 rfl rfl)
theorem dX2_start_63 : decode cX2_start 63 = .ok (.getfield 33, 3) := dk_180 0 33 (dk_at dksX2_start_2 16 rfl rfl)
theorem dX2_start_66 : decode cX2_start 66 = .ok (.bipush (-9), 2) := dk_16 247 (dk_at dksX2_start_2 19 rfl rfl)
theorem dX2_start_68 : decode cX2_start 68 = .ok (.invokestatic 79, 3) := dk_184 0 79 (dk_at dksX2_start_2 21 rfl rfl)
theorem dX2_start_71 : decode cX2_start 71 = .ok (.aload_n 0, 1) := dk_42 (dk_at dksX2_start_3 0 rfl rfl)
theorem dX2_start_72 : decode cX2_start 72 = .ok (.getfield 49, 3) := dk_180 0 49 (dk_at dksX2_start_3 1 rfl rfl)
theorem dX2_start_75 : decode cX2_start 75 = .ok (.bipush (-9), 2) := dk_16 247 (dk_at dksX2_start_3 4 rfl rfl)
theorem dX2_start_77 : decode cX2_start 77 = .ok (.invokestatic 79, 3) := dk_184 0 79 (dk_at dksX2_start_3 6 rfl rfl)
theorem dX2_start_80 : decode cX2_start 80 = .ok (.aload_n 0, 1) := dk_42 (dk_at dksX2_start_3 9 rfl rfl)
theorem dX2_start_81 : decode cX2_start 81 = .ok (.getfield 43, 3) := dk_180 0 43 (dk_at dksX2_start_3 10 rfl rfl)
theorem dX2_start_84 : decode cX2_start 84 = .ok (.bipush (-9), 2) := dk_16 247 (dk_at dksX2_start_3 13 rfl rfl)
theorem dX2_start_86 : decode cX2_start 86 = .ok (.invokestatic 79, 3) := dk_184 0 79 (dk_at dksX2_start_3 15 rfl rfl)
theorem dX2_start_89 : decode cX2_start 89 = .ok (.aload_n 0, 1) := dk_42 (dk_at dksX2_start_3 18 rfl rfl)
theorem dX2_start_90 : decode cX2_start 90 = .ok (.getfield 46, 3) := dk_180 0 46 (dk_at dksX2_start_3 19 rfl rfl)
theorem dX2_start_93 : decode cX2_start 93 = .ok (.bipush (-9), 2) := dk_16 247 (dk_at dksX2_start_3 22 rfl rfl)
theorem dX2_start_95 : decode cX2_start 95 = .ok (.invokestatic 79, 3) := dk_184 0 79 (dk_at dksX2_start_4 0 rfl rfl)
theorem dX2_start_98 : decode cX2_start 98 = .ok (.aload_n 0, 1) := dk_42 (dk_at dksX2_start_4 3 rfl rfl)
theorem dX2_start_99 : decode cX2_start 99 = .ok (.getfield 20, 3) := dk_180 0 20 (dk_at dksX2_start_4 4 rfl rfl)
theorem dX2_start_102 : decode cX2_start 102 = .ok (.iconst 0, 1) := dk_3 (dk_at dksX2_start_4 7 rfl rfl)
theorem dX2_start_103 : decode cX2_start 103 = .ok (.invokevirtual 85, 3) := dk_182 0 85 (dk_at dksX2_start_4 8 rfl rfl)
theorem dX2_start_106 : decode cX2_start 106 = .ok (.aload_n 0, 1) := dk_42 (dk_at dksX2_start_4 11 rfl rfl)
theorem dX2_start_107 : decode cX2_start 107 = .ok (.getfield 46, 3) := dk_180 0 46 (dk_at dksX2_start_4 12 rfl rfl)
theorem dX2_start_110 : decode cX2_start 110 = .ok (.iconst 0, 1) := dk_3 (dk_at dksX2_start_4 15 rfl rfl)
theorem dX2_start_111 : decode cX2_start 111 = .ok (.iconst 0, 1) := dk_3 (dk_at dksX2_start_4 16 rfl rfl)
theorem dX2_start_112 : decode cX2_start 112 = .ok (.iastore, 1) := dk_79 (dk_at dksX2_start_4 17 rfl rfl)
theorem dX2_start_113 : decode cX2_start 113 = .ok (.aload_n 0, 1) := dk_42 (dk_at dksX2_start_4 18 rfl rfl)
theorem dX2_start_114 : decode cX2_start 114 = .ok (.getfield 43, 3) := dk_180 0 43 (dk_at dksX2_start_4 19 rfl rfl)
theorem dX2_start_117 : decode cX2_start 117 = .ok (.iconst 0, 1) := dk_3 (dk_at dksX2_start_4 22 rfl rfl)
theorem dX2_start_118 : decode cX2_start 118 = .ok (.aload_n 0, 1) := dk_42 (dk_at dksX2_start_4 23 rfl rfl)
theorem dX2_start_119 : decode cX2_start 119 = .ok (.iconst 0, 1) := dk_3 (dk_at dksX2_start_5 0 rfl rfl)
theorem dX2_start_120 : decode cX2_start 120 = .ok (.ldc 88, 2) := dk_18 88 (dk_at dksX2_start_5 1 rfl rfl)
theorem dX2_start_122 : decode cX2_start 122 = .ok (.invokevirtual 89, 3) := dk_182 0 89 (dk_at dksX2_start_5 3 rfl rfl)
theorem dX2_start_125 : decode cX2_start 125 = .ok (.iastore, 1) := dk_79 (dk_at dksX2_start_5 6 rfl rfl)
theorem dX2_start_126 : decode cX2_start 126 = .ok (.return_, 1) := dk_177 (dk_at dksX2_start_5 7 rfl rfl)
abbrev cX2_dueOf : ByteArray := prog_3_method_5_code
def yX2_dueOf : MethodName := ⟨RX2, "dueOf", "(II)I"⟩
def dkwX2_dueOf_1 : List UInt8 := [167, 0, 9, 42, 180, 0, 69, 29, 96, 184, 0, 116, 172]
abbrev dktX2_dueOf_1 : List UInt8 := dkwX2_dueOf_1 ++ []
def dkwX2_dueOf_0 : List UInt8 := [42, 180, 0, 3, 180, 0, 107, 180, 0, 111, 27, 46, 62, 28, 29, 16, 99, 160, 0, 8, 18, 88]
abbrev dktX2_dueOf_0 : List UInt8 := dkwX2_dueOf_0 ++ dktX2_dueOf_1
theorem dksX2_dueOf_0 : cX2_dueOf.data.toList.drop 0 = dktX2_dueOf_0 := by decide +kernel
theorem dksX2_dueOf_1 : cX2_dueOf.data.toList.drop 22 = dktX2_dueOf_1 := dk_seg dksX2_dueOf_0 22 rfl rfl
theorem dX2_dueOf_0 : decode cX2_dueOf 0 = .ok (.aload_n 0, 1) := dk_42 (dk_at dksX2_dueOf_0 0 rfl rfl)
theorem dX2_dueOf_1 : decode cX2_dueOf 1 = .ok (.getfield 3, 3) := dk_180 0 3 (dk_at dksX2_dueOf_0 1 rfl rfl)
theorem dX2_dueOf_4 : decode cX2_dueOf 4 = .ok (.getfield 107, 3) := dk_180 0 107 (dk_at dksX2_dueOf_0 4 rfl rfl)
theorem dX2_dueOf_7 : decode cX2_dueOf 7 = .ok (.getfield 111, 3) := dk_180 0 111 (dk_at dksX2_dueOf_0 7 rfl rfl)
theorem dX2_dueOf_10 : decode cX2_dueOf 10 = .ok (.iload_n 1, 1) := dk_27 (dk_at dksX2_dueOf_0 10 rfl rfl)
theorem dX2_dueOf_11 : decode cX2_dueOf 11 = .ok (.iaload, 1) := dk_46 (dk_at dksX2_dueOf_0 11 rfl rfl)
theorem dX2_dueOf_12 : decode cX2_dueOf 12 = .ok (.istore_n 3, 1) := dk_62 (dk_at dksX2_dueOf_0 12 rfl rfl)
theorem dX2_dueOf_13 : decode cX2_dueOf 13 = .ok (.iload_n 2, 1) := dk_28 (dk_at dksX2_dueOf_0 13 rfl rfl)
theorem dX2_dueOf_14 : decode cX2_dueOf 14 = .ok (.iload_n 3, 1) := dk_29 (dk_at dksX2_dueOf_0 14 rfl rfl)
theorem dX2_dueOf_15 : decode cX2_dueOf 15 = .ok (.bipush 99, 2) := dk_16 99 (dk_at dksX2_dueOf_0 15 rfl rfl)
theorem dX2_dueOf_17 : decode cX2_dueOf 17 = .ok (.if_icmp .ne 8, 3) := dk_160 0 8 (dk_at dksX2_dueOf_0 17 rfl rfl)
theorem dX2_dueOf_20 : decode cX2_dueOf 20 = .ok (.ldc 88, 2) := dk_18 88 (dk_at dksX2_dueOf_0 20 rfl rfl)
theorem dX2_dueOf_22 : decode cX2_dueOf 22 = .ok (.goto 9, 3) := dk_167 0 9 (dk_at dksX2_dueOf_1 0 rfl rfl)
theorem dX2_dueOf_25 : decode cX2_dueOf 25 = .ok (.aload_n 0, 1) := dk_42 (dk_at dksX2_dueOf_1 3 rfl rfl)
theorem dX2_dueOf_26 : decode cX2_dueOf 26 = .ok (.getfield 69, 3) := dk_180 0 69 (dk_at dksX2_dueOf_1 4 rfl rfl)
theorem dX2_dueOf_29 : decode cX2_dueOf 29 = .ok (.iload_n 3, 1) := dk_29 (dk_at dksX2_dueOf_1 7 rfl rfl)
theorem dX2_dueOf_30 : decode cX2_dueOf 30 = .ok (.iadd, 1) := dk_96 (dk_at dksX2_dueOf_1 8 rfl rfl)
theorem dX2_dueOf_31 : decode cX2_dueOf 31 = .ok (.invokestatic 116, 3) := dk_184 0 116 (dk_at dksX2_dueOf_1 9 rfl rfl)
theorem dX2_dueOf_34 : decode cX2_dueOf 34 = .ok (.ireturn, 1) := dk_172 (dk_at dksX2_dueOf_1 12 rfl rfl)
abbrev cX2_isOver : ByteArray := prog_3_method_17_code
def yX2_isOver : MethodName := ⟨RX2, "isOver", "()Z"⟩
def dkwX2_isOver_0 : List UInt8 := [42, 180, 0, 27, 3, 182, 0, 103, 172]
abbrev dktX2_isOver_0 : List UInt8 := dkwX2_isOver_0 ++ []
theorem dksX2_isOver_0 : cX2_isOver.data.toList.drop 0 = dktX2_isOver_0 := by decide +kernel
theorem dX2_isOver_0 : decode cX2_isOver 0 = .ok (.aload_n 0, 1) := dk_42 (dk_at dksX2_isOver_0 0 rfl rfl)
theorem dX2_isOver_1 : decode cX2_isOver 1 = .ok (.getfield 27, 3) := dk_180 0 27 (dk_at dksX2_isOver_0 1 rfl rfl)
theorem dX2_isOver_4 : decode cX2_isOver 4 = .ok (.iconst 0, 1) := dk_3 (dk_at dksX2_isOver_0 4 rfl rfl)
theorem dX2_isOver_5 : decode cX2_isOver 5 = .ok (.invokevirtual 103, 3) := dk_182 0 103 (dk_at dksX2_isOver_0 5 rfl rfl)
theorem dX2_isOver_8 : decode cX2_isOver 8 = .ok (.ireturn, 1) := dk_172 (dk_at dksX2_isOver_0 8 rfl rfl)
abbrev cX2_copyOf : ByteArray := prog_3_method_3_code
def yX2_copyOf : MethodName := ⟨RX2, "copyOf", "(LScopeTasks$Run;)LScopeTasks$Run;"⟩
def dkwX2_copyOf_11 : List UInt8 := [16, 60, 184, 0, 97, 42, 43, 180, 0, 76, 181, 0, 76, 42, 176]
abbrev dktX2_copyOf_11 : List UInt8 := dkwX2_copyOf_11 ++ []
def dkwX2_copyOf_10 : List UInt8 := [180, 0, 63, 3, 42, 180, 0, 63, 3, 16, 60, 184, 0, 97, 43, 180, 0, 66, 3, 42, 180, 0, 66, 3]
abbrev dktX2_copyOf_10 : List UInt8 := dkwX2_copyOf_10 ++ dktX2_copyOf_11
def dkwX2_copyOf_9 : List UInt8 := [132, 2, 1, 167, 255, 228, 43, 180, 0, 60, 3, 42, 180, 0, 60, 3, 16, 60, 184, 0, 97, 43]
abbrev dktX2_copyOf_9 : List UInt8 := dkwX2_copyOf_9 ++ dktX2_copyOf_10
def dkwX2_copyOf_8 : List UInt8 := [16, 8, 162, 0, 28, 43, 180, 0, 57, 28, 50, 3, 42, 180, 0, 57, 28, 50, 3, 16, 8, 184, 0, 97]
abbrev dktX2_copyOf_8 : List UInt8 := dkwX2_copyOf_8 ++ dktX2_copyOf_9
def dkwX2_copyOf_7 : List UInt8 := [3, 16, 8, 184, 0, 97, 43, 180, 0, 52, 3, 42, 180, 0, 52, 3, 16, 8, 184, 0, 97, 3, 61, 28]
abbrev dktX2_copyOf_7 : List UInt8 := dkwX2_copyOf_7 ++ dktX2_copyOf_8
def dkwX2_copyOf_6 : List UInt8 := [43, 180, 0, 46, 3, 42, 180, 0, 46, 3, 16, 8, 184, 0, 97, 43, 180, 0, 49, 3, 42, 180, 0, 49]
abbrev dktX2_copyOf_6 : List UInt8 := dkwX2_copyOf_6 ++ dktX2_copyOf_7
def dkwX2_copyOf_5 : List UInt8 := [180, 0, 40, 3, 16, 8, 184, 0, 97, 43, 180, 0, 43, 3, 42, 180, 0, 43, 3, 16, 8, 184, 0, 97]
abbrev dktX2_copyOf_5 : List UInt8 := dkwX2_copyOf_5 ++ dktX2_copyOf_6
def dkwX2_copyOf_4 : List UInt8 := [184, 0, 97, 43, 180, 0, 37, 3, 42, 180, 0, 37, 3, 16, 8, 184, 0, 97, 43, 180, 0, 40, 3, 42]
abbrev dktX2_copyOf_4 : List UInt8 := dkwX2_copyOf_4 ++ dktX2_copyOf_5
def dkwX2_copyOf_3 : List UInt8 := [42, 180, 0, 30, 43, 180, 0, 30, 182, 0, 93, 43, 180, 0, 33, 3, 42, 180, 0, 33, 3, 16, 8]
abbrev dktX2_copyOf_3 : List UInt8 := dkwX2_copyOf_3 ++ dktX2_copyOf_4
def dkwX2_copyOf_2 : List UInt8 := [180, 0, 27, 182, 0, 73, 42, 180, 0, 27, 43, 180, 0, 27, 182, 0, 93, 42, 180, 0, 30, 182, 0, 73]
abbrev dktX2_copyOf_2 : List UInt8 := dkwX2_copyOf_2 ++ dktX2_copyOf_3
def dkwX2_copyOf_1 : List UInt8 := [182, 0, 93, 42, 180, 0, 24, 182, 0, 73, 42, 180, 0, 24, 43, 180, 0, 24, 182, 0, 93, 42]
abbrev dktX2_copyOf_1 : List UInt8 := dkwX2_copyOf_1 ++ dktX2_copyOf_2
def dkwX2_copyOf_0 : List UInt8 := [42, 43, 180, 0, 69, 181, 0, 69, 42, 180, 0, 20, 182, 0, 73, 42, 180, 0, 20, 43, 180, 0, 20]
abbrev dktX2_copyOf_0 : List UInt8 := dkwX2_copyOf_0 ++ dktX2_copyOf_1
theorem dksX2_copyOf_0 : cX2_copyOf.data.toList.drop 0 = dktX2_copyOf_0 := by decide +kernel
theorem dksX2_copyOf_1 : cX2_copyOf.data.toList.drop 23 = dktX2_copyOf_1 := dk_seg dksX2_copyOf_0 23 rfl rfl
theorem dksX2_copyOf_2 : cX2_copyOf.data.toList.drop 45 = dktX2_copyOf_2 := dk_seg dksX2_copyOf_1 22 rfl rfl
theorem dksX2_copyOf_3 : cX2_copyOf.data.toList.drop 69 = dktX2_copyOf_3 := dk_seg dksX2_copyOf_2 24 rfl rfl
theorem dksX2_copyOf_4 : cX2_copyOf.data.toList.drop 92 = dktX2_copyOf_4 := dk_seg dksX2_copyOf_3 23 rfl rfl
theorem dksX2_copyOf_5 : cX2_copyOf.data.toList.drop 116 = dktX2_copyOf_5 := dk_seg dksX2_copyOf_4 24 rfl rfl
theorem dksX2_copyOf_6 : cX2_copyOf.data.toList.drop 140 = dktX2_copyOf_6 := dk_seg dksX2_copyOf_5 24 rfl rfl
theorem dksX2_copyOf_7 : cX2_copyOf.data.toList.drop 164 = dktX2_copyOf_7 := dk_seg dksX2_copyOf_6 24 rfl rfl
theorem dksX2_copyOf_8 : cX2_copyOf.data.toList.drop 188 = dktX2_copyOf_8 := dk_seg dksX2_copyOf_7 24 rfl rfl
theorem dksX2_copyOf_9 : cX2_copyOf.data.toList.drop 212 = dktX2_copyOf_9 := dk_seg dksX2_copyOf_8 24 rfl rfl
theorem dksX2_copyOf_10 : cX2_copyOf.data.toList.drop 234 = dktX2_copyOf_10 := dk_seg dksX2_copyOf_9 22 rfl rfl
theorem dksX2_copyOf_11 : cX2_copyOf.data.toList.drop 258 = dktX2_copyOf_11 := dk_seg dksX2_copyOf_10 24 rfl rfl
theorem dX2_copyOf_0 : decode cX2_copyOf 0 = .ok (.aload_n 0, 1) := dk_42 (dk_at dksX2_copyOf_0 0 rfl rfl)
theorem dX2_copyOf_1 : decode cX2_copyOf 1 = .ok (.aload_n 1, 1) := dk_43 (dk_at dksX2_copyOf_0 1 rfl rfl)
theorem dX2_copyOf_2 : decode cX2_copyOf 2 = .ok (.getfield 69, 3) := dk_180 0 69 (dk_at dksX2_copyOf_0 2 rfl rfl)
theorem dX2_copyOf_5 : decode cX2_copyOf 5 = .ok (.putfield 69, 3) := dk_181 0 69 (dk_at dksX2_copyOf_0 5 rfl rfl)
theorem dX2_copyOf_8 : decode cX2_copyOf 8 = .ok (.aload_n 0, 1) := dk_42 (dk_at dksX2_copyOf_0 8 rfl rfl)
theorem dX2_copyOf_9 : decode cX2_copyOf 9 = .ok (.getfield 20, 3) := dk_180 0 20 (dk_at dksX2_copyOf_0 9 rfl rfl)
theorem dX2_copyOf_12 : decode cX2_copyOf 12 = .ok (.invokevirtual 73, 3) := dk_182 0 73 (dk_at dksX2_copyOf_0 12 rfl rfl)
theorem dX2_copyOf_15 : decode cX2_copyOf 15 = .ok (.aload_n 0, 1) := dk_42 (dk_at dksX2_copyOf_0 15 rfl rfl)
theorem dX2_copyOf_16 : decode cX2_copyOf 16 = .ok (.getfield 20, 3) := dk_180 0 20 (dk_at dksX2_copyOf_0 16 rfl rfl)
theorem dX2_copyOf_19 : decode cX2_copyOf 19 = .ok (.aload_n 1, 1) := dk_43 (dk_at dksX2_copyOf_0 19 rfl rfl)
theorem dX2_copyOf_20 : decode cX2_copyOf 20 = .ok (.getfield 20, 3) := dk_180 0 20 (dk_at dksX2_copyOf_0 20 rfl rfl)
theorem dX2_copyOf_23 : decode cX2_copyOf 23 = .ok (.invokevirtual 93, 3) := dk_182 0 93 (dk_at dksX2_copyOf_1 0 rfl rfl)
theorem dX2_copyOf_26 : decode cX2_copyOf 26 = .ok (.aload_n 0, 1) := dk_42 (dk_at dksX2_copyOf_1 3 rfl rfl)
theorem dX2_copyOf_27 : decode cX2_copyOf 27 = .ok (.getfield 24, 3) := dk_180 0 24 (dk_at dksX2_copyOf_1 4 rfl rfl)
theorem dX2_copyOf_30 : decode cX2_copyOf 30 = .ok (.invokevirtual 73, 3) := dk_182 0 73 (dk_at dksX2_copyOf_1 7 rfl rfl)
theorem dX2_copyOf_33 : decode cX2_copyOf 33 = .ok (.aload_n 0, 1) := dk_42 (dk_at dksX2_copyOf_1 10 rfl rfl)
theorem dX2_copyOf_34 : decode cX2_copyOf 34 = .ok (.getfield 24, 3) := dk_180 0 24 (dk_at dksX2_copyOf_1 11 rfl rfl)
theorem dX2_copyOf_37 : decode cX2_copyOf 37 = .ok (.aload_n 1, 1) := dk_43 (dk_at dksX2_copyOf_1 14 rfl rfl)
theorem dX2_copyOf_38 : decode cX2_copyOf 38 = .ok (.getfield 24, 3) := dk_180 0 24 (dk_at dksX2_copyOf_1 15 rfl rfl)
theorem dX2_copyOf_41 : decode cX2_copyOf 41 = .ok (.invokevirtual 93, 3) := dk_182 0 93 (dk_at dksX2_copyOf_1 18 rfl rfl)
theorem dX2_copyOf_44 : decode cX2_copyOf 44 = .ok (.aload_n 0, 1) := dk_42 (dk_at dksX2_copyOf_1 21 rfl rfl)
theorem dX2_copyOf_45 : decode cX2_copyOf 45 = .ok (.getfield 27, 3) := dk_180 0 27 (dk_at dksX2_copyOf_2 0 rfl rfl)
theorem dX2_copyOf_48 : decode cX2_copyOf 48 = .ok (.invokevirtual 73, 3) := dk_182 0 73 (dk_at dksX2_copyOf_2 3 rfl rfl)
theorem dX2_copyOf_51 : decode cX2_copyOf 51 = .ok (.aload_n 0, 1) := dk_42 (dk_at dksX2_copyOf_2 6 rfl rfl)
theorem dX2_copyOf_52 : decode cX2_copyOf 52 = .ok (.getfield 27, 3) := dk_180 0 27 (dk_at dksX2_copyOf_2 7 rfl rfl)
theorem dX2_copyOf_55 : decode cX2_copyOf 55 = .ok (.aload_n 1, 1) := dk_43 (dk_at dksX2_copyOf_2 10 rfl rfl)
theorem dX2_copyOf_56 : decode cX2_copyOf 56 = .ok (.getfield 27, 3) := dk_180 0 27 (dk_at dksX2_copyOf_2 11 rfl rfl)
theorem dX2_copyOf_59 : decode cX2_copyOf 59 = .ok (.invokevirtual 93, 3) := dk_182 0 93 (dk_at dksX2_copyOf_2 14 rfl rfl)
theorem dX2_copyOf_62 : decode cX2_copyOf 62 = .ok (.aload_n 0, 1) := dk_42 (dk_at dksX2_copyOf_2 17 rfl rfl)
theorem dX2_copyOf_63 : decode cX2_copyOf 63 = .ok (.getfield 30, 3) := dk_180 0 30 (dk_at dksX2_copyOf_2 18 rfl rfl)
theorem dX2_copyOf_66 : decode cX2_copyOf 66 = .ok (.invokevirtual 73, 3) := dk_182 0 73 (dk_at dksX2_copyOf_2 21 rfl rfl)
theorem dX2_copyOf_69 : decode cX2_copyOf 69 = .ok (.aload_n 0, 1) := dk_42 (dk_at dksX2_copyOf_3 0 rfl rfl)
theorem dX2_copyOf_70 : decode cX2_copyOf 70 = .ok (.getfield 30, 3) := dk_180 0 30 (dk_at dksX2_copyOf_3 1 rfl rfl)
theorem dX2_copyOf_73 : decode cX2_copyOf 73 = .ok (.aload_n 1, 1) := dk_43 (dk_at dksX2_copyOf_3 4 rfl rfl)
theorem dX2_copyOf_74 : decode cX2_copyOf 74 = .ok (.getfield 30, 3) := dk_180 0 30 (dk_at dksX2_copyOf_3 5 rfl rfl)
theorem dX2_copyOf_77 : decode cX2_copyOf 77 = .ok (.invokevirtual 93, 3) := dk_182 0 93 (dk_at dksX2_copyOf_3 8 rfl rfl)
theorem dX2_copyOf_80 : decode cX2_copyOf 80 = .ok (.aload_n 1, 1) := dk_43 (dk_at dksX2_copyOf_3 11 rfl rfl)
theorem dX2_copyOf_81 : decode cX2_copyOf 81 = .ok (.getfield 33, 3) := dk_180 0 33 (dk_at dksX2_copyOf_3 12 rfl rfl)
theorem dX2_copyOf_84 : decode cX2_copyOf 84 = .ok (.iconst 0, 1) := dk_3 (dk_at dksX2_copyOf_3 15 rfl rfl)
theorem dX2_copyOf_85 : decode cX2_copyOf 85 = .ok (.aload_n 0, 1) := dk_42 (dk_at dksX2_copyOf_3 16 rfl rfl)
theorem dX2_copyOf_86 : decode cX2_copyOf 86 = .ok (.getfield 33, 3) := dk_180 0 33 (dk_at dksX2_copyOf_3 17 rfl rfl)
theorem dX2_copyOf_89 : decode cX2_copyOf 89 = .ok (.iconst 0, 1) := dk_3 (dk_at dksX2_copyOf_3 20 rfl rfl)
theorem dX2_copyOf_90 : decode cX2_copyOf 90 = .ok (.bipush 8, 2) := dk_16 8 (dk_at dksX2_copyOf_3 21 rfl rfl)
theorem dX2_copyOf_92 : decode cX2_copyOf 92 = .ok (.invokestatic 97, 3) := dk_184 0 97 (dk_at dksX2_copyOf_4 0 rfl rfl)
theorem dX2_copyOf_95 : decode cX2_copyOf 95 = .ok (.aload_n 1, 1) := dk_43 (dk_at dksX2_copyOf_4 3 rfl rfl)
theorem dX2_copyOf_96 : decode cX2_copyOf 96 = .ok (.getfield 37, 3) := dk_180 0 37 (dk_at dksX2_copyOf_4 4 rfl rfl)
theorem dX2_copyOf_99 : decode cX2_copyOf 99 = .ok (.iconst 0, 1) := dk_3 (dk_at dksX2_copyOf_4 7 rfl rfl)
theorem dX2_copyOf_100 : decode cX2_copyOf 100 = .ok (.aload_n 0, 1) := dk_42 (dk_at dksX2_copyOf_4 8 rfl rfl)
theorem dX2_copyOf_101 : decode cX2_copyOf 101 = .ok (.getfield 37, 3) := dk_180 0 37 (dk_at dksX2_copyOf_4 9 rfl rfl)
theorem dX2_copyOf_104 : decode cX2_copyOf 104 = .ok (.iconst 0, 1) := dk_3 (dk_at dksX2_copyOf_4 12 rfl rfl)
theorem dX2_copyOf_105 : decode cX2_copyOf 105 = .ok (.bipush 8, 2) := dk_16 8 (dk_at dksX2_copyOf_4 13 rfl rfl)
theorem dX2_copyOf_107 : decode cX2_copyOf 107 = .ok (.invokestatic 97, 3) := dk_184 0 97 (dk_at dksX2_copyOf_4 15 rfl rfl)
theorem dX2_copyOf_110 : decode cX2_copyOf 110 = .ok (.aload_n 1, 1) := dk_43 (dk_at dksX2_copyOf_4 18 rfl rfl)
theorem dX2_copyOf_111 : decode cX2_copyOf 111 = .ok (.getfield 40, 3) := dk_180 0 40 (dk_at dksX2_copyOf_4 19 rfl rfl)
theorem dX2_copyOf_114 : decode cX2_copyOf 114 = .ok (.iconst 0, 1) := dk_3 (dk_at dksX2_copyOf_4 22 rfl rfl)
theorem dX2_copyOf_115 : decode cX2_copyOf 115 = .ok (.aload_n 0, 1) := dk_42 (dk_at dksX2_copyOf_4 23 rfl rfl)
theorem dX2_copyOf_116 : decode cX2_copyOf 116 = .ok (.getfield 40, 3) := dk_180 0 40 (dk_at dksX2_copyOf_5 0 rfl rfl)
theorem dX2_copyOf_119 : decode cX2_copyOf 119 = .ok (.iconst 0, 1) := dk_3 (dk_at dksX2_copyOf_5 3 rfl rfl)
theorem dX2_copyOf_120 : decode cX2_copyOf 120 = .ok (.bipush 8, 2) := dk_16 8 (dk_at dksX2_copyOf_5 4 rfl rfl)
theorem dX2_copyOf_122 : decode cX2_copyOf 122 = .ok (.invokestatic 97, 3) := dk_184 0 97 (dk_at dksX2_copyOf_5 6 rfl rfl)
theorem dX2_copyOf_125 : decode cX2_copyOf 125 = .ok (.aload_n 1, 1) := dk_43 (dk_at dksX2_copyOf_5 9 rfl rfl)
theorem dX2_copyOf_126 : decode cX2_copyOf 126 = .ok (.getfield 43, 3) := dk_180 0 43 (dk_at dksX2_copyOf_5 10 rfl rfl)
theorem dX2_copyOf_129 : decode cX2_copyOf 129 = .ok (.iconst 0, 1) := dk_3 (dk_at dksX2_copyOf_5 13 rfl rfl)
theorem dX2_copyOf_130 : decode cX2_copyOf 130 = .ok (.aload_n 0, 1) := dk_42 (dk_at dksX2_copyOf_5 14 rfl rfl)
theorem dX2_copyOf_131 : decode cX2_copyOf 131 = .ok (.getfield 43, 3) := dk_180 0 43 (dk_at dksX2_copyOf_5 15 rfl rfl)
theorem dX2_copyOf_134 : decode cX2_copyOf 134 = .ok (.iconst 0, 1) := dk_3 (dk_at dksX2_copyOf_5 18 rfl rfl)
theorem dX2_copyOf_135 : decode cX2_copyOf 135 = .ok (.bipush 8, 2) := dk_16 8 (dk_at dksX2_copyOf_5 19 rfl rfl)
theorem dX2_copyOf_137 : decode cX2_copyOf 137 = .ok (.invokestatic 97, 3) := dk_184 0 97 (dk_at dksX2_copyOf_5 21 rfl rfl)
theorem dX2_copyOf_140 : decode cX2_copyOf 140 = .ok (.aload_n 1, 1) := dk_43 (dk_at dksX2_copyOf_6 0 rfl rfl)
theorem dX2_copyOf_141 : decode cX2_copyOf 141 = .ok (.getfield 46, 3) := dk_180 0 46 (dk_at dksX2_copyOf_6 1 rfl rfl)
theorem dX2_copyOf_144 : decode cX2_copyOf 144 = .ok (.iconst 0, 1) := dk_3 (dk_at dksX2_copyOf_6 4 rfl rfl)
theorem dX2_copyOf_145 : decode cX2_copyOf 145 = .ok (.aload_n 0, 1) := dk_42 (dk_at dksX2_copyOf_6 5 rfl rfl)
theorem dX2_copyOf_146 : decode cX2_copyOf 146 = .ok (.getfield 46, 3) := dk_180 0 46 (dk_at dksX2_copyOf_6 6 rfl rfl)
theorem dX2_copyOf_149 : decode cX2_copyOf 149 = .ok (.iconst 0, 1) := dk_3 (dk_at dksX2_copyOf_6 9 rfl rfl)
theorem dX2_copyOf_150 : decode cX2_copyOf 150 = .ok (.bipush 8, 2) := dk_16 8 (dk_at dksX2_copyOf_6 10 rfl rfl)
theorem dX2_copyOf_152 : decode cX2_copyOf 152 = .ok (.invokestatic 97, 3) := dk_184 0 97 (dk_at dksX2_copyOf_6 12 rfl rfl)
theorem dX2_copyOf_155 : decode cX2_copyOf 155 = .ok (.aload_n 1, 1) := dk_43 (dk_at dksX2_copyOf_6 15 rfl rfl)
theorem dX2_copyOf_156 : decode cX2_copyOf 156 = .ok (.getfield 49, 3) := dk_180 0 49 (dk_at dksX2_copyOf_6 16 rfl rfl)
theorem dX2_copyOf_159 : decode cX2_copyOf 159 = .ok (.iconst 0, 1) := dk_3 (dk_at dksX2_copyOf_6 19 rfl rfl)
theorem dX2_copyOf_160 : decode cX2_copyOf 160 = .ok (.aload_n 0, 1) := dk_42 (dk_at dksX2_copyOf_6 20 rfl rfl)
theorem dX2_copyOf_161 : decode cX2_copyOf 161 = .ok (.getfield 49, 3) := dk_180 0 49 (dk_at dksX2_copyOf_6 21 rfl rfl)
theorem dX2_copyOf_164 : decode cX2_copyOf 164 = .ok (.iconst 0, 1) := dk_3 (dk_at dksX2_copyOf_7 0 rfl rfl)
theorem dX2_copyOf_165 : decode cX2_copyOf 165 = .ok (.bipush 8, 2) := dk_16 8 (dk_at dksX2_copyOf_7 1 rfl rfl)
theorem dX2_copyOf_167 : decode cX2_copyOf 167 = .ok (.invokestatic 97, 3) := dk_184 0 97 (dk_at dksX2_copyOf_7 3 rfl rfl)
theorem dX2_copyOf_170 : decode cX2_copyOf 170 = .ok (.aload_n 1, 1) := dk_43 (dk_at dksX2_copyOf_7 6 rfl rfl)
theorem dX2_copyOf_171 : decode cX2_copyOf 171 = .ok (.getfield 52, 3) := dk_180 0 52 (dk_at dksX2_copyOf_7 7 rfl rfl)
theorem dX2_copyOf_174 : decode cX2_copyOf 174 = .ok (.iconst 0, 1) := dk_3 (dk_at dksX2_copyOf_7 10 rfl rfl)
theorem dX2_copyOf_175 : decode cX2_copyOf 175 = .ok (.aload_n 0, 1) := dk_42 (dk_at dksX2_copyOf_7 11 rfl rfl)
theorem dX2_copyOf_176 : decode cX2_copyOf 176 = .ok (.getfield 52, 3) := dk_180 0 52 (dk_at dksX2_copyOf_7 12 rfl rfl)
theorem dX2_copyOf_179 : decode cX2_copyOf 179 = .ok (.iconst 0, 1) := dk_3 (dk_at dksX2_copyOf_7 15 rfl rfl)
theorem dX2_copyOf_180 : decode cX2_copyOf 180 = .ok (.bipush 8, 2) := dk_16 8 (dk_at dksX2_copyOf_7 16 rfl rfl)
theorem dX2_copyOf_182 : decode cX2_copyOf 182 = .ok (.invokestatic 97, 3) := dk_184 0 97 (dk_at dksX2_copyOf_7 18 rfl rfl)
theorem dX2_copyOf_185 : decode cX2_copyOf 185 = .ok (.iconst 0, 1) := dk_3 (dk_at dksX2_copyOf_7 21 rfl rfl)
theorem dX2_copyOf_186 : decode cX2_copyOf 186 = .ok (.istore_n 2, 1) := dk_61 (dk_at dksX2_copyOf_7 22 rfl rfl)
theorem dX2_copyOf_187 : decode cX2_copyOf 187 = .ok (.iload_n 2, 1) := dk_28 (dk_at dksX2_copyOf_7 23 rfl rfl)
theorem dX2_copyOf_188 : decode cX2_copyOf 188 = .ok (.bipush 8, 2) := dk_16 8 (dk_at dksX2_copyOf_8 0 rfl rfl)
theorem dX2_copyOf_190 : decode cX2_copyOf 190 = .ok (.if_icmp .ge 28, 3) := dk_162 0 28 (dk_at dksX2_copyOf_8 2 rfl rfl)
theorem dX2_copyOf_193 : decode cX2_copyOf 193 = .ok (.aload_n 1, 1) := dk_43 (dk_at dksX2_copyOf_8 5 rfl rfl)
theorem dX2_copyOf_194 : decode cX2_copyOf 194 = .ok (.getfield 57, 3) := dk_180 0 57 (dk_at dksX2_copyOf_8 6 rfl rfl)
theorem dX2_copyOf_197 : decode cX2_copyOf 197 = .ok (.iload_n 2, 1) := dk_28 (dk_at dksX2_copyOf_8 9 rfl rfl)
theorem dX2_copyOf_198 : decode cX2_copyOf 198 = .ok (.aaload, 1) := dk_50 (dk_at dksX2_copyOf_8 10 rfl rfl)
theorem dX2_copyOf_199 : decode cX2_copyOf 199 = .ok (.iconst 0, 1) := dk_3 (dk_at dksX2_copyOf_8 11 rfl rfl)
theorem dX2_copyOf_200 : decode cX2_copyOf 200 = .ok (.aload_n 0, 1) := dk_42 (dk_at dksX2_copyOf_8 12 rfl rfl)
theorem dX2_copyOf_201 : decode cX2_copyOf 201 = .ok (.getfield 57, 3) := dk_180 0 57 (dk_at dksX2_copyOf_8 13 rfl rfl)
theorem dX2_copyOf_204 : decode cX2_copyOf 204 = .ok (.iload_n 2, 1) := dk_28 (dk_at dksX2_copyOf_8 16 rfl rfl)
theorem dX2_copyOf_205 : decode cX2_copyOf 205 = .ok (.aaload, 1) := dk_50 (dk_at dksX2_copyOf_8 17 rfl rfl)
theorem dX2_copyOf_206 : decode cX2_copyOf 206 = .ok (.iconst 0, 1) := dk_3 (dk_at dksX2_copyOf_8 18 rfl rfl)
theorem dX2_copyOf_207 : decode cX2_copyOf 207 = .ok (.bipush 8, 2) := dk_16 8 (dk_at dksX2_copyOf_8 19 rfl rfl)
theorem dX2_copyOf_209 : decode cX2_copyOf 209 = .ok (.invokestatic 97, 3) := dk_184 0 97 (dk_at dksX2_copyOf_8 21 rfl rfl)
theorem dX2_copyOf_212 : decode cX2_copyOf 212 = .ok (.iinc 2 1, 3) := dk_132 2 1 (dk_at dksX2_copyOf_9 0 rfl rfl)
theorem dX2_copyOf_215 : decode cX2_copyOf 215 = .ok (.goto (-28), 3) := dk_167 255 228 (dk_at dksX2_copyOf_9 3 rfl rfl)
theorem dX2_copyOf_218 : decode cX2_copyOf 218 = .ok (.aload_n 1, 1) := dk_43 (dk_at dksX2_copyOf_9 6 rfl rfl)
theorem dX2_copyOf_219 : decode cX2_copyOf 219 = .ok (.getfield 60, 3) := dk_180 0 60 (dk_at dksX2_copyOf_9 7 rfl rfl)
theorem dX2_copyOf_222 : decode cX2_copyOf 222 = .ok (.iconst 0, 1) := dk_3 (dk_at dksX2_copyOf_9 10 rfl rfl)
theorem dX2_copyOf_223 : decode cX2_copyOf 223 = .ok (.aload_n 0, 1) := dk_42 (dk_at dksX2_copyOf_9 11 rfl rfl)
theorem dX2_copyOf_224 : decode cX2_copyOf 224 = .ok (.getfield 60, 3) := dk_180 0 60 (dk_at dksX2_copyOf_9 12 rfl rfl)
theorem dX2_copyOf_227 : decode cX2_copyOf 227 = .ok (.iconst 0, 1) := dk_3 (dk_at dksX2_copyOf_9 15 rfl rfl)
theorem dX2_copyOf_228 : decode cX2_copyOf 228 = .ok (.bipush 60, 2) := dk_16 60 (dk_at dksX2_copyOf_9 16 rfl rfl)
theorem dX2_copyOf_230 : decode cX2_copyOf 230 = .ok (.invokestatic 97, 3) := dk_184 0 97 (dk_at dksX2_copyOf_9 18 rfl rfl)
theorem dX2_copyOf_233 : decode cX2_copyOf 233 = .ok (.aload_n 1, 1) := dk_43 (dk_at dksX2_copyOf_9 21 rfl rfl)
theorem dX2_copyOf_234 : decode cX2_copyOf 234 = .ok (.getfield 63, 3) := dk_180 0 63 (dk_at dksX2_copyOf_10 0 rfl rfl)
theorem dX2_copyOf_237 : decode cX2_copyOf 237 = .ok (.iconst 0, 1) := dk_3 (dk_at dksX2_copyOf_10 3 rfl rfl)
theorem dX2_copyOf_238 : decode cX2_copyOf 238 = .ok (.aload_n 0, 1) := dk_42 (dk_at dksX2_copyOf_10 4 rfl rfl)
theorem dX2_copyOf_239 : decode cX2_copyOf 239 = .ok (.getfield 63, 3) := dk_180 0 63 (dk_at dksX2_copyOf_10 5 rfl rfl)
theorem dX2_copyOf_242 : decode cX2_copyOf 242 = .ok (.iconst 0, 1) := dk_3 (dk_at dksX2_copyOf_10 8 rfl rfl)
theorem dX2_copyOf_243 : decode cX2_copyOf 243 = .ok (.bipush 60, 2) := dk_16 60 (dk_at dksX2_copyOf_10 9 rfl rfl)
theorem dX2_copyOf_245 : decode cX2_copyOf 245 = .ok (.invokestatic 97, 3) := dk_184 0 97 (dk_at dksX2_copyOf_10 11 rfl rfl)
theorem dX2_copyOf_248 : decode cX2_copyOf 248 = .ok (.aload_n 1, 1) := dk_43 (dk_at dksX2_copyOf_10 14 rfl rfl)
theorem dX2_copyOf_249 : decode cX2_copyOf 249 = .ok (.getfield 66, 3) := dk_180 0 66 (dk_at dksX2_copyOf_10 15 rfl rfl)
theorem dX2_copyOf_252 : decode cX2_copyOf 252 = .ok (.iconst 0, 1) := dk_3 (dk_at dksX2_copyOf_10 18 rfl rfl)
theorem dX2_copyOf_253 : decode cX2_copyOf 253 = .ok (.aload_n 0, 1) := dk_42 (dk_at dksX2_copyOf_10 19 rfl rfl)
theorem dX2_copyOf_254 : decode cX2_copyOf 254 = .ok (.getfield 66, 3) := dk_180 0 66 (dk_at dksX2_copyOf_10 20 rfl rfl)
theorem dX2_copyOf_257 : decode cX2_copyOf 257 = .ok (.iconst 0, 1) := dk_3 (dk_at dksX2_copyOf_10 23 rfl rfl)
theorem dX2_copyOf_258 : decode cX2_copyOf 258 = .ok (.bipush 60, 2) := dk_16 60 (dk_at dksX2_copyOf_11 0 rfl rfl)
theorem dX2_copyOf_260 : decode cX2_copyOf 260 = .ok (.invokestatic 97, 3) := dk_184 0 97 (dk_at dksX2_copyOf_11 2 rfl rfl)
theorem dX2_copyOf_263 : decode cX2_copyOf 263 = .ok (.aload_n 0, 1) := dk_42 (dk_at dksX2_copyOf_11 5 rfl rfl)
theorem dX2_copyOf_264 : decode cX2_copyOf 264 = .ok (.aload_n 1, 1) := dk_43 (dk_at dksX2_copyOf_11 6 rfl rfl)
theorem dX2_copyOf_265 : decode cX2_copyOf 265 = .ok (.getfield 76, 3) := dk_180 0 76 (dk_at dksX2_copyOf_11 7 rfl rfl)
theorem dX2_copyOf_268 : decode cX2_copyOf 268 = .ok (.putfield 76, 3) := dk_181 0 76 (dk_at dksX2_copyOf_11 10 rfl rfl)
theorem dX2_copyOf_271 : decode cX2_copyOf 271 = .ok (.aload_n 0, 1) := dk_42 (dk_at dksX2_copyOf_11 13 rfl rfl)
theorem dX2_copyOf_272 : decode cX2_copyOf 272 = .ok (.areturn, 1) := dk_176 (dk_at dksX2_copyOf_11 14 rfl rfl)
abbrev cX2_pass : ByteArray := prog_3_method_16_code
def yX2_pass : MethodName := ⟨RX2, "pass", "()V"⟩
def dkwX2_pass_8 : List UInt8 := [153, 0, 8, 42, 27, 182, 0, 207, 132, 1, 255, 167, 255, 233, 177]
abbrev dktX2_pass_8 : List UInt8 := dkwX2_pass_8 ++ []
def dkwX2_pass_7 : List UInt8 := [180, 0, 3, 180, 0, 107, 180, 0, 137, 4, 100, 60, 27, 155, 0, 25, 42, 180, 0, 24, 27, 182, 0, 103]
abbrev dktX2_pass_7 : List UInt8 := dkwX2_pass_7 ++ dktX2_pass_8
def dkwX2_pass_6 : List UInt8 := [182, 0, 200, 60, 42, 180, 0, 20, 27, 182, 0, 103, 153, 0, 8, 42, 27, 182, 0, 204, 167, 255, 210, 42]
abbrev dktX2_pass_6 : List UInt8 := dkwX2_pass_6 ++ dktX2_pass_7
def dkwX2_pass_5 : List UInt8 := [180, 0, 175, 182, 0, 192, 154, 0, 39, 42, 180, 0, 3, 180, 0, 175, 182, 0, 196, 192, 0, 183]
abbrev dktX2_pass_5 : List UInt8 := dkwX2_pass_5 ++ dktX2_pass_6
def dkwX2_pass_4 : List UInt8 := [184, 0, 182, 182, 0, 188, 42, 180, 0, 20, 27, 4, 96, 182, 0, 121, 60, 167, 255, 227, 42, 180, 0, 3]
abbrev dktX2_pass_4 : List UInt8 := dkwX2_pass_4 ++ dktX2_pass_5
def dkwX2_pass_3 : List UInt8 := [182, 0, 179, 42, 180, 0, 20, 3, 182, 0, 121, 60, 27, 155, 0, 31, 42, 180, 0, 3, 180, 0, 175, 27]
abbrev dktX2_pass_3 : List UInt8 := dkwX2_pass_3 ++ dktX2_pass_4
def dkwX2_pass_2 : List UInt8 := [182, 0, 155, 42, 180, 0, 20, 27, 4, 96, 182, 0, 121, 60, 167, 255, 215, 42, 180, 0, 3, 180, 0, 175]
abbrev dktX2_pass_2 : List UInt8 := dkwX2_pass_2 ++ dktX2_pass_3
def dkwX2_pass_1 : List UInt8 := [180, 0, 69, 42, 180, 0, 43, 27, 46, 164, 0, 16, 42, 27, 16, 10, 182, 0, 152, 42, 27, 6]
abbrev dktX2_pass_1 : List UInt8 := dkwX2_pass_1 ++ dktX2_pass_2
def dkwX2_pass_0 : List UInt8 := [42, 89, 180, 0, 69, 4, 96, 181, 0, 69, 42, 180, 0, 20, 3, 182, 0, 121, 60, 27, 155, 0, 43, 42]
abbrev dktX2_pass_0 : List UInt8 := dkwX2_pass_0 ++ dktX2_pass_1
theorem dksX2_pass_0 : cX2_pass.data.toList.drop 0 = dktX2_pass_0 := by decide +kernel
theorem dksX2_pass_1 : cX2_pass.data.toList.drop 24 = dktX2_pass_1 := dk_seg dksX2_pass_0 24 rfl rfl
theorem dksX2_pass_2 : cX2_pass.data.toList.drop 46 = dktX2_pass_2 := dk_seg dksX2_pass_1 22 rfl rfl
theorem dksX2_pass_3 : cX2_pass.data.toList.drop 70 = dktX2_pass_3 := dk_seg dksX2_pass_2 24 rfl rfl
theorem dksX2_pass_4 : cX2_pass.data.toList.drop 94 = dktX2_pass_4 := dk_seg dksX2_pass_3 24 rfl rfl
theorem dksX2_pass_5 : cX2_pass.data.toList.drop 118 = dktX2_pass_5 := dk_seg dksX2_pass_4 24 rfl rfl
theorem dksX2_pass_6 : cX2_pass.data.toList.drop 140 = dktX2_pass_6 := dk_seg dksX2_pass_5 22 rfl rfl
theorem dksX2_pass_7 : cX2_pass.data.toList.drop 164 = dktX2_pass_7 := dk_seg dksX2_pass_6 24 rfl rfl
theorem dksX2_pass_8 : cX2_pass.data.toList.drop 188 = dktX2_pass_8 := dk_seg dksX2_pass_7 24 rfl rfl
theorem dX2_pass_0 : decode cX2_pass 0 = .ok (.aload_n 0, 1) := dk_42 (dk_at dksX2_pass_0 0 rfl rfl)
theorem dX2_pass_1 : decode cX2_pass 1 = .ok (.dup, 1) := dk_89 (dk_at dksX2_pass_0 1 rfl rfl)
theorem dX2_pass_2 : decode cX2_pass 2 = .ok (.getfield 69, 3) := dk_180 0 69 (dk_at dksX2_pass_0 2 rfl rfl)
theorem dX2_pass_5 : decode cX2_pass 5 = .ok (.iconst 1, 1) := dk_4 (dk_at dksX2_pass_0 5 rfl rfl)
theorem dX2_pass_6 : decode cX2_pass 6 = .ok (.iadd, 1) := dk_96 (dk_at dksX2_pass_0 6 rfl rfl)
theorem dX2_pass_7 : decode cX2_pass 7 = .ok (.putfield 69, 3) := dk_181 0 69 (dk_at dksX2_pass_0 7 rfl rfl)
theorem dX2_pass_10 : decode cX2_pass 10 = .ok (.aload_n 0, 1) := dk_42 (dk_at dksX2_pass_0 10 rfl rfl)
theorem dX2_pass_11 : decode cX2_pass 11 = .ok (.getfield 20, 3) := dk_180 0 20 (dk_at dksX2_pass_0 11 rfl rfl)
theorem dX2_pass_14 : decode cX2_pass 14 = .ok (.iconst 0, 1) := dk_3 (dk_at dksX2_pass_0 14 rfl rfl)
theorem dX2_pass_15 : decode cX2_pass 15 = .ok (.invokevirtual 121, 3) := dk_182 0 121 (dk_at dksX2_pass_0 15 rfl rfl)
theorem dX2_pass_18 : decode cX2_pass 18 = .ok (.istore_n 1, 1) := dk_60 (dk_at dksX2_pass_0 18 rfl rfl)
theorem dX2_pass_19 : decode cX2_pass 19 = .ok (.iload_n 1, 1) := dk_27 (dk_at dksX2_pass_0 19 rfl rfl)
theorem dX2_pass_20 : decode cX2_pass 20 = .ok (.ifCond .lt 43, 3) := dk_155 0 43 (dk_at dksX2_pass_0 20 rfl rfl)
theorem dX2_pass_23 : decode cX2_pass 23 = .ok (.aload_n 0, 1) := dk_42 (dk_at dksX2_pass_0 23 rfl rfl)
theorem dX2_pass_24 : decode cX2_pass 24 = .ok (.getfield 69, 3) := dk_180 0 69 (dk_at dksX2_pass_1 0 rfl rfl)
theorem dX2_pass_27 : decode cX2_pass 27 = .ok (.aload_n 0, 1) := dk_42 (dk_at dksX2_pass_1 3 rfl rfl)
theorem dX2_pass_28 : decode cX2_pass 28 = .ok (.getfield 43, 3) := dk_180 0 43 (dk_at dksX2_pass_1 4 rfl rfl)
theorem dX2_pass_31 : decode cX2_pass 31 = .ok (.iload_n 1, 1) := dk_27 (dk_at dksX2_pass_1 7 rfl rfl)
theorem dX2_pass_32 : decode cX2_pass 32 = .ok (.iaload, 1) := dk_46 (dk_at dksX2_pass_1 8 rfl rfl)
theorem dX2_pass_33 : decode cX2_pass 33 = .ok (.if_icmp .le 16, 3) := dk_164 0 16 (dk_at dksX2_pass_1 9 rfl rfl)
theorem dX2_pass_36 : decode cX2_pass 36 = .ok (.aload_n 0, 1) := dk_42 (dk_at dksX2_pass_1 12 rfl rfl)
theorem dX2_pass_37 : decode cX2_pass 37 = .ok (.iload_n 1, 1) := dk_27 (dk_at dksX2_pass_1 13 rfl rfl)
theorem dX2_pass_38 : decode cX2_pass 38 = .ok (.bipush 10, 2) := dk_16 10 (dk_at dksX2_pass_1 14 rfl rfl)
theorem dX2_pass_40 : decode cX2_pass 40 = .ok (.invokevirtual 152, 3) := dk_182 0 152 (dk_at dksX2_pass_1 16 rfl rfl)
theorem dX2_pass_43 : decode cX2_pass 43 = .ok (.aload_n 0, 1) := dk_42 (dk_at dksX2_pass_1 19 rfl rfl)
theorem dX2_pass_44 : decode cX2_pass 44 = .ok (.iload_n 1, 1) := dk_27 (dk_at dksX2_pass_1 20 rfl rfl)
theorem dX2_pass_45 : decode cX2_pass 45 = .ok (.iconst 3, 1) := dk_6 (dk_at dksX2_pass_1 21 rfl rfl)
theorem dX2_pass_46 : decode cX2_pass 46 = .ok (.invokevirtual 155, 3) := dk_182 0 155 (dk_at dksX2_pass_2 0 rfl rfl)
theorem dX2_pass_49 : decode cX2_pass 49 = .ok (.aload_n 0, 1) := dk_42 (dk_at dksX2_pass_2 3 rfl rfl)
theorem dX2_pass_50 : decode cX2_pass 50 = .ok (.getfield 20, 3) := dk_180 0 20 (dk_at dksX2_pass_2 4 rfl rfl)
theorem dX2_pass_53 : decode cX2_pass 53 = .ok (.iload_n 1, 1) := dk_27 (dk_at dksX2_pass_2 7 rfl rfl)
theorem dX2_pass_54 : decode cX2_pass 54 = .ok (.iconst 1, 1) := dk_4 (dk_at dksX2_pass_2 8 rfl rfl)
theorem dX2_pass_55 : decode cX2_pass 55 = .ok (.iadd, 1) := dk_96 (dk_at dksX2_pass_2 9 rfl rfl)
theorem dX2_pass_56 : decode cX2_pass 56 = .ok (.invokevirtual 121, 3) := dk_182 0 121 (dk_at dksX2_pass_2 10 rfl rfl)
theorem dX2_pass_59 : decode cX2_pass 59 = .ok (.istore_n 1, 1) := dk_60 (dk_at dksX2_pass_2 13 rfl rfl)
theorem dX2_pass_60 : decode cX2_pass 60 = .ok (.goto (-41), 3) := dk_167 255 215 (dk_at dksX2_pass_2 14 rfl rfl)
theorem dX2_pass_63 : decode cX2_pass 63 = .ok (.aload_n 0, 1) := dk_42 (dk_at dksX2_pass_2 17 rfl rfl)
theorem dX2_pass_64 : decode cX2_pass 64 = .ok (.getfield 3, 3) := dk_180 0 3 (dk_at dksX2_pass_2 18 rfl rfl)
theorem dX2_pass_67 : decode cX2_pass 67 = .ok (.getfield 175, 3) := dk_180 0 175 (dk_at dksX2_pass_2 21 rfl rfl)
theorem dX2_pass_70 : decode cX2_pass 70 = .ok (.invokevirtual 179, 3) := dk_182 0 179 (dk_at dksX2_pass_3 0 rfl rfl)
theorem dX2_pass_73 : decode cX2_pass 73 = .ok (.aload_n 0, 1) := dk_42 (dk_at dksX2_pass_3 3 rfl rfl)
theorem dX2_pass_74 : decode cX2_pass 74 = .ok (.getfield 20, 3) := dk_180 0 20 (dk_at dksX2_pass_3 4 rfl rfl)
theorem dX2_pass_77 : decode cX2_pass 77 = .ok (.iconst 0, 1) := dk_3 (dk_at dksX2_pass_3 7 rfl rfl)
theorem dX2_pass_78 : decode cX2_pass 78 = .ok (.invokevirtual 121, 3) := dk_182 0 121 (dk_at dksX2_pass_3 8 rfl rfl)
theorem dX2_pass_81 : decode cX2_pass 81 = .ok (.istore_n 1, 1) := dk_60 (dk_at dksX2_pass_3 11 rfl rfl)
theorem dX2_pass_82 : decode cX2_pass 82 = .ok (.iload_n 1, 1) := dk_27 (dk_at dksX2_pass_3 12 rfl rfl)
theorem dX2_pass_83 : decode cX2_pass 83 = .ok (.ifCond .lt 31, 3) := dk_155 0 31 (dk_at dksX2_pass_3 13 rfl rfl)
theorem dX2_pass_86 : decode cX2_pass 86 = .ok (.aload_n 0, 1) := dk_42 (dk_at dksX2_pass_3 16 rfl rfl)
theorem dX2_pass_87 : decode cX2_pass 87 = .ok (.getfield 3, 3) := dk_180 0 3 (dk_at dksX2_pass_3 17 rfl rfl)
theorem dX2_pass_90 : decode cX2_pass 90 = .ok (.getfield 175, 3) := dk_180 0 175 (dk_at dksX2_pass_3 20 rfl rfl)
theorem dX2_pass_93 : decode cX2_pass 93 = .ok (.iload_n 1, 1) := dk_27 (dk_at dksX2_pass_3 23 rfl rfl)
theorem dX2_pass_94 : decode cX2_pass 94 = .ok (.invokestatic 182, 3) := dk_184 0 182 (dk_at dksX2_pass_4 0 rfl rfl)
theorem dX2_pass_97 : decode cX2_pass 97 = .ok (.invokevirtual 188, 3) := dk_182 0 188 (dk_at dksX2_pass_4 3 rfl rfl)
theorem dX2_pass_100 : decode cX2_pass 100 = .ok (.aload_n 0, 1) := dk_42 (dk_at dksX2_pass_4 6 rfl rfl)
theorem dX2_pass_101 : decode cX2_pass 101 = .ok (.getfield 20, 3) := dk_180 0 20 (dk_at dksX2_pass_4 7 rfl rfl)
theorem dX2_pass_104 : decode cX2_pass 104 = .ok (.iload_n 1, 1) := dk_27 (dk_at dksX2_pass_4 10 rfl rfl)
theorem dX2_pass_105 : decode cX2_pass 105 = .ok (.iconst 1, 1) := dk_4 (dk_at dksX2_pass_4 11 rfl rfl)
theorem dX2_pass_106 : decode cX2_pass 106 = .ok (.iadd, 1) := dk_96 (dk_at dksX2_pass_4 12 rfl rfl)
theorem dX2_pass_107 : decode cX2_pass 107 = .ok (.invokevirtual 121, 3) := dk_182 0 121 (dk_at dksX2_pass_4 13 rfl rfl)
theorem dX2_pass_110 : decode cX2_pass 110 = .ok (.istore_n 1, 1) := dk_60 (dk_at dksX2_pass_4 16 rfl rfl)
theorem dX2_pass_111 : decode cX2_pass 111 = .ok (.goto (-29), 3) := dk_167 255 227 (dk_at dksX2_pass_4 17 rfl rfl)
theorem dX2_pass_114 : decode cX2_pass 114 = .ok (.aload_n 0, 1) := dk_42 (dk_at dksX2_pass_4 20 rfl rfl)
theorem dX2_pass_115 : decode cX2_pass 115 = .ok (.getfield 3, 3) := dk_180 0 3 (dk_at dksX2_pass_4 21 rfl rfl)
theorem dX2_pass_118 : decode cX2_pass 118 = .ok (.getfield 175, 3) := dk_180 0 175 (dk_at dksX2_pass_5 0 rfl rfl)
theorem dX2_pass_121 : decode cX2_pass 121 = .ok (.invokevirtual 192, 3) := dk_182 0 192 (dk_at dksX2_pass_5 3 rfl rfl)
theorem dX2_pass_124 : decode cX2_pass 124 = .ok (.ifCond .ne 39, 3) := dk_154 0 39 (dk_at dksX2_pass_5 6 rfl rfl)
theorem dX2_pass_127 : decode cX2_pass 127 = .ok (.aload_n 0, 1) := dk_42 (dk_at dksX2_pass_5 9 rfl rfl)
theorem dX2_pass_128 : decode cX2_pass 128 = .ok (.getfield 3, 3) := dk_180 0 3 (dk_at dksX2_pass_5 10 rfl rfl)
theorem dX2_pass_131 : decode cX2_pass 131 = .ok (.getfield 175, 3) := dk_180 0 175 (dk_at dksX2_pass_5 13 rfl rfl)
theorem dX2_pass_134 : decode cX2_pass 134 = .ok (.invokevirtual 196, 3) := dk_182 0 196 (dk_at dksX2_pass_5 16 rfl rfl)
theorem dX2_pass_137 : decode cX2_pass 137 = .ok (.checkcast 183, 3) := dk_192 0 183 (dk_at dksX2_pass_5 19 rfl rfl)
theorem dX2_pass_140 : decode cX2_pass 140 = .ok (.invokevirtual 200, 3) := dk_182 0 200 (dk_at dksX2_pass_6 0 rfl rfl)
theorem dX2_pass_143 : decode cX2_pass 143 = .ok (.istore_n 1, 1) := dk_60 (dk_at dksX2_pass_6 3 rfl rfl)
theorem dX2_pass_144 : decode cX2_pass 144 = .ok (.aload_n 0, 1) := dk_42 (dk_at dksX2_pass_6 4 rfl rfl)
theorem dX2_pass_145 : decode cX2_pass 145 = .ok (.getfield 20, 3) := dk_180 0 20 (dk_at dksX2_pass_6 5 rfl rfl)
theorem dX2_pass_148 : decode cX2_pass 148 = .ok (.iload_n 1, 1) := dk_27 (dk_at dksX2_pass_6 8 rfl rfl)
theorem dX2_pass_149 : decode cX2_pass 149 = .ok (.invokevirtual 103, 3) := dk_182 0 103 (dk_at dksX2_pass_6 9 rfl rfl)
theorem dX2_pass_152 : decode cX2_pass 152 = .ok (.ifCond .eq 8, 3) := dk_153 0 8 (dk_at dksX2_pass_6 12 rfl rfl)
theorem dX2_pass_155 : decode cX2_pass 155 = .ok (.aload_n 0, 1) := dk_42 (dk_at dksX2_pass_6 15 rfl rfl)
theorem dX2_pass_156 : decode cX2_pass 156 = .ok (.iload_n 1, 1) := dk_27 (dk_at dksX2_pass_6 16 rfl rfl)
theorem dX2_pass_157 : decode cX2_pass 157 = .ok (.invokevirtual 204, 3) := dk_182 0 204 (dk_at dksX2_pass_6 17 rfl rfl)
theorem dX2_pass_160 : decode cX2_pass 160 = .ok (.goto (-46), 3) := dk_167 255 210 (dk_at dksX2_pass_6 20 rfl rfl)
theorem dX2_pass_163 : decode cX2_pass 163 = .ok (.aload_n 0, 1) := dk_42 (dk_at dksX2_pass_6 23 rfl rfl)
theorem dX2_pass_164 : decode cX2_pass 164 = .ok (.getfield 3, 3) := dk_180 0 3 (dk_at dksX2_pass_7 0 rfl rfl)
theorem dX2_pass_167 : decode cX2_pass 167 = .ok (.getfield 107, 3) := dk_180 0 107 (dk_at dksX2_pass_7 3 rfl rfl)
theorem dX2_pass_170 : decode cX2_pass 170 = .ok (.getfield 137, 3) := dk_180 0 137 (dk_at dksX2_pass_7 6 rfl rfl)
theorem dX2_pass_173 : decode cX2_pass 173 = .ok (.iconst 1, 1) := dk_4 (dk_at dksX2_pass_7 9 rfl rfl)
theorem dX2_pass_174 : decode cX2_pass 174 = .ok (.isub, 1) := dk_100 (dk_at dksX2_pass_7 10 rfl rfl)
theorem dX2_pass_175 : decode cX2_pass 175 = .ok (.istore_n 1, 1) := dk_60 (dk_at dksX2_pass_7 11 rfl rfl)
theorem dX2_pass_176 : decode cX2_pass 176 = .ok (.iload_n 1, 1) := dk_27 (dk_at dksX2_pass_7 12 rfl rfl)
theorem dX2_pass_177 : decode cX2_pass 177 = .ok (.ifCond .lt 25, 3) := dk_155 0 25 (dk_at dksX2_pass_7 13 rfl rfl)
theorem dX2_pass_180 : decode cX2_pass 180 = .ok (.aload_n 0, 1) := dk_42 (dk_at dksX2_pass_7 16 rfl rfl)
theorem dX2_pass_181 : decode cX2_pass 181 = .ok (.getfield 24, 3) := dk_180 0 24 (dk_at dksX2_pass_7 17 rfl rfl)
theorem dX2_pass_184 : decode cX2_pass 184 = .ok (.iload_n 1, 1) := dk_27 (dk_at dksX2_pass_7 20 rfl rfl)
theorem dX2_pass_185 : decode cX2_pass 185 = .ok (.invokevirtual 103, 3) := dk_182 0 103 (dk_at dksX2_pass_7 21 rfl rfl)
theorem dX2_pass_188 : decode cX2_pass 188 = .ok (.ifCond .eq 8, 3) := dk_153 0 8 (dk_at dksX2_pass_8 0 rfl rfl)
theorem dX2_pass_191 : decode cX2_pass 191 = .ok (.aload_n 0, 1) := dk_42 (dk_at dksX2_pass_8 3 rfl rfl)
theorem dX2_pass_192 : decode cX2_pass 192 = .ok (.iload_n 1, 1) := dk_27 (dk_at dksX2_pass_8 4 rfl rfl)
theorem dX2_pass_193 : decode cX2_pass 193 = .ok (.invokevirtual 207, 3) := dk_182 0 207 (dk_at dksX2_pass_8 5 rfl rfl)
theorem dX2_pass_196 : decode cX2_pass 196 = .ok (.iinc 1 (-1), 3) := dk_132 1 255 (dk_at dksX2_pass_8 8 rfl rfl)
theorem dX2_pass_199 : decode cX2_pass 199 = .ok (.goto (-23), 3) := dk_167 255 233 (dk_at dksX2_pass_8 11 rfl rfl)
theorem dX2_pass_202 : decode cX2_pass 202 = .ok (.return_, 1) := dk_177 (dk_at dksX2_pass_8 14 rfl rfl)
abbrev cX2_fail : ByteArray := prog_3_method_7_code
def yX2_fail : MethodName := ⟨RX2, "fail", "(II)V"⟩
def dkwX2_fail_1 : List UInt8 := [79, 42, 180, 0, 52, 27, 92, 46, 4, 96, 79, 177]
abbrev dktX2_fail_1 : List UInt8 := dkwX2_fail_1 ++ []
def dkwX2_fail_0 : List UInt8 := [42, 180, 0, 52, 27, 46, 16, 8, 162, 0, 27, 42, 180, 0, 57, 27, 50, 42, 180, 0, 52, 27, 46, 28]
abbrev dktX2_fail_0 : List UInt8 := dkwX2_fail_0 ++ dktX2_fail_1
theorem dksX2_fail_0 : cX2_fail.data.toList.drop 0 = dktX2_fail_0 := by decide +kernel
theorem dksX2_fail_1 : cX2_fail.data.toList.drop 24 = dktX2_fail_1 := dk_seg dksX2_fail_0 24 rfl rfl
theorem dX2_fail_0 : decode cX2_fail 0 = .ok (.aload_n 0, 1) := dk_42 (dk_at dksX2_fail_0 0 rfl rfl)
theorem dX2_fail_1 : decode cX2_fail 1 = .ok (.getfield 52, 3) := dk_180 0 52 (dk_at dksX2_fail_0 1 rfl rfl)
theorem dX2_fail_4 : decode cX2_fail 4 = .ok (.iload_n 1, 1) := dk_27 (dk_at dksX2_fail_0 4 rfl rfl)
theorem dX2_fail_5 : decode cX2_fail 5 = .ok (.iaload, 1) := dk_46 (dk_at dksX2_fail_0 5 rfl rfl)
theorem dX2_fail_6 : decode cX2_fail 6 = .ok (.bipush 8, 2) := dk_16 8 (dk_at dksX2_fail_0 6 rfl rfl)
theorem dX2_fail_8 : decode cX2_fail 8 = .ok (.if_icmp .ge 27, 3) := dk_162 0 27 (dk_at dksX2_fail_0 8 rfl rfl)
theorem dX2_fail_11 : decode cX2_fail 11 = .ok (.aload_n 0, 1) := dk_42 (dk_at dksX2_fail_0 11 rfl rfl)
theorem dX2_fail_12 : decode cX2_fail 12 = .ok (.getfield 57, 3) := dk_180 0 57 (dk_at dksX2_fail_0 12 rfl rfl)
theorem dX2_fail_15 : decode cX2_fail 15 = .ok (.iload_n 1, 1) := dk_27 (dk_at dksX2_fail_0 15 rfl rfl)
theorem dX2_fail_16 : decode cX2_fail 16 = .ok (.aaload, 1) := dk_50 (dk_at dksX2_fail_0 16 rfl rfl)
theorem dX2_fail_17 : decode cX2_fail 17 = .ok (.aload_n 0, 1) := dk_42 (dk_at dksX2_fail_0 17 rfl rfl)
theorem dX2_fail_18 : decode cX2_fail 18 = .ok (.getfield 52, 3) := dk_180 0 52 (dk_at dksX2_fail_0 18 rfl rfl)
theorem dX2_fail_21 : decode cX2_fail 21 = .ok (.iload_n 1, 1) := dk_27 (dk_at dksX2_fail_0 21 rfl rfl)
theorem dX2_fail_22 : decode cX2_fail 22 = .ok (.iaload, 1) := dk_46 (dk_at dksX2_fail_0 22 rfl rfl)
theorem dX2_fail_23 : decode cX2_fail 23 = .ok (.iload_n 2, 1) := dk_28 (dk_at dksX2_fail_0 23 rfl rfl)
theorem dX2_fail_24 : decode cX2_fail 24 = .ok (.iastore, 1) := dk_79 (dk_at dksX2_fail_1 0 rfl rfl)
theorem dX2_fail_25 : decode cX2_fail 25 = .ok (.aload_n 0, 1) := dk_42 (dk_at dksX2_fail_1 1 rfl rfl)
theorem dX2_fail_26 : decode cX2_fail 26 = .ok (.getfield 52, 3) := dk_180 0 52 (dk_at dksX2_fail_1 2 rfl rfl)
theorem dX2_fail_29 : decode cX2_fail 29 = .ok (.iload_n 1, 1) := dk_27 (dk_at dksX2_fail_1 5 rfl rfl)
theorem dX2_fail_30 : decode cX2_fail 30 = .ok (.dup2, 1) := dk_92 (dk_at dksX2_fail_1 6 rfl rfl)
theorem dX2_fail_31 : decode cX2_fail 31 = .ok (.iaload, 1) := dk_46 (dk_at dksX2_fail_1 7 rfl rfl)
theorem dX2_fail_32 : decode cX2_fail 32 = .ok (.iconst 1, 1) := dk_4 (dk_at dksX2_fail_1 8 rfl rfl)
theorem dX2_fail_33 : decode cX2_fail 33 = .ok (.iadd, 1) := dk_96 (dk_at dksX2_fail_1 9 rfl rfl)
theorem dX2_fail_34 : decode cX2_fail 34 = .ok (.iastore, 1) := dk_79 (dk_at dksX2_fail_1 10 rfl rfl)
theorem dX2_fail_35 : decode cX2_fail 35 = .ok (.return_, 1) := dk_177 (dk_at dksX2_fail_1 11 rfl rfl)
abbrev cX2_close : ByteArray := prog_3_method_9_code
def yX2_close : MethodName := ⟨RX2, "close", "(II)V"⟩
def dkwX2_close_2 : List UInt8 := [27, 4, 182, 0, 130, 42, 180, 0, 33, 27, 46, 153, 0, 8, 42, 27, 182, 0, 134, 177]
abbrev dktX2_close_2 : List UInt8 := dkwX2_close_2 ++ []
def dkwX2_close_1 : List UInt8 := [180, 0, 33, 27, 28, 154, 0, 16, 42, 180, 0, 52, 27, 46, 158, 0, 7, 4, 167, 0, 4, 28, 79, 42]
abbrev dktX2_close_1 : List UInt8 := dkwX2_close_1 ++ dktX2_close_2
def dkwX2_close_0 : List UInt8 := [42, 180, 0, 20, 27, 182, 0, 128, 42, 180, 0, 24, 27, 182, 0, 85, 42, 180, 0, 40, 27, 3, 79, 42]
abbrev dktX2_close_0 : List UInt8 := dkwX2_close_0 ++ dktX2_close_1
theorem dksX2_close_0 : cX2_close.data.toList.drop 0 = dktX2_close_0 := by decide +kernel
theorem dksX2_close_1 : cX2_close.data.toList.drop 24 = dktX2_close_1 := dk_seg dksX2_close_0 24 rfl rfl
theorem dksX2_close_2 : cX2_close.data.toList.drop 48 = dktX2_close_2 := dk_seg dksX2_close_1 24 rfl rfl
theorem dX2_close_0 : decode cX2_close 0 = .ok (.aload_n 0, 1) := dk_42 (dk_at dksX2_close_0 0 rfl rfl)
theorem dX2_close_1 : decode cX2_close 1 = .ok (.getfield 20, 3) := dk_180 0 20 (dk_at dksX2_close_0 1 rfl rfl)
theorem dX2_close_4 : decode cX2_close 4 = .ok (.iload_n 1, 1) := dk_27 (dk_at dksX2_close_0 4 rfl rfl)
theorem dX2_close_5 : decode cX2_close 5 = .ok (.invokevirtual 128, 3) := dk_182 0 128 (dk_at dksX2_close_0 5 rfl rfl)
theorem dX2_close_8 : decode cX2_close 8 = .ok (.aload_n 0, 1) := dk_42 (dk_at dksX2_close_0 8 rfl rfl)
theorem dX2_close_9 : decode cX2_close 9 = .ok (.getfield 24, 3) := dk_180 0 24 (dk_at dksX2_close_0 9 rfl rfl)
theorem dX2_close_12 : decode cX2_close 12 = .ok (.iload_n 1, 1) := dk_27 (dk_at dksX2_close_0 12 rfl rfl)
theorem dX2_close_13 : decode cX2_close 13 = .ok (.invokevirtual 85, 3) := dk_182 0 85 (dk_at dksX2_close_0 13 rfl rfl)
theorem dX2_close_16 : decode cX2_close 16 = .ok (.aload_n 0, 1) := dk_42 (dk_at dksX2_close_0 16 rfl rfl)
theorem dX2_close_17 : decode cX2_close 17 = .ok (.getfield 40, 3) := dk_180 0 40 (dk_at dksX2_close_0 17 rfl rfl)
theorem dX2_close_20 : decode cX2_close 20 = .ok (.iload_n 1, 1) := dk_27 (dk_at dksX2_close_0 20 rfl rfl)
theorem dX2_close_21 : decode cX2_close 21 = .ok (.iconst 0, 1) := dk_3 (dk_at dksX2_close_0 21 rfl rfl)
theorem dX2_close_22 : decode cX2_close 22 = .ok (.iastore, 1) := dk_79 (dk_at dksX2_close_0 22 rfl rfl)
theorem dX2_close_23 : decode cX2_close 23 = .ok (.aload_n 0, 1) := dk_42 (dk_at dksX2_close_0 23 rfl rfl)
theorem dX2_close_24 : decode cX2_close 24 = .ok (.getfield 33, 3) := dk_180 0 33 (dk_at dksX2_close_1 0 rfl rfl)
theorem dX2_close_27 : decode cX2_close 27 = .ok (.iload_n 1, 1) := dk_27 (dk_at dksX2_close_1 3 rfl rfl)
theorem dX2_close_28 : decode cX2_close 28 = .ok (.iload_n 2, 1) := dk_28 (dk_at dksX2_close_1 4 rfl rfl)
theorem dX2_close_29 : decode cX2_close 29 = .ok (.ifCond .ne 16, 3) := dk_154 0 16 (dk_at dksX2_close_1 5 rfl rfl)
theorem dX2_close_32 : decode cX2_close 32 = .ok (.aload_n 0, 1) := dk_42 (dk_at dksX2_close_1 8 rfl rfl)
theorem dX2_close_33 : decode cX2_close 33 = .ok (.getfield 52, 3) := dk_180 0 52 (dk_at dksX2_close_1 9 rfl rfl)
theorem dX2_close_36 : decode cX2_close 36 = .ok (.iload_n 1, 1) := dk_27 (dk_at dksX2_close_1 12 rfl rfl)
theorem dX2_close_37 : decode cX2_close 37 = .ok (.iaload, 1) := dk_46 (dk_at dksX2_close_1 13 rfl rfl)
theorem dX2_close_38 : decode cX2_close 38 = .ok (.ifCond .le 7, 3) := dk_158 0 7 (dk_at dksX2_close_1 14 rfl rfl)
theorem dX2_close_41 : decode cX2_close 41 = .ok (.iconst 1, 1) := dk_4 (dk_at dksX2_close_1 17 rfl rfl)
theorem dX2_close_42 : decode cX2_close 42 = .ok (.goto 4, 3) := dk_167 0 4 (dk_at dksX2_close_1 18 rfl rfl)
theorem dX2_close_45 : decode cX2_close 45 = .ok (.iload_n 2, 1) := dk_28 (dk_at dksX2_close_1 21 rfl rfl)
theorem dX2_close_46 : decode cX2_close 46 = .ok (.iastore, 1) := dk_79 (dk_at dksX2_close_1 22 rfl rfl)
theorem dX2_close_47 : decode cX2_close 47 = .ok (.aload_n 0, 1) := dk_42 (dk_at dksX2_close_1 23 rfl rfl)
theorem dX2_close_48 : decode cX2_close 48 = .ok (.iload_n 1, 1) := dk_27 (dk_at dksX2_close_2 0 rfl rfl)
theorem dX2_close_49 : decode cX2_close 49 = .ok (.iconst 1, 1) := dk_4 (dk_at dksX2_close_2 1 rfl rfl)
theorem dX2_close_50 : decode cX2_close 50 = .ok (.invokevirtual 130, 3) := dk_182 0 130 (dk_at dksX2_close_2 2 rfl rfl)
theorem dX2_close_53 : decode cX2_close 53 = .ok (.aload_n 0, 1) := dk_42 (dk_at dksX2_close_2 5 rfl rfl)
theorem dX2_close_54 : decode cX2_close 54 = .ok (.getfield 33, 3) := dk_180 0 33 (dk_at dksX2_close_2 6 rfl rfl)
theorem dX2_close_57 : decode cX2_close 57 = .ok (.iload_n 1, 1) := dk_27 (dk_at dksX2_close_2 9 rfl rfl)
theorem dX2_close_58 : decode cX2_close 58 = .ok (.iaload, 1) := dk_46 (dk_at dksX2_close_2 10 rfl rfl)
theorem dX2_close_59 : decode cX2_close 59 = .ok (.ifCond .eq 8, 3) := dk_153 0 8 (dk_at dksX2_close_2 11 rfl rfl)
theorem dX2_close_62 : decode cX2_close 62 = .ok (.aload_n 0, 1) := dk_42 (dk_at dksX2_close_2 14 rfl rfl)
theorem dX2_close_63 : decode cX2_close 63 = .ok (.iload_n 1, 1) := dk_27 (dk_at dksX2_close_2 15 rfl rfl)
theorem dX2_close_64 : decode cX2_close 64 = .ok (.invokevirtual 134, 3) := dk_182 0 134 (dk_at dksX2_close_2 16 rfl rfl)
theorem dX2_close_67 : decode cX2_close 67 = .ok (.return_, 1) := dk_177 (dk_at dksX2_close_2 19 rfl rfl)
abbrev cX2_trace : ByteArray := prog_3_method_6_code
def yX2_trace : MethodName := ⟨RX2, "trace", "(II)V"⟩
def dkwX2_trace_2 : List UInt8 := [4, 96, 181, 0, 76, 177]
abbrev dktX2_trace_2 : List UInt8 := dkwX2_trace_2 ++ []
def dkwX2_trace_1 : List UInt8 := [180, 0, 63, 42, 180, 0, 76, 27, 79, 42, 180, 0, 66, 42, 180, 0, 76, 28, 79, 42, 89, 180, 0, 76]
abbrev dktX2_trace_1 : List UInt8 := dkwX2_trace_1 ++ dktX2_trace_2
def dkwX2_trace_0 : List UInt8 := [42, 180, 0, 76, 16, 60, 162, 0, 46, 42, 180, 0, 60, 42, 180, 0, 76, 42, 180, 0, 69, 79, 42]
abbrev dktX2_trace_0 : List UInt8 := dkwX2_trace_0 ++ dktX2_trace_1
theorem dksX2_trace_0 : cX2_trace.data.toList.drop 0 = dktX2_trace_0 := by decide +kernel
theorem dksX2_trace_1 : cX2_trace.data.toList.drop 23 = dktX2_trace_1 := dk_seg dksX2_trace_0 23 rfl rfl
theorem dksX2_trace_2 : cX2_trace.data.toList.drop 47 = dktX2_trace_2 := dk_seg dksX2_trace_1 24 rfl rfl
theorem dX2_trace_0 : decode cX2_trace 0 = .ok (.aload_n 0, 1) := dk_42 (dk_at dksX2_trace_0 0 rfl rfl)
theorem dX2_trace_1 : decode cX2_trace 1 = .ok (.getfield 76, 3) := dk_180 0 76 (dk_at dksX2_trace_0 1 rfl rfl)
theorem dX2_trace_4 : decode cX2_trace 4 = .ok (.bipush 60, 2) := dk_16 60 (dk_at dksX2_trace_0 4 rfl rfl)
theorem dX2_trace_6 : decode cX2_trace 6 = .ok (.if_icmp .ge 46, 3) := dk_162 0 46 (dk_at dksX2_trace_0 6 rfl rfl)
theorem dX2_trace_9 : decode cX2_trace 9 = .ok (.aload_n 0, 1) := dk_42 (dk_at dksX2_trace_0 9 rfl rfl)
theorem dX2_trace_10 : decode cX2_trace 10 = .ok (.getfield 60, 3) := dk_180 0 60 (dk_at dksX2_trace_0 10 rfl rfl)
theorem dX2_trace_13 : decode cX2_trace 13 = .ok (.aload_n 0, 1) := dk_42 (dk_at dksX2_trace_0 13 rfl rfl)
theorem dX2_trace_14 : decode cX2_trace 14 = .ok (.getfield 76, 3) := dk_180 0 76 (dk_at dksX2_trace_0 14 rfl rfl)
theorem dX2_trace_17 : decode cX2_trace 17 = .ok (.aload_n 0, 1) := dk_42 (dk_at dksX2_trace_0 17 rfl rfl)
theorem dX2_trace_18 : decode cX2_trace 18 = .ok (.getfield 69, 3) := dk_180 0 69 (dk_at dksX2_trace_0 18 rfl rfl)
theorem dX2_trace_21 : decode cX2_trace 21 = .ok (.iastore, 1) := dk_79 (dk_at dksX2_trace_0 21 rfl rfl)
theorem dX2_trace_22 : decode cX2_trace 22 = .ok (.aload_n 0, 1) := dk_42 (dk_at dksX2_trace_0 22 rfl rfl)
theorem dX2_trace_23 : decode cX2_trace 23 = .ok (.getfield 63, 3) := dk_180 0 63 (dk_at dksX2_trace_1 0 rfl rfl)
theorem dX2_trace_26 : decode cX2_trace 26 = .ok (.aload_n 0, 1) := dk_42 (dk_at dksX2_trace_1 3 rfl rfl)
theorem dX2_trace_27 : decode cX2_trace 27 = .ok (.getfield 76, 3) := dk_180 0 76 (dk_at dksX2_trace_1 4 rfl rfl)
theorem dX2_trace_30 : decode cX2_trace 30 = .ok (.iload_n 1, 1) := dk_27 (dk_at dksX2_trace_1 7 rfl rfl)
theorem dX2_trace_31 : decode cX2_trace 31 = .ok (.iastore, 1) := dk_79 (dk_at dksX2_trace_1 8 rfl rfl)
theorem dX2_trace_32 : decode cX2_trace 32 = .ok (.aload_n 0, 1) := dk_42 (dk_at dksX2_trace_1 9 rfl rfl)
theorem dX2_trace_33 : decode cX2_trace 33 = .ok (.getfield 66, 3) := dk_180 0 66 (dk_at dksX2_trace_1 10 rfl rfl)
theorem dX2_trace_36 : decode cX2_trace 36 = .ok (.aload_n 0, 1) := dk_42 (dk_at dksX2_trace_1 13 rfl rfl)
theorem dX2_trace_37 : decode cX2_trace 37 = .ok (.getfield 76, 3) := dk_180 0 76 (dk_at dksX2_trace_1 14 rfl rfl)
theorem dX2_trace_40 : decode cX2_trace 40 = .ok (.iload_n 2, 1) := dk_28 (dk_at dksX2_trace_1 17 rfl rfl)
theorem dX2_trace_41 : decode cX2_trace 41 = .ok (.iastore, 1) := dk_79 (dk_at dksX2_trace_1 18 rfl rfl)
theorem dX2_trace_42 : decode cX2_trace 42 = .ok (.aload_n 0, 1) := dk_42 (dk_at dksX2_trace_1 19 rfl rfl)
theorem dX2_trace_43 : decode cX2_trace 43 = .ok (.dup, 1) := dk_89 (dk_at dksX2_trace_1 20 rfl rfl)
theorem dX2_trace_44 : decode cX2_trace 44 = .ok (.getfield 76, 3) := dk_180 0 76 (dk_at dksX2_trace_1 21 rfl rfl)
theorem dX2_trace_47 : decode cX2_trace 47 = .ok (.iconst 1, 1) := dk_4 (dk_at dksX2_trace_2 0 rfl rfl)
theorem dX2_trace_48 : decode cX2_trace 48 = .ok (.iadd, 1) := dk_96 (dk_at dksX2_trace_2 1 rfl rfl)
theorem dX2_trace_49 : decode cX2_trace 49 = .ok (.putfield 76, 3) := dk_181 0 76 (dk_at dksX2_trace_2 2 rfl rfl)
theorem dX2_trace_52 : decode cX2_trace 52 = .ok (.return_, 1) := dk_177 (dk_at dksX2_trace_2 5 rfl rfl)
abbrev cX2_askChildren : ByteArray := prog_3_method_8_code
def yX2_askChildren : MethodName := ⟨RX2, "askChildren", "(I)V"⟩
def dkwX2_askChildren_2 : List UInt8 := [182, 0, 121, 61, 167, 255, 217, 177]
abbrev dktX2_askChildren_2 : List UInt8 := dkwX2_askChildren_2 ++ []
def dkwX2_askChildren_1 : List UInt8 := [180, 0, 125, 28, 46, 27, 160, 0, 11, 42, 180, 0, 30, 28, 182, 0, 85, 42, 180, 0, 20, 28, 4, 96]
abbrev dktX2_askChildren_1 : List UInt8 := dkwX2_askChildren_1 ++ dktX2_askChildren_2
def dkwX2_askChildren_0 : List UInt8 := [42, 180, 0, 20, 27, 4, 96, 182, 0, 121, 61, 28, 155, 0, 41, 42, 180, 0, 3, 180, 0, 107]
abbrev dktX2_askChildren_0 : List UInt8 := dkwX2_askChildren_0 ++ dktX2_askChildren_1
theorem dksX2_askChildren_0 : cX2_askChildren.data.toList.drop 0 = dktX2_askChildren_0 := by decide +kernel
theorem dksX2_askChildren_1 : cX2_askChildren.data.toList.drop 22 = dktX2_askChildren_1 := dk_seg dksX2_askChildren_0 22 rfl rfl
theorem dksX2_askChildren_2 : cX2_askChildren.data.toList.drop 46 = dktX2_askChildren_2 := dk_seg dksX2_askChildren_1 24 rfl rfl
theorem dX2_askChildren_0 : decode cX2_askChildren 0 = .ok (.aload_n 0, 1) := dk_42 (dk_at dksX2_askChildren_0 0 rfl rfl)
theorem dX2_askChildren_1 : decode cX2_askChildren 1 = .ok (.getfield 20, 3) := dk_180 0 20 (dk_at dksX2_askChildren_0 1 rfl rfl)
theorem dX2_askChildren_4 : decode cX2_askChildren 4 = .ok (.iload_n 1, 1) := dk_27 (dk_at dksX2_askChildren_0 4 rfl rfl)
theorem dX2_askChildren_5 : decode cX2_askChildren 5 = .ok (.iconst 1, 1) := dk_4 (dk_at dksX2_askChildren_0 5 rfl rfl)
theorem dX2_askChildren_6 : decode cX2_askChildren 6 = .ok (.iadd, 1) := dk_96 (dk_at dksX2_askChildren_0 6 rfl rfl)
theorem dX2_askChildren_7 : decode cX2_askChildren 7 = .ok (.invokevirtual 121, 3) := dk_182 0 121 (dk_at dksX2_askChildren_0 7 rfl rfl)
theorem dX2_askChildren_10 : decode cX2_askChildren 10 = .ok (.istore_n 2, 1) := dk_61 (dk_at dksX2_askChildren_0 10 rfl rfl)
theorem dX2_askChildren_11 : decode cX2_askChildren 11 = .ok (.iload_n 2, 1) := dk_28 (dk_at dksX2_askChildren_0 11 rfl rfl)
theorem dX2_askChildren_12 : decode cX2_askChildren 12 = .ok (.ifCond .lt 41, 3) := dk_155 0 41 (dk_at dksX2_askChildren_0 12 rfl rfl)
theorem dX2_askChildren_15 : decode cX2_askChildren 15 = .ok (.aload_n 0, 1) := dk_42 (dk_at dksX2_askChildren_0 15 rfl rfl)
theorem dX2_askChildren_16 : decode cX2_askChildren 16 = .ok (.getfield 3, 3) := dk_180 0 3 (dk_at dksX2_askChildren_0 16 rfl rfl)
theorem dX2_askChildren_19 : decode cX2_askChildren 19 = .ok (.getfield 107, 3) := dk_180 0 107 (dk_at dksX2_askChildren_0 19 rfl rfl)
theorem dX2_askChildren_22 : decode cX2_askChildren 22 = .ok (.getfield 125, 3) := dk_180 0 125 (dk_at dksX2_askChildren_1 0 rfl rfl)
theorem dX2_askChildren_25 : decode cX2_askChildren 25 = .ok (.iload_n 2, 1) := dk_28 (dk_at dksX2_askChildren_1 3 rfl rfl)
theorem dX2_askChildren_26 : decode cX2_askChildren 26 = .ok (.iaload, 1) := dk_46 (dk_at dksX2_askChildren_1 4 rfl rfl)
theorem dX2_askChildren_27 : decode cX2_askChildren 27 = .ok (.iload_n 1, 1) := dk_27 (dk_at dksX2_askChildren_1 5 rfl rfl)
theorem dX2_askChildren_28 : decode cX2_askChildren 28 = .ok (.if_icmp .ne 11, 3) := dk_160 0 11 (dk_at dksX2_askChildren_1 6 rfl rfl)
theorem dX2_askChildren_31 : decode cX2_askChildren 31 = .ok (.aload_n 0, 1) := dk_42 (dk_at dksX2_askChildren_1 9 rfl rfl)
theorem dX2_askChildren_32 : decode cX2_askChildren 32 = .ok (.getfield 30, 3) := dk_180 0 30 (dk_at dksX2_askChildren_1 10 rfl rfl)
theorem dX2_askChildren_35 : decode cX2_askChildren 35 = .ok (.iload_n 2, 1) := dk_28 (dk_at dksX2_askChildren_1 13 rfl rfl)
theorem dX2_askChildren_36 : decode cX2_askChildren 36 = .ok (.invokevirtual 85, 3) := dk_182 0 85 (dk_at dksX2_askChildren_1 14 rfl rfl)
theorem dX2_askChildren_39 : decode cX2_askChildren 39 = .ok (.aload_n 0, 1) := dk_42 (dk_at dksX2_askChildren_1 17 rfl rfl)
theorem dX2_askChildren_40 : decode cX2_askChildren 40 = .ok (.getfield 20, 3) := dk_180 0 20 (dk_at dksX2_askChildren_1 18 rfl rfl)
theorem dX2_askChildren_43 : decode cX2_askChildren 43 = .ok (.iload_n 2, 1) := dk_28 (dk_at dksX2_askChildren_1 21 rfl rfl)
theorem dX2_askChildren_44 : decode cX2_askChildren 44 = .ok (.iconst 1, 1) := dk_4 (dk_at dksX2_askChildren_1 22 rfl rfl)
theorem dX2_askChildren_45 : decode cX2_askChildren 45 = .ok (.iadd, 1) := dk_96 (dk_at dksX2_askChildren_1 23 rfl rfl)
theorem dX2_askChildren_46 : decode cX2_askChildren 46 = .ok (.invokevirtual 121, 3) := dk_182 0 121 (dk_at dksX2_askChildren_2 0 rfl rfl)
theorem dX2_askChildren_49 : decode cX2_askChildren 49 = .ok (.istore_n 2, 1) := dk_61 (dk_at dksX2_askChildren_2 3 rfl rfl)
theorem dX2_askChildren_50 : decode cX2_askChildren 50 = .ok (.goto (-39), 3) := dk_167 255 217 (dk_at dksX2_askChildren_2 4 rfl rfl)
theorem dX2_askChildren_53 : decode cX2_askChildren 53 = .ok (.return_, 1) := dk_177 (dk_at dksX2_askChildren_2 7 rfl rfl)
abbrev cX2_turn : ByteArray := prog_3_method_13_code
def yX2_turn : MethodName := ⟨RX2, "turn", "(I)V"⟩
def dkwX2_turn_3 : List UInt8 := [27, 182, 0, 164, 177]
abbrev dktX2_turn_3 : List UInt8 := dkwX2_turn_3 ++ []
def dkwX2_turn_2 : List UInt8 := [180, 0, 3, 180, 0, 107, 180, 0, 161, 27, 46, 160, 0, 12, 42, 27, 3, 182, 0, 155, 167, 0, 8, 42]
abbrev dktX2_turn_2 : List UInt8 := dkwX2_turn_2 ++ dktX2_turn_3
def dkwX2_turn_1 : List UInt8 := [180, 0, 158, 27, 46, 161, 0, 12, 42, 27, 5, 182, 0, 155, 167, 0, 38, 42, 180, 0, 37, 27, 46, 42]
abbrev dktX2_turn_1 : List UInt8 := dkwX2_turn_1 ++ dktX2_turn_2
def dkwX2_turn_0 : List UInt8 := [42, 180, 0, 30, 27, 182, 0, 103, 153, 0, 33, 42, 180, 0, 37, 27, 46, 42, 180, 0, 3, 180, 0, 107]
abbrev dktX2_turn_0 : List UInt8 := dkwX2_turn_0 ++ dktX2_turn_1
theorem dksX2_turn_0 : cX2_turn.data.toList.drop 0 = dktX2_turn_0 := by decide +kernel
theorem dksX2_turn_1 : cX2_turn.data.toList.drop 24 = dktX2_turn_1 := dk_seg dksX2_turn_0 24 rfl rfl
theorem dksX2_turn_2 : cX2_turn.data.toList.drop 48 = dktX2_turn_2 := dk_seg dksX2_turn_1 24 rfl rfl
theorem dksX2_turn_3 : cX2_turn.data.toList.drop 72 = dktX2_turn_3 := dk_seg dksX2_turn_2 24 rfl rfl
theorem dX2_turn_0 : decode cX2_turn 0 = .ok (.aload_n 0, 1) := dk_42 (dk_at dksX2_turn_0 0 rfl rfl)
theorem dX2_turn_1 : decode cX2_turn 1 = .ok (.getfield 30, 3) := dk_180 0 30 (dk_at dksX2_turn_0 1 rfl rfl)
theorem dX2_turn_4 : decode cX2_turn 4 = .ok (.iload_n 1, 1) := dk_27 (dk_at dksX2_turn_0 4 rfl rfl)
theorem dX2_turn_5 : decode cX2_turn 5 = .ok (.invokevirtual 103, 3) := dk_182 0 103 (dk_at dksX2_turn_0 5 rfl rfl)
theorem dX2_turn_8 : decode cX2_turn 8 = .ok (.ifCond .eq 33, 3) := dk_153 0 33 (dk_at dksX2_turn_0 8 rfl rfl)
theorem dX2_turn_11 : decode cX2_turn 11 = .ok (.aload_n 0, 1) := dk_42 (dk_at dksX2_turn_0 11 rfl rfl)
theorem dX2_turn_12 : decode cX2_turn 12 = .ok (.getfield 37, 3) := dk_180 0 37 (dk_at dksX2_turn_0 12 rfl rfl)
theorem dX2_turn_15 : decode cX2_turn 15 = .ok (.iload_n 1, 1) := dk_27 (dk_at dksX2_turn_0 15 rfl rfl)
theorem dX2_turn_16 : decode cX2_turn 16 = .ok (.iaload, 1) := dk_46 (dk_at dksX2_turn_0 16 rfl rfl)
theorem dX2_turn_17 : decode cX2_turn 17 = .ok (.aload_n 0, 1) := dk_42 (dk_at dksX2_turn_0 17 rfl rfl)
theorem dX2_turn_18 : decode cX2_turn 18 = .ok (.getfield 3, 3) := dk_180 0 3 (dk_at dksX2_turn_0 18 rfl rfl)
theorem dX2_turn_21 : decode cX2_turn 21 = .ok (.getfield 107, 3) := dk_180 0 107 (dk_at dksX2_turn_0 21 rfl rfl)
theorem dX2_turn_24 : decode cX2_turn 24 = .ok (.getfield 158, 3) := dk_180 0 158 (dk_at dksX2_turn_1 0 rfl rfl)
theorem dX2_turn_27 : decode cX2_turn 27 = .ok (.iload_n 1, 1) := dk_27 (dk_at dksX2_turn_1 3 rfl rfl)
theorem dX2_turn_28 : decode cX2_turn 28 = .ok (.iaload, 1) := dk_46 (dk_at dksX2_turn_1 4 rfl rfl)
theorem dX2_turn_29 : decode cX2_turn 29 = .ok (.if_icmp .lt 12, 3) := dk_161 0 12 (dk_at dksX2_turn_1 5 rfl rfl)
theorem dX2_turn_32 : decode cX2_turn 32 = .ok (.aload_n 0, 1) := dk_42 (dk_at dksX2_turn_1 8 rfl rfl)
theorem dX2_turn_33 : decode cX2_turn 33 = .ok (.iload_n 1, 1) := dk_27 (dk_at dksX2_turn_1 9 rfl rfl)
theorem dX2_turn_34 : decode cX2_turn 34 = .ok (.iconst 2, 1) := dk_5 (dk_at dksX2_turn_1 10 rfl rfl)
theorem dX2_turn_35 : decode cX2_turn 35 = .ok (.invokevirtual 155, 3) := dk_182 0 155 (dk_at dksX2_turn_1 11 rfl rfl)
theorem dX2_turn_38 : decode cX2_turn 38 = .ok (.goto 38, 3) := dk_167 0 38 (dk_at dksX2_turn_1 14 rfl rfl)
theorem dX2_turn_41 : decode cX2_turn 41 = .ok (.aload_n 0, 1) := dk_42 (dk_at dksX2_turn_1 17 rfl rfl)
theorem dX2_turn_42 : decode cX2_turn 42 = .ok (.getfield 37, 3) := dk_180 0 37 (dk_at dksX2_turn_1 18 rfl rfl)
theorem dX2_turn_45 : decode cX2_turn 45 = .ok (.iload_n 1, 1) := dk_27 (dk_at dksX2_turn_1 21 rfl rfl)
theorem dX2_turn_46 : decode cX2_turn 46 = .ok (.iaload, 1) := dk_46 (dk_at dksX2_turn_1 22 rfl rfl)
theorem dX2_turn_47 : decode cX2_turn 47 = .ok (.aload_n 0, 1) := dk_42 (dk_at dksX2_turn_1 23 rfl rfl)
theorem dX2_turn_48 : decode cX2_turn 48 = .ok (.getfield 3, 3) := dk_180 0 3 (dk_at dksX2_turn_2 0 rfl rfl)
theorem dX2_turn_51 : decode cX2_turn 51 = .ok (.getfield 107, 3) := dk_180 0 107 (dk_at dksX2_turn_2 3 rfl rfl)
theorem dX2_turn_54 : decode cX2_turn 54 = .ok (.getfield 161, 3) := dk_180 0 161 (dk_at dksX2_turn_2 6 rfl rfl)
theorem dX2_turn_57 : decode cX2_turn 57 = .ok (.iload_n 1, 1) := dk_27 (dk_at dksX2_turn_2 9 rfl rfl)
theorem dX2_turn_58 : decode cX2_turn 58 = .ok (.iaload, 1) := dk_46 (dk_at dksX2_turn_2 10 rfl rfl)
theorem dX2_turn_59 : decode cX2_turn 59 = .ok (.if_icmp .ne 12, 3) := dk_160 0 12 (dk_at dksX2_turn_2 11 rfl rfl)
theorem dX2_turn_62 : decode cX2_turn 62 = .ok (.aload_n 0, 1) := dk_42 (dk_at dksX2_turn_2 14 rfl rfl)
theorem dX2_turn_63 : decode cX2_turn 63 = .ok (.iload_n 1, 1) := dk_27 (dk_at dksX2_turn_2 15 rfl rfl)
theorem dX2_turn_64 : decode cX2_turn 64 = .ok (.iconst 0, 1) := dk_3 (dk_at dksX2_turn_2 16 rfl rfl)
theorem dX2_turn_65 : decode cX2_turn 65 = .ok (.invokevirtual 155, 3) := dk_182 0 155 (dk_at dksX2_turn_2 17 rfl rfl)
theorem dX2_turn_68 : decode cX2_turn 68 = .ok (.goto 8, 3) := dk_167 0 8 (dk_at dksX2_turn_2 20 rfl rfl)
theorem dX2_turn_71 : decode cX2_turn 71 = .ok (.aload_n 0, 1) := dk_42 (dk_at dksX2_turn_2 23 rfl rfl)
theorem dX2_turn_72 : decode cX2_turn 72 = .ok (.iload_n 1, 1) := dk_27 (dk_at dksX2_turn_3 0 rfl rfl)
theorem dX2_turn_73 : decode cX2_turn 73 = .ok (.invokevirtual 164, 3) := dk_182 0 164 (dk_at dksX2_turn_3 1 rfl rfl)
theorem dX2_turn_76 : decode cX2_turn 76 = .ok (.return_, 1) := dk_177 (dk_at dksX2_turn_3 4 rfl rfl)
abbrev cX2_goOn : ByteArray := prog_3_method_12_code
def yX2_goOn : MethodName := ⟨RX2, "goOn", "(I)V"⟩
def dkwX2_goOn_7 : List UInt8 := [180, 0, 3, 180, 0, 107, 180, 0, 143, 27, 50, 28, 46, 182, 0, 152, 42, 27, 4, 182, 0, 155, 177]
abbrev dktX2_goOn_7 : List UInt8 := dkwX2_goOn_7 ++ []
def dkwX2_goOn_6 : List UInt8 := [167, 0, 46, 42, 180, 0, 37, 27, 92, 46, 4, 96, 79, 42, 27, 182, 0, 134, 167, 0, 28, 42, 27, 42]
abbrev dktX2_goOn_6 : List UInt8 := dkwX2_goOn_6 ++ dktX2_goOn_7
def dkwX2_goOn_5 : List UInt8 := [42, 180, 0, 37, 27, 92, 46, 42, 27, 182, 0, 149, 153, 0, 7, 3, 167, 0, 4, 4, 96, 79]
abbrev dktX2_goOn_5 : List UInt8 := dkwX2_goOn_5 ++ dktX2_goOn_6
def dkwX2_goOn_4 : List UInt8 := [4, 96, 79, 167, 0, 89, 42, 180, 0, 37, 27, 92, 46, 4, 96, 79, 42, 27, 182, 0, 146, 167, 0, 71]
abbrev dktX2_goOn_4 : List UInt8 := dkwX2_goOn_4 ++ dktX2_goOn_5
def dkwX2_goOn_3 : List UInt8 := [180, 0, 143, 27, 50, 28, 46, 160, 0, 109, 42, 180, 0, 40, 27, 3, 79, 42, 180, 0, 37, 27, 92, 46]
abbrev dktX2_goOn_3 : List UInt8 := dkwX2_goOn_3 ++ dktX2_goOn_4
def dkwX2_goOn_2 : List UInt8 := [42, 180, 0, 40, 27, 92, 46, 4, 96, 79, 42, 180, 0, 40, 27, 46, 42, 180, 0, 3, 180, 0, 107]
abbrev dktX2_goOn_2 : List UInt8 := dkwX2_goOn_2 ++ dktX2_goOn_3
def dkwX2_goOn_1 : List UInt8 := [170, 0, 0, 0, 0, 0, 145, 0, 0, 0, 0, 0, 0, 0, 3, 0, 0, 0, 31, 0, 0, 0, 84, 0, 0, 0, 102, 0, 0, 0, 127]
abbrev dktX2_goOn_1 : List UInt8 := dkwX2_goOn_1 ++ dktX2_goOn_2
def dkwX2_goOn_0 : List UInt8 := [42, 180, 0, 37, 27, 46, 61, 42, 180, 0, 3, 180, 0, 107, 180, 0, 140, 27, 50, 28, 46]
abbrev dktX2_goOn_0 : List UInt8 := dkwX2_goOn_0 ++ dktX2_goOn_1
theorem dksX2_goOn_0 : cX2_goOn.data.toList.drop 0 = dktX2_goOn_0 := by decide +kernel
theorem dksX2_goOn_1 : cX2_goOn.data.toList.drop 21 = dktX2_goOn_1 := dk_seg dksX2_goOn_0 21 rfl rfl
theorem dksX2_goOn_2 : cX2_goOn.data.toList.drop 52 = dktX2_goOn_2 := dk_seg dksX2_goOn_1 31 rfl rfl
theorem dksX2_goOn_3 : cX2_goOn.data.toList.drop 75 = dktX2_goOn_3 := dk_seg dksX2_goOn_2 23 rfl rfl
theorem dksX2_goOn_4 : cX2_goOn.data.toList.drop 99 = dktX2_goOn_4 := dk_seg dksX2_goOn_3 24 rfl rfl
theorem dksX2_goOn_5 : cX2_goOn.data.toList.drop 123 = dktX2_goOn_5 := dk_seg dksX2_goOn_4 24 rfl rfl
theorem dksX2_goOn_6 : cX2_goOn.data.toList.drop 145 = dktX2_goOn_6 := dk_seg dksX2_goOn_5 22 rfl rfl
theorem dksX2_goOn_7 : cX2_goOn.data.toList.drop 169 = dktX2_goOn_7 := dk_seg dksX2_goOn_6 24 rfl rfl
theorem dX2_goOn_0 : decode cX2_goOn 0 = .ok (.aload_n 0, 1) := dk_42 (dk_at dksX2_goOn_0 0 rfl rfl)
theorem dX2_goOn_1 : decode cX2_goOn 1 = .ok (.getfield 37, 3) := dk_180 0 37 (dk_at dksX2_goOn_0 1 rfl rfl)
theorem dX2_goOn_4 : decode cX2_goOn 4 = .ok (.iload_n 1, 1) := dk_27 (dk_at dksX2_goOn_0 4 rfl rfl)
theorem dX2_goOn_5 : decode cX2_goOn 5 = .ok (.iaload, 1) := dk_46 (dk_at dksX2_goOn_0 5 rfl rfl)
theorem dX2_goOn_6 : decode cX2_goOn 6 = .ok (.istore_n 2, 1) := dk_61 (dk_at dksX2_goOn_0 6 rfl rfl)
theorem dX2_goOn_7 : decode cX2_goOn 7 = .ok (.aload_n 0, 1) := dk_42 (dk_at dksX2_goOn_0 7 rfl rfl)
theorem dX2_goOn_8 : decode cX2_goOn 8 = .ok (.getfield 3, 3) := dk_180 0 3 (dk_at dksX2_goOn_0 8 rfl rfl)
theorem dX2_goOn_11 : decode cX2_goOn 11 = .ok (.getfield 107, 3) := dk_180 0 107 (dk_at dksX2_goOn_0 11 rfl rfl)
theorem dX2_goOn_14 : decode cX2_goOn 14 = .ok (.getfield 140, 3) := dk_180 0 140 (dk_at dksX2_goOn_0 14 rfl rfl)
theorem dX2_goOn_17 : decode cX2_goOn 17 = .ok (.iload_n 1, 1) := dk_27 (dk_at dksX2_goOn_0 17 rfl rfl)
theorem dX2_goOn_18 : decode cX2_goOn 18 = .ok (.aaload, 1) := dk_50 (dk_at dksX2_goOn_0 18 rfl rfl)
theorem dX2_goOn_19 : decode cX2_goOn 19 = .ok (.iload_n 2, 1) := dk_28 (dk_at dksX2_goOn_0 19 rfl rfl)
theorem dX2_goOn_20 : decode cX2_goOn 20 = .ok (.iaload, 1) := dk_46 (dk_at dksX2_goOn_0 20 rfl rfl)
theorem dX2_goOn_21 : decode cX2_goOn 21 = .ok (.tableswitch 145 0 3 #[31, 84, 102, 127], 31) := by decide +kernel
theorem dX2_goOn_52 : decode cX2_goOn 52 = .ok (.aload_n 0, 1) := dk_42 (dk_at dksX2_goOn_2 0 rfl rfl)
theorem dX2_goOn_53 : decode cX2_goOn 53 = .ok (.getfield 40, 3) := dk_180 0 40 (dk_at dksX2_goOn_2 1 rfl rfl)
theorem dX2_goOn_56 : decode cX2_goOn 56 = .ok (.iload_n 1, 1) := dk_27 (dk_at dksX2_goOn_2 4 rfl rfl)
theorem dX2_goOn_57 : decode cX2_goOn 57 = .ok (.dup2, 1) := dk_92 (dk_at dksX2_goOn_2 5 rfl rfl)
theorem dX2_goOn_58 : decode cX2_goOn 58 = .ok (.iaload, 1) := dk_46 (dk_at dksX2_goOn_2 6 rfl rfl)
theorem dX2_goOn_59 : decode cX2_goOn 59 = .ok (.iconst 1, 1) := dk_4 (dk_at dksX2_goOn_2 7 rfl rfl)
theorem dX2_goOn_60 : decode cX2_goOn 60 = .ok (.iadd, 1) := dk_96 (dk_at dksX2_goOn_2 8 rfl rfl)
theorem dX2_goOn_61 : decode cX2_goOn 61 = .ok (.iastore, 1) := dk_79 (dk_at dksX2_goOn_2 9 rfl rfl)
theorem dX2_goOn_62 : decode cX2_goOn 62 = .ok (.aload_n 0, 1) := dk_42 (dk_at dksX2_goOn_2 10 rfl rfl)
theorem dX2_goOn_63 : decode cX2_goOn 63 = .ok (.getfield 40, 3) := dk_180 0 40 (dk_at dksX2_goOn_2 11 rfl rfl)
theorem dX2_goOn_66 : decode cX2_goOn 66 = .ok (.iload_n 1, 1) := dk_27 (dk_at dksX2_goOn_2 14 rfl rfl)
theorem dX2_goOn_67 : decode cX2_goOn 67 = .ok (.iaload, 1) := dk_46 (dk_at dksX2_goOn_2 15 rfl rfl)
theorem dX2_goOn_68 : decode cX2_goOn 68 = .ok (.aload_n 0, 1) := dk_42 (dk_at dksX2_goOn_2 16 rfl rfl)
theorem dX2_goOn_69 : decode cX2_goOn 69 = .ok (.getfield 3, 3) := dk_180 0 3 (dk_at dksX2_goOn_2 17 rfl rfl)
theorem dX2_goOn_72 : decode cX2_goOn 72 = .ok (.getfield 107, 3) := dk_180 0 107 (dk_at dksX2_goOn_2 20 rfl rfl)
theorem dX2_goOn_75 : decode cX2_goOn 75 = .ok (.getfield 143, 3) := dk_180 0 143 (dk_at dksX2_goOn_3 0 rfl rfl)
theorem dX2_goOn_78 : decode cX2_goOn 78 = .ok (.iload_n 1, 1) := dk_27 (dk_at dksX2_goOn_3 3 rfl rfl)
theorem dX2_goOn_79 : decode cX2_goOn 79 = .ok (.aaload, 1) := dk_50 (dk_at dksX2_goOn_3 4 rfl rfl)
theorem dX2_goOn_80 : decode cX2_goOn 80 = .ok (.iload_n 2, 1) := dk_28 (dk_at dksX2_goOn_3 5 rfl rfl)
theorem dX2_goOn_81 : decode cX2_goOn 81 = .ok (.iaload, 1) := dk_46 (dk_at dksX2_goOn_3 6 rfl rfl)
theorem dX2_goOn_82 : decode cX2_goOn 82 = .ok (.if_icmp .ne 109, 3) := dk_160 0 109 (dk_at dksX2_goOn_3 7 rfl rfl)
theorem dX2_goOn_85 : decode cX2_goOn 85 = .ok (.aload_n 0, 1) := dk_42 (dk_at dksX2_goOn_3 10 rfl rfl)
theorem dX2_goOn_86 : decode cX2_goOn 86 = .ok (.getfield 40, 3) := dk_180 0 40 (dk_at dksX2_goOn_3 11 rfl rfl)
theorem dX2_goOn_89 : decode cX2_goOn 89 = .ok (.iload_n 1, 1) := dk_27 (dk_at dksX2_goOn_3 14 rfl rfl)
theorem dX2_goOn_90 : decode cX2_goOn 90 = .ok (.iconst 0, 1) := dk_3 (dk_at dksX2_goOn_3 15 rfl rfl)
theorem dX2_goOn_91 : decode cX2_goOn 91 = .ok (.iastore, 1) := dk_79 (dk_at dksX2_goOn_3 16 rfl rfl)
theorem dX2_goOn_92 : decode cX2_goOn 92 = .ok (.aload_n 0, 1) := dk_42 (dk_at dksX2_goOn_3 17 rfl rfl)
theorem dX2_goOn_93 : decode cX2_goOn 93 = .ok (.getfield 37, 3) := dk_180 0 37 (dk_at dksX2_goOn_3 18 rfl rfl)
theorem dX2_goOn_96 : decode cX2_goOn 96 = .ok (.iload_n 1, 1) := dk_27 (dk_at dksX2_goOn_3 21 rfl rfl)
theorem dX2_goOn_97 : decode cX2_goOn 97 = .ok (.dup2, 1) := dk_92 (dk_at dksX2_goOn_3 22 rfl rfl)
theorem dX2_goOn_98 : decode cX2_goOn 98 = .ok (.iaload, 1) := dk_46 (dk_at dksX2_goOn_3 23 rfl rfl)
theorem dX2_goOn_99 : decode cX2_goOn 99 = .ok (.iconst 1, 1) := dk_4 (dk_at dksX2_goOn_4 0 rfl rfl)
theorem dX2_goOn_100 : decode cX2_goOn 100 = .ok (.iadd, 1) := dk_96 (dk_at dksX2_goOn_4 1 rfl rfl)
theorem dX2_goOn_101 : decode cX2_goOn 101 = .ok (.iastore, 1) := dk_79 (dk_at dksX2_goOn_4 2 rfl rfl)
theorem dX2_goOn_102 : decode cX2_goOn 102 = .ok (.goto 89, 3) := dk_167 0 89 (dk_at dksX2_goOn_4 3 rfl rfl)
theorem dX2_goOn_105 : decode cX2_goOn 105 = .ok (.aload_n 0, 1) := dk_42 (dk_at dksX2_goOn_4 6 rfl rfl)
theorem dX2_goOn_106 : decode cX2_goOn 106 = .ok (.getfield 37, 3) := dk_180 0 37 (dk_at dksX2_goOn_4 7 rfl rfl)
theorem dX2_goOn_109 : decode cX2_goOn 109 = .ok (.iload_n 1, 1) := dk_27 (dk_at dksX2_goOn_4 10 rfl rfl)
theorem dX2_goOn_110 : decode cX2_goOn 110 = .ok (.dup2, 1) := dk_92 (dk_at dksX2_goOn_4 11 rfl rfl)
theorem dX2_goOn_111 : decode cX2_goOn 111 = .ok (.iaload, 1) := dk_46 (dk_at dksX2_goOn_4 12 rfl rfl)
theorem dX2_goOn_112 : decode cX2_goOn 112 = .ok (.iconst 1, 1) := dk_4 (dk_at dksX2_goOn_4 13 rfl rfl)
theorem dX2_goOn_113 : decode cX2_goOn 113 = .ok (.iadd, 1) := dk_96 (dk_at dksX2_goOn_4 14 rfl rfl)
theorem dX2_goOn_114 : decode cX2_goOn 114 = .ok (.iastore, 1) := dk_79 (dk_at dksX2_goOn_4 15 rfl rfl)
theorem dX2_goOn_115 : decode cX2_goOn 115 = .ok (.aload_n 0, 1) := dk_42 (dk_at dksX2_goOn_4 16 rfl rfl)
theorem dX2_goOn_116 : decode cX2_goOn 116 = .ok (.iload_n 1, 1) := dk_27 (dk_at dksX2_goOn_4 17 rfl rfl)
theorem dX2_goOn_117 : decode cX2_goOn 117 = .ok (.invokevirtual 146, 3) := dk_182 0 146 (dk_at dksX2_goOn_4 18 rfl rfl)
theorem dX2_goOn_120 : decode cX2_goOn 120 = .ok (.goto 71, 3) := dk_167 0 71 (dk_at dksX2_goOn_4 21 rfl rfl)
theorem dX2_goOn_123 : decode cX2_goOn 123 = .ok (.aload_n 0, 1) := dk_42 (dk_at dksX2_goOn_5 0 rfl rfl)
theorem dX2_goOn_124 : decode cX2_goOn 124 = .ok (.getfield 37, 3) := dk_180 0 37 (dk_at dksX2_goOn_5 1 rfl rfl)
theorem dX2_goOn_127 : decode cX2_goOn 127 = .ok (.iload_n 1, 1) := dk_27 (dk_at dksX2_goOn_5 4 rfl rfl)
theorem dX2_goOn_128 : decode cX2_goOn 128 = .ok (.dup2, 1) := dk_92 (dk_at dksX2_goOn_5 5 rfl rfl)
theorem dX2_goOn_129 : decode cX2_goOn 129 = .ok (.iaload, 1) := dk_46 (dk_at dksX2_goOn_5 6 rfl rfl)
theorem dX2_goOn_130 : decode cX2_goOn 130 = .ok (.aload_n 0, 1) := dk_42 (dk_at dksX2_goOn_5 7 rfl rfl)
theorem dX2_goOn_131 : decode cX2_goOn 131 = .ok (.iload_n 1, 1) := dk_27 (dk_at dksX2_goOn_5 8 rfl rfl)
theorem dX2_goOn_132 : decode cX2_goOn 132 = .ok (.invokevirtual 149, 3) := dk_182 0 149 (dk_at dksX2_goOn_5 9 rfl rfl)
theorem dX2_goOn_135 : decode cX2_goOn 135 = .ok (.ifCond .eq 7, 3) := dk_153 0 7 (dk_at dksX2_goOn_5 12 rfl rfl)
theorem dX2_goOn_138 : decode cX2_goOn 138 = .ok (.iconst 0, 1) := dk_3 (dk_at dksX2_goOn_5 15 rfl rfl)
theorem dX2_goOn_139 : decode cX2_goOn 139 = .ok (.goto 4, 3) := dk_167 0 4 (dk_at dksX2_goOn_5 16 rfl rfl)
theorem dX2_goOn_142 : decode cX2_goOn 142 = .ok (.iconst 1, 1) := dk_4 (dk_at dksX2_goOn_5 19 rfl rfl)
theorem dX2_goOn_143 : decode cX2_goOn 143 = .ok (.iadd, 1) := dk_96 (dk_at dksX2_goOn_5 20 rfl rfl)
theorem dX2_goOn_144 : decode cX2_goOn 144 = .ok (.iastore, 1) := dk_79 (dk_at dksX2_goOn_5 21 rfl rfl)
theorem dX2_goOn_145 : decode cX2_goOn 145 = .ok (.goto 46, 3) := dk_167 0 46 (dk_at dksX2_goOn_6 0 rfl rfl)
theorem dX2_goOn_148 : decode cX2_goOn 148 = .ok (.aload_n 0, 1) := dk_42 (dk_at dksX2_goOn_6 3 rfl rfl)
theorem dX2_goOn_149 : decode cX2_goOn 149 = .ok (.getfield 37, 3) := dk_180 0 37 (dk_at dksX2_goOn_6 4 rfl rfl)
theorem dX2_goOn_152 : decode cX2_goOn 152 = .ok (.iload_n 1, 1) := dk_27 (dk_at dksX2_goOn_6 7 rfl rfl)
theorem dX2_goOn_153 : decode cX2_goOn 153 = .ok (.dup2, 1) := dk_92 (dk_at dksX2_goOn_6 8 rfl rfl)
theorem dX2_goOn_154 : decode cX2_goOn 154 = .ok (.iaload, 1) := dk_46 (dk_at dksX2_goOn_6 9 rfl rfl)
theorem dX2_goOn_155 : decode cX2_goOn 155 = .ok (.iconst 1, 1) := dk_4 (dk_at dksX2_goOn_6 10 rfl rfl)
theorem dX2_goOn_156 : decode cX2_goOn 156 = .ok (.iadd, 1) := dk_96 (dk_at dksX2_goOn_6 11 rfl rfl)
theorem dX2_goOn_157 : decode cX2_goOn 157 = .ok (.iastore, 1) := dk_79 (dk_at dksX2_goOn_6 12 rfl rfl)
theorem dX2_goOn_158 : decode cX2_goOn 158 = .ok (.aload_n 0, 1) := dk_42 (dk_at dksX2_goOn_6 13 rfl rfl)
theorem dX2_goOn_159 : decode cX2_goOn 159 = .ok (.iload_n 1, 1) := dk_27 (dk_at dksX2_goOn_6 14 rfl rfl)
theorem dX2_goOn_160 : decode cX2_goOn 160 = .ok (.invokevirtual 134, 3) := dk_182 0 134 (dk_at dksX2_goOn_6 15 rfl rfl)
theorem dX2_goOn_163 : decode cX2_goOn 163 = .ok (.goto 28, 3) := dk_167 0 28 (dk_at dksX2_goOn_6 18 rfl rfl)
theorem dX2_goOn_166 : decode cX2_goOn 166 = .ok (.aload_n 0, 1) := dk_42 (dk_at dksX2_goOn_6 21 rfl rfl)
theorem dX2_goOn_167 : decode cX2_goOn 167 = .ok (.iload_n 1, 1) := dk_27 (dk_at dksX2_goOn_6 22 rfl rfl)
theorem dX2_goOn_168 : decode cX2_goOn 168 = .ok (.aload_n 0, 1) := dk_42 (dk_at dksX2_goOn_6 23 rfl rfl)
theorem dX2_goOn_169 : decode cX2_goOn 169 = .ok (.getfield 3, 3) := dk_180 0 3 (dk_at dksX2_goOn_7 0 rfl rfl)
theorem dX2_goOn_172 : decode cX2_goOn 172 = .ok (.getfield 107, 3) := dk_180 0 107 (dk_at dksX2_goOn_7 3 rfl rfl)
theorem dX2_goOn_175 : decode cX2_goOn 175 = .ok (.getfield 143, 3) := dk_180 0 143 (dk_at dksX2_goOn_7 6 rfl rfl)
theorem dX2_goOn_178 : decode cX2_goOn 178 = .ok (.iload_n 1, 1) := dk_27 (dk_at dksX2_goOn_7 9 rfl rfl)
theorem dX2_goOn_179 : decode cX2_goOn 179 = .ok (.aaload, 1) := dk_50 (dk_at dksX2_goOn_7 10 rfl rfl)
theorem dX2_goOn_180 : decode cX2_goOn 180 = .ok (.iload_n 2, 1) := dk_28 (dk_at dksX2_goOn_7 11 rfl rfl)
theorem dX2_goOn_181 : decode cX2_goOn 181 = .ok (.iaload, 1) := dk_46 (dk_at dksX2_goOn_7 12 rfl rfl)
theorem dX2_goOn_182 : decode cX2_goOn 182 = .ok (.invokevirtual 152, 3) := dk_182 0 152 (dk_at dksX2_goOn_7 13 rfl rfl)
theorem dX2_goOn_185 : decode cX2_goOn 185 = .ok (.aload_n 0, 1) := dk_42 (dk_at dksX2_goOn_7 16 rfl rfl)
theorem dX2_goOn_186 : decode cX2_goOn 186 = .ok (.iload_n 1, 1) := dk_27 (dk_at dksX2_goOn_7 17 rfl rfl)
theorem dX2_goOn_187 : decode cX2_goOn 187 = .ok (.iconst 1, 1) := dk_4 (dk_at dksX2_goOn_7 18 rfl rfl)
theorem dX2_goOn_188 : decode cX2_goOn 188 = .ok (.invokevirtual 155, 3) := dk_182 0 155 (dk_at dksX2_goOn_7 19 rfl rfl)
theorem dX2_goOn_191 : decode cX2_goOn 191 = .ok (.return_, 1) := dk_177 (dk_at dksX2_goOn_7 22 rfl rfl)
abbrev cX2_begin : ByteArray := prog_3_method_10_code
def yX2_begin : MethodName := ⟨RX2, "begin", "(I)V"⟩
def dkwX2_begin_4 : List UInt8 := [180, 0, 43, 27, 46, 182, 0, 89, 79, 42, 28, 3, 182, 0, 130, 177]
abbrev dktX2_begin_4 : List UInt8 := dkwX2_begin_4 ++ []
def dkwX2_begin_3 : List UInt8 := [28, 182, 0, 85, 42, 180, 0, 46, 28, 42, 180, 0, 69, 79, 42, 180, 0, 43, 28, 42, 28, 42]
abbrev dktX2_begin_3 : List UInt8 := dkwX2_begin_3 ++ dktX2_begin_4
def dkwX2_begin_2 : List UInt8 := [132, 2, 1, 167, 255, 212, 28, 42, 180, 0, 3, 180, 0, 107, 180, 0, 137, 162, 0, 44, 42, 180, 0, 20]
abbrev dktX2_begin_2 : List UInt8 := dkwX2_begin_2 ++ dktX2_begin_3
def dkwX2_begin_1 : List UInt8 := [180, 0, 107, 180, 0, 125, 28, 46, 27, 160, 0, 14, 42, 180, 0, 46, 28, 46, 16, 247, 159, 0, 9]
abbrev dktX2_begin_1 : List UInt8 := dkwX2_begin_1 ++ dktX2_begin_2
def dkwX2_begin_0 : List UInt8 := [27, 4, 96, 61, 28, 42, 180, 0, 3, 180, 0, 107, 180, 0, 137, 162, 0, 36, 42, 180, 0, 3]
abbrev dktX2_begin_0 : List UInt8 := dkwX2_begin_0 ++ dktX2_begin_1
theorem dksX2_begin_0 : cX2_begin.data.toList.drop 0 = dktX2_begin_0 := by decide +kernel
theorem dksX2_begin_1 : cX2_begin.data.toList.drop 22 = dktX2_begin_1 := dk_seg dksX2_begin_0 22 rfl rfl
theorem dksX2_begin_2 : cX2_begin.data.toList.drop 45 = dktX2_begin_2 := dk_seg dksX2_begin_1 23 rfl rfl
theorem dksX2_begin_3 : cX2_begin.data.toList.drop 69 = dktX2_begin_3 := dk_seg dksX2_begin_2 24 rfl rfl
theorem dksX2_begin_4 : cX2_begin.data.toList.drop 91 = dktX2_begin_4 := dk_seg dksX2_begin_3 22 rfl rfl
theorem dX2_begin_0 : decode cX2_begin 0 = .ok (.iload_n 1, 1) := dk_27 (dk_at dksX2_begin_0 0 rfl rfl)
theorem dX2_begin_1 : decode cX2_begin 1 = .ok (.iconst 1, 1) := dk_4 (dk_at dksX2_begin_0 1 rfl rfl)
theorem dX2_begin_2 : decode cX2_begin 2 = .ok (.iadd, 1) := dk_96 (dk_at dksX2_begin_0 2 rfl rfl)
theorem dX2_begin_3 : decode cX2_begin 3 = .ok (.istore_n 2, 1) := dk_61 (dk_at dksX2_begin_0 3 rfl rfl)
theorem dX2_begin_4 : decode cX2_begin 4 = .ok (.iload_n 2, 1) := dk_28 (dk_at dksX2_begin_0 4 rfl rfl)
theorem dX2_begin_5 : decode cX2_begin 5 = .ok (.aload_n 0, 1) := dk_42 (dk_at dksX2_begin_0 5 rfl rfl)
theorem dX2_begin_6 : decode cX2_begin 6 = .ok (.getfield 3, 3) := dk_180 0 3 (dk_at dksX2_begin_0 6 rfl rfl)
theorem dX2_begin_9 : decode cX2_begin 9 = .ok (.getfield 107, 3) := dk_180 0 107 (dk_at dksX2_begin_0 9 rfl rfl)
theorem dX2_begin_12 : decode cX2_begin 12 = .ok (.getfield 137, 3) := dk_180 0 137 (dk_at dksX2_begin_0 12 rfl rfl)
theorem dX2_begin_15 : decode cX2_begin 15 = .ok (.if_icmp .ge 36, 3) := dk_162 0 36 (dk_at dksX2_begin_0 15 rfl rfl)
theorem dX2_begin_18 : decode cX2_begin 18 = .ok (.aload_n 0, 1) := dk_42 (dk_at dksX2_begin_0 18 rfl rfl)
theorem dX2_begin_19 : decode cX2_begin 19 = .ok (.getfield 3, 3) := dk_180 0 3 (dk_at dksX2_begin_0 19 rfl rfl)
theorem dX2_begin_22 : decode cX2_begin 22 = .ok (.getfield 107, 3) := dk_180 0 107 (dk_at dksX2_begin_1 0 rfl rfl)
theorem dX2_begin_25 : decode cX2_begin 25 = .ok (.getfield 125, 3) := dk_180 0 125 (dk_at dksX2_begin_1 3 rfl rfl)
theorem dX2_begin_28 : decode cX2_begin 28 = .ok (.iload_n 2, 1) := dk_28 (dk_at dksX2_begin_1 6 rfl rfl)
theorem dX2_begin_29 : decode cX2_begin 29 = .ok (.iaload, 1) := dk_46 (dk_at dksX2_begin_1 7 rfl rfl)
theorem dX2_begin_30 : decode cX2_begin 30 = .ok (.iload_n 1, 1) := dk_27 (dk_at dksX2_begin_1 8 rfl rfl)
theorem dX2_begin_31 : decode cX2_begin 31 = .ok (.if_icmp .ne 14, 3) := dk_160 0 14 (dk_at dksX2_begin_1 9 rfl rfl)
theorem dX2_begin_34 : decode cX2_begin 34 = .ok (.aload_n 0, 1) := dk_42 (dk_at dksX2_begin_1 12 rfl rfl)
theorem dX2_begin_35 : decode cX2_begin 35 = .ok (.getfield 46, 3) := dk_180 0 46 (dk_at dksX2_begin_1 13 rfl rfl)
theorem dX2_begin_38 : decode cX2_begin 38 = .ok (.iload_n 2, 1) := dk_28 (dk_at dksX2_begin_1 16 rfl rfl)
theorem dX2_begin_39 : decode cX2_begin 39 = .ok (.iaload, 1) := dk_46 (dk_at dksX2_begin_1 17 rfl rfl)
theorem dX2_begin_40 : decode cX2_begin 40 = .ok (.bipush (-9), 2) := dk_16 247 (dk_at dksX2_begin_1 18 rfl rfl)
theorem dX2_begin_42 : decode cX2_begin 42 = .ok (.if_icmp .eq 9, 3) := dk_159 0 9 (dk_at dksX2_begin_1 20 rfl rfl)
theorem dX2_begin_45 : decode cX2_begin 45 = .ok (.iinc 2 1, 3) := dk_132 2 1 (dk_at dksX2_begin_2 0 rfl rfl)
theorem dX2_begin_48 : decode cX2_begin 48 = .ok (.goto (-44), 3) := dk_167 255 212 (dk_at dksX2_begin_2 3 rfl rfl)
theorem dX2_begin_51 : decode cX2_begin 51 = .ok (.iload_n 2, 1) := dk_28 (dk_at dksX2_begin_2 6 rfl rfl)
theorem dX2_begin_52 : decode cX2_begin 52 = .ok (.aload_n 0, 1) := dk_42 (dk_at dksX2_begin_2 7 rfl rfl)
theorem dX2_begin_53 : decode cX2_begin 53 = .ok (.getfield 3, 3) := dk_180 0 3 (dk_at dksX2_begin_2 8 rfl rfl)
theorem dX2_begin_56 : decode cX2_begin 56 = .ok (.getfield 107, 3) := dk_180 0 107 (dk_at dksX2_begin_2 11 rfl rfl)
theorem dX2_begin_59 : decode cX2_begin 59 = .ok (.getfield 137, 3) := dk_180 0 137 (dk_at dksX2_begin_2 14 rfl rfl)
theorem dX2_begin_62 : decode cX2_begin 62 = .ok (.if_icmp .ge 44, 3) := dk_162 0 44 (dk_at dksX2_begin_2 17 rfl rfl)
theorem dX2_begin_65 : decode cX2_begin 65 = .ok (.aload_n 0, 1) := dk_42 (dk_at dksX2_begin_2 20 rfl rfl)
theorem dX2_begin_66 : decode cX2_begin 66 = .ok (.getfield 20, 3) := dk_180 0 20 (dk_at dksX2_begin_2 21 rfl rfl)
theorem dX2_begin_69 : decode cX2_begin 69 = .ok (.iload_n 2, 1) := dk_28 (dk_at dksX2_begin_3 0 rfl rfl)
theorem dX2_begin_70 : decode cX2_begin 70 = .ok (.invokevirtual 85, 3) := dk_182 0 85 (dk_at dksX2_begin_3 1 rfl rfl)
theorem dX2_begin_73 : decode cX2_begin 73 = .ok (.aload_n 0, 1) := dk_42 (dk_at dksX2_begin_3 4 rfl rfl)
theorem dX2_begin_74 : decode cX2_begin 74 = .ok (.getfield 46, 3) := dk_180 0 46 (dk_at dksX2_begin_3 5 rfl rfl)
theorem dX2_begin_77 : decode cX2_begin 77 = .ok (.iload_n 2, 1) := dk_28 (dk_at dksX2_begin_3 8 rfl rfl)
theorem dX2_begin_78 : decode cX2_begin 78 = .ok (.aload_n 0, 1) := dk_42 (dk_at dksX2_begin_3 9 rfl rfl)
theorem dX2_begin_79 : decode cX2_begin 79 = .ok (.getfield 69, 3) := dk_180 0 69 (dk_at dksX2_begin_3 10 rfl rfl)
theorem dX2_begin_82 : decode cX2_begin 82 = .ok (.iastore, 1) := dk_79 (dk_at dksX2_begin_3 13 rfl rfl)
theorem dX2_begin_83 : decode cX2_begin 83 = .ok (.aload_n 0, 1) := dk_42 (dk_at dksX2_begin_3 14 rfl rfl)
theorem dX2_begin_84 : decode cX2_begin 84 = .ok (.getfield 43, 3) := dk_180 0 43 (dk_at dksX2_begin_3 15 rfl rfl)
theorem dX2_begin_87 : decode cX2_begin 87 = .ok (.iload_n 2, 1) := dk_28 (dk_at dksX2_begin_3 18 rfl rfl)
theorem dX2_begin_88 : decode cX2_begin 88 = .ok (.aload_n 0, 1) := dk_42 (dk_at dksX2_begin_3 19 rfl rfl)
theorem dX2_begin_89 : decode cX2_begin 89 = .ok (.iload_n 2, 1) := dk_28 (dk_at dksX2_begin_3 20 rfl rfl)
theorem dX2_begin_90 : decode cX2_begin 90 = .ok (.aload_n 0, 1) := dk_42 (dk_at dksX2_begin_3 21 rfl rfl)
theorem dX2_begin_91 : decode cX2_begin 91 = .ok (.getfield 43, 3) := dk_180 0 43 (dk_at dksX2_begin_4 0 rfl rfl)
theorem dX2_begin_94 : decode cX2_begin 94 = .ok (.iload_n 1, 1) := dk_27 (dk_at dksX2_begin_4 3 rfl rfl)
theorem dX2_begin_95 : decode cX2_begin 95 = .ok (.iaload, 1) := dk_46 (dk_at dksX2_begin_4 4 rfl rfl)
theorem dX2_begin_96 : decode cX2_begin 96 = .ok (.invokevirtual 89, 3) := dk_182 0 89 (dk_at dksX2_begin_4 5 rfl rfl)
theorem dX2_begin_99 : decode cX2_begin 99 = .ok (.iastore, 1) := dk_79 (dk_at dksX2_begin_4 8 rfl rfl)
theorem dX2_begin_100 : decode cX2_begin 100 = .ok (.aload_n 0, 1) := dk_42 (dk_at dksX2_begin_4 9 rfl rfl)
theorem dX2_begin_101 : decode cX2_begin 101 = .ok (.iload_n 2, 1) := dk_28 (dk_at dksX2_begin_4 10 rfl rfl)
theorem dX2_begin_102 : decode cX2_begin 102 = .ok (.iconst 0, 1) := dk_3 (dk_at dksX2_begin_4 11 rfl rfl)
theorem dX2_begin_103 : decode cX2_begin 103 = .ok (.invokevirtual 130, 3) := dk_182 0 130 (dk_at dksX2_begin_4 12 rfl rfl)
theorem dX2_begin_106 : decode cX2_begin 106 = .ok (.return_, 1) := dk_177 (dk_at dksX2_begin_4 15 rfl rfl)
abbrev cX2_hasChildren : ByteArray := prog_3_method_11_code
def yX2_hasChildren : MethodName := ⟨RX2, "hasChildren", "(I)Z"⟩
def dkwX2_hasChildren_3 : List UInt8 := [167, 255, 191, 28, 172]
abbrev dktX2_hasChildren_3 : List UInt8 := dkwX2_hasChildren_3 ++ []
def dkwX2_hasChildren_2 : List UInt8 := [154, 0, 14, 42, 180, 0, 24, 29, 182, 0, 103, 153, 0, 7, 4, 167, 0, 4, 3, 61, 132, 3, 1]
abbrev dktX2_hasChildren_2 : List UInt8 := dkwX2_hasChildren_2 ++ dktX2_hasChildren_3
def dkwX2_hasChildren_1 : List UInt8 := [42, 180, 0, 3, 180, 0, 107, 180, 0, 125, 29, 46, 27, 160, 0, 29, 42, 180, 0, 20, 29, 182, 0, 103]
abbrev dktX2_hasChildren_1 : List UInt8 := dkwX2_hasChildren_1 ++ dktX2_hasChildren_2
def dkwX2_hasChildren_0 : List UInt8 := [3, 61, 27, 4, 96, 62, 29, 42, 180, 0, 3, 180, 0, 107, 180, 0, 137, 162, 0, 57, 28, 154, 0, 41]
abbrev dktX2_hasChildren_0 : List UInt8 := dkwX2_hasChildren_0 ++ dktX2_hasChildren_1
theorem dksX2_hasChildren_0 : cX2_hasChildren.data.toList.drop 0 = dktX2_hasChildren_0 := by decide +kernel
theorem dksX2_hasChildren_1 : cX2_hasChildren.data.toList.drop 24 = dktX2_hasChildren_1 := dk_seg dksX2_hasChildren_0 24 rfl rfl
theorem dksX2_hasChildren_2 : cX2_hasChildren.data.toList.drop 48 = dktX2_hasChildren_2 := dk_seg dksX2_hasChildren_1 24 rfl rfl
theorem dksX2_hasChildren_3 : cX2_hasChildren.data.toList.drop 71 = dktX2_hasChildren_3 := dk_seg dksX2_hasChildren_2 23 rfl rfl
theorem dX2_hasChildren_0 : decode cX2_hasChildren 0 = .ok (.iconst 0, 1) := dk_3 (dk_at dksX2_hasChildren_0 0 rfl rfl)
theorem dX2_hasChildren_1 : decode cX2_hasChildren 1 = .ok (.istore_n 2, 1) := dk_61 (dk_at dksX2_hasChildren_0 1 rfl rfl)
theorem dX2_hasChildren_2 : decode cX2_hasChildren 2 = .ok (.iload_n 1, 1) := dk_27 (dk_at dksX2_hasChildren_0 2 rfl rfl)
theorem dX2_hasChildren_3 : decode cX2_hasChildren 3 = .ok (.iconst 1, 1) := dk_4 (dk_at dksX2_hasChildren_0 3 rfl rfl)
theorem dX2_hasChildren_4 : decode cX2_hasChildren 4 = .ok (.iadd, 1) := dk_96 (dk_at dksX2_hasChildren_0 4 rfl rfl)
theorem dX2_hasChildren_5 : decode cX2_hasChildren 5 = .ok (.istore_n 3, 1) := dk_62 (dk_at dksX2_hasChildren_0 5 rfl rfl)
theorem dX2_hasChildren_6 : decode cX2_hasChildren 6 = .ok (.iload_n 3, 1) := dk_29 (dk_at dksX2_hasChildren_0 6 rfl rfl)
theorem dX2_hasChildren_7 : decode cX2_hasChildren 7 = .ok (.aload_n 0, 1) := dk_42 (dk_at dksX2_hasChildren_0 7 rfl rfl)
theorem dX2_hasChildren_8 : decode cX2_hasChildren 8 = .ok (.getfield 3, 3) := dk_180 0 3 (dk_at dksX2_hasChildren_0 8 rfl rfl)
theorem dX2_hasChildren_11 : decode cX2_hasChildren 11 = .ok (.getfield 107, 3) := dk_180 0 107 (dk_at dksX2_hasChildren_0 11 rfl rfl)
theorem dX2_hasChildren_14 : decode cX2_hasChildren 14 = .ok (.getfield 137, 3) := dk_180 0 137 (dk_at dksX2_hasChildren_0 14 rfl rfl)
theorem dX2_hasChildren_17 : decode cX2_hasChildren 17 = .ok (.if_icmp .ge 57, 3) := dk_162 0 57 (dk_at dksX2_hasChildren_0 17 rfl rfl)
theorem dX2_hasChildren_20 : decode cX2_hasChildren 20 = .ok (.iload_n 2, 1) := dk_28 (dk_at dksX2_hasChildren_0 20 rfl rfl)
theorem dX2_hasChildren_21 : decode cX2_hasChildren 21 = .ok (.ifCond .ne 41, 3) := dk_154 0 41 (dk_at dksX2_hasChildren_0 21 rfl rfl)
theorem dX2_hasChildren_24 : decode cX2_hasChildren 24 = .ok (.aload_n 0, 1) := dk_42 (dk_at dksX2_hasChildren_1 0 rfl rfl)
theorem dX2_hasChildren_25 : decode cX2_hasChildren 25 = .ok (.getfield 3, 3) := dk_180 0 3 (dk_at dksX2_hasChildren_1 1 rfl rfl)
theorem dX2_hasChildren_28 : decode cX2_hasChildren 28 = .ok (.getfield 107, 3) := dk_180 0 107 (dk_at dksX2_hasChildren_1 4 rfl rfl)
theorem dX2_hasChildren_31 : decode cX2_hasChildren 31 = .ok (.getfield 125, 3) := dk_180 0 125 (dk_at dksX2_hasChildren_1 7 rfl rfl)
theorem dX2_hasChildren_34 : decode cX2_hasChildren 34 = .ok (.iload_n 3, 1) := dk_29 (dk_at dksX2_hasChildren_1 10 rfl rfl)
theorem dX2_hasChildren_35 : decode cX2_hasChildren 35 = .ok (.iaload, 1) := dk_46 (dk_at dksX2_hasChildren_1 11 rfl rfl)
theorem dX2_hasChildren_36 : decode cX2_hasChildren 36 = .ok (.iload_n 1, 1) := dk_27 (dk_at dksX2_hasChildren_1 12 rfl rfl)
theorem dX2_hasChildren_37 : decode cX2_hasChildren 37 = .ok (.if_icmp .ne 29, 3) := dk_160 0 29 (dk_at dksX2_hasChildren_1 13 rfl rfl)
theorem dX2_hasChildren_40 : decode cX2_hasChildren 40 = .ok (.aload_n 0, 1) := dk_42 (dk_at dksX2_hasChildren_1 16 rfl rfl)
theorem dX2_hasChildren_41 : decode cX2_hasChildren 41 = .ok (.getfield 20, 3) := dk_180 0 20 (dk_at dksX2_hasChildren_1 17 rfl rfl)
theorem dX2_hasChildren_44 : decode cX2_hasChildren 44 = .ok (.iload_n 3, 1) := dk_29 (dk_at dksX2_hasChildren_1 20 rfl rfl)
theorem dX2_hasChildren_45 : decode cX2_hasChildren 45 = .ok (.invokevirtual 103, 3) := dk_182 0 103 (dk_at dksX2_hasChildren_1 21 rfl rfl)
theorem dX2_hasChildren_48 : decode cX2_hasChildren 48 = .ok (.ifCond .ne 14, 3) := dk_154 0 14 (dk_at dksX2_hasChildren_2 0 rfl rfl)
theorem dX2_hasChildren_51 : decode cX2_hasChildren 51 = .ok (.aload_n 0, 1) := dk_42 (dk_at dksX2_hasChildren_2 3 rfl rfl)
theorem dX2_hasChildren_52 : decode cX2_hasChildren 52 = .ok (.getfield 24, 3) := dk_180 0 24 (dk_at dksX2_hasChildren_2 4 rfl rfl)
theorem dX2_hasChildren_55 : decode cX2_hasChildren 55 = .ok (.iload_n 3, 1) := dk_29 (dk_at dksX2_hasChildren_2 7 rfl rfl)
theorem dX2_hasChildren_56 : decode cX2_hasChildren 56 = .ok (.invokevirtual 103, 3) := dk_182 0 103 (dk_at dksX2_hasChildren_2 8 rfl rfl)
theorem dX2_hasChildren_59 : decode cX2_hasChildren 59 = .ok (.ifCond .eq 7, 3) := dk_153 0 7 (dk_at dksX2_hasChildren_2 11 rfl rfl)
theorem dX2_hasChildren_62 : decode cX2_hasChildren 62 = .ok (.iconst 1, 1) := dk_4 (dk_at dksX2_hasChildren_2 14 rfl rfl)
theorem dX2_hasChildren_63 : decode cX2_hasChildren 63 = .ok (.goto 4, 3) := dk_167 0 4 (dk_at dksX2_hasChildren_2 15 rfl rfl)
theorem dX2_hasChildren_66 : decode cX2_hasChildren 66 = .ok (.iconst 0, 1) := dk_3 (dk_at dksX2_hasChildren_2 18 rfl rfl)
theorem dX2_hasChildren_67 : decode cX2_hasChildren 67 = .ok (.istore_n 2, 1) := dk_61 (dk_at dksX2_hasChildren_2 19 rfl rfl)
theorem dX2_hasChildren_68 : decode cX2_hasChildren 68 = .ok (.iinc 3 1, 3) := dk_132 3 1 (dk_at dksX2_hasChildren_2 20 rfl rfl)
theorem dX2_hasChildren_71 : decode cX2_hasChildren 71 = .ok (.goto (-65), 3) := dk_167 255 191 (dk_at dksX2_hasChildren_3 0 rfl rfl)
theorem dX2_hasChildren_74 : decode cX2_hasChildren 74 = .ok (.iload_n 2, 1) := dk_28 (dk_at dksX2_hasChildren_3 3 rfl rfl)
theorem dX2_hasChildren_75 : decode cX2_hasChildren 75 = .ok (.ireturn, 1) := dk_172 (dk_at dksX2_hasChildren_3 4 rfl rfl)
abbrev cX2_cleanUp : ByteArray := prog_3_method_15_code
def yX2_cleanUp : MethodName := ⟨RX2, "cleanUp", "(I)V"⟩
def dkwX2_cleanUp_2 : List UInt8 := [42, 180, 0, 3, 180, 0, 107, 180, 0, 170, 27, 46, 160, 0, 8, 42, 27, 182, 0, 173, 177]
abbrev dktX2_cleanUp_2 : List UInt8 := dkwX2_cleanUp_2 ++ []
def dkwX2_cleanUp_1 : List UInt8 := [180, 0, 170, 27, 46, 162, 0, 13, 42, 180, 0, 40, 27, 92, 46, 4, 96, 79, 42, 180, 0, 40, 27, 46]
abbrev dktX2_cleanUp_1 : List UInt8 := dkwX2_cleanUp_1 ++ dktX2_cleanUp_2
def dkwX2_cleanUp_0 : List UInt8 := [42, 27, 182, 0, 149, 153, 0, 4, 177, 42, 180, 0, 40, 27, 46, 42, 180, 0, 3, 180, 0, 107]
abbrev dktX2_cleanUp_0 : List UInt8 := dkwX2_cleanUp_0 ++ dktX2_cleanUp_1
theorem dksX2_cleanUp_0 : cX2_cleanUp.data.toList.drop 0 = dktX2_cleanUp_0 := by decide +kernel
theorem dksX2_cleanUp_1 : cX2_cleanUp.data.toList.drop 22 = dktX2_cleanUp_1 := dk_seg dksX2_cleanUp_0 22 rfl rfl
theorem dksX2_cleanUp_2 : cX2_cleanUp.data.toList.drop 46 = dktX2_cleanUp_2 := dk_seg dksX2_cleanUp_1 24 rfl rfl
theorem dX2_cleanUp_0 : decode cX2_cleanUp 0 = .ok (.aload_n 0, 1) := dk_42 (dk_at dksX2_cleanUp_0 0 rfl rfl)
theorem dX2_cleanUp_1 : decode cX2_cleanUp 1 = .ok (.iload_n 1, 1) := dk_27 (dk_at dksX2_cleanUp_0 1 rfl rfl)
theorem dX2_cleanUp_2 : decode cX2_cleanUp 2 = .ok (.invokevirtual 149, 3) := dk_182 0 149 (dk_at dksX2_cleanUp_0 2 rfl rfl)
theorem dX2_cleanUp_5 : decode cX2_cleanUp 5 = .ok (.ifCond .eq 4, 3) := dk_153 0 4 (dk_at dksX2_cleanUp_0 5 rfl rfl)
theorem dX2_cleanUp_8 : decode cX2_cleanUp 8 = .ok (.return_, 1) := dk_177 (dk_at dksX2_cleanUp_0 8 rfl rfl)
theorem dX2_cleanUp_9 : decode cX2_cleanUp 9 = .ok (.aload_n 0, 1) := dk_42 (dk_at dksX2_cleanUp_0 9 rfl rfl)
theorem dX2_cleanUp_10 : decode cX2_cleanUp 10 = .ok (.getfield 40, 3) := dk_180 0 40 (dk_at dksX2_cleanUp_0 10 rfl rfl)
theorem dX2_cleanUp_13 : decode cX2_cleanUp 13 = .ok (.iload_n 1, 1) := dk_27 (dk_at dksX2_cleanUp_0 13 rfl rfl)
theorem dX2_cleanUp_14 : decode cX2_cleanUp 14 = .ok (.iaload, 1) := dk_46 (dk_at dksX2_cleanUp_0 14 rfl rfl)
theorem dX2_cleanUp_15 : decode cX2_cleanUp 15 = .ok (.aload_n 0, 1) := dk_42 (dk_at dksX2_cleanUp_0 15 rfl rfl)
theorem dX2_cleanUp_16 : decode cX2_cleanUp 16 = .ok (.getfield 3, 3) := dk_180 0 3 (dk_at dksX2_cleanUp_0 16 rfl rfl)
theorem dX2_cleanUp_19 : decode cX2_cleanUp 19 = .ok (.getfield 107, 3) := dk_180 0 107 (dk_at dksX2_cleanUp_0 19 rfl rfl)
theorem dX2_cleanUp_22 : decode cX2_cleanUp 22 = .ok (.getfield 170, 3) := dk_180 0 170 (dk_at dksX2_cleanUp_1 0 rfl rfl)
theorem dX2_cleanUp_25 : decode cX2_cleanUp 25 = .ok (.iload_n 1, 1) := dk_27 (dk_at dksX2_cleanUp_1 3 rfl rfl)
theorem dX2_cleanUp_26 : decode cX2_cleanUp 26 = .ok (.iaload, 1) := dk_46 (dk_at dksX2_cleanUp_1 4 rfl rfl)
theorem dX2_cleanUp_27 : decode cX2_cleanUp 27 = .ok (.if_icmp .ge 13, 3) := dk_162 0 13 (dk_at dksX2_cleanUp_1 5 rfl rfl)
theorem dX2_cleanUp_30 : decode cX2_cleanUp 30 = .ok (.aload_n 0, 1) := dk_42 (dk_at dksX2_cleanUp_1 8 rfl rfl)
theorem dX2_cleanUp_31 : decode cX2_cleanUp 31 = .ok (.getfield 40, 3) := dk_180 0 40 (dk_at dksX2_cleanUp_1 9 rfl rfl)
theorem dX2_cleanUp_34 : decode cX2_cleanUp 34 = .ok (.iload_n 1, 1) := dk_27 (dk_at dksX2_cleanUp_1 12 rfl rfl)
theorem dX2_cleanUp_35 : decode cX2_cleanUp 35 = .ok (.dup2, 1) := dk_92 (dk_at dksX2_cleanUp_1 13 rfl rfl)
theorem dX2_cleanUp_36 : decode cX2_cleanUp 36 = .ok (.iaload, 1) := dk_46 (dk_at dksX2_cleanUp_1 14 rfl rfl)
theorem dX2_cleanUp_37 : decode cX2_cleanUp 37 = .ok (.iconst 1, 1) := dk_4 (dk_at dksX2_cleanUp_1 15 rfl rfl)
theorem dX2_cleanUp_38 : decode cX2_cleanUp 38 = .ok (.iadd, 1) := dk_96 (dk_at dksX2_cleanUp_1 16 rfl rfl)
theorem dX2_cleanUp_39 : decode cX2_cleanUp 39 = .ok (.iastore, 1) := dk_79 (dk_at dksX2_cleanUp_1 17 rfl rfl)
theorem dX2_cleanUp_40 : decode cX2_cleanUp 40 = .ok (.aload_n 0, 1) := dk_42 (dk_at dksX2_cleanUp_1 18 rfl rfl)
theorem dX2_cleanUp_41 : decode cX2_cleanUp 41 = .ok (.getfield 40, 3) := dk_180 0 40 (dk_at dksX2_cleanUp_1 19 rfl rfl)
theorem dX2_cleanUp_44 : decode cX2_cleanUp 44 = .ok (.iload_n 1, 1) := dk_27 (dk_at dksX2_cleanUp_1 22 rfl rfl)
theorem dX2_cleanUp_45 : decode cX2_cleanUp 45 = .ok (.iaload, 1) := dk_46 (dk_at dksX2_cleanUp_1 23 rfl rfl)
theorem dX2_cleanUp_46 : decode cX2_cleanUp 46 = .ok (.aload_n 0, 1) := dk_42 (dk_at dksX2_cleanUp_2 0 rfl rfl)
theorem dX2_cleanUp_47 : decode cX2_cleanUp 47 = .ok (.getfield 3, 3) := dk_180 0 3 (dk_at dksX2_cleanUp_2 1 rfl rfl)
theorem dX2_cleanUp_50 : decode cX2_cleanUp 50 = .ok (.getfield 107, 3) := dk_180 0 107 (dk_at dksX2_cleanUp_2 4 rfl rfl)
theorem dX2_cleanUp_53 : decode cX2_cleanUp 53 = .ok (.getfield 170, 3) := dk_180 0 170 (dk_at dksX2_cleanUp_2 7 rfl rfl)
theorem dX2_cleanUp_56 : decode cX2_cleanUp 56 = .ok (.iload_n 1, 1) := dk_27 (dk_at dksX2_cleanUp_2 10 rfl rfl)
theorem dX2_cleanUp_57 : decode cX2_cleanUp 57 = .ok (.iaload, 1) := dk_46 (dk_at dksX2_cleanUp_2 11 rfl rfl)
theorem dX2_cleanUp_58 : decode cX2_cleanUp 58 = .ok (.if_icmp .ne 8, 3) := dk_160 0 8 (dk_at dksX2_cleanUp_2 12 rfl rfl)
theorem dX2_cleanUp_61 : decode cX2_cleanUp 61 = .ok (.aload_n 0, 1) := dk_42 (dk_at dksX2_cleanUp_2 15 rfl rfl)
theorem dX2_cleanUp_62 : decode cX2_cleanUp 62 = .ok (.iload_n 1, 1) := dk_27 (dk_at dksX2_cleanUp_2 16 rfl rfl)
theorem dX2_cleanUp_63 : decode cX2_cleanUp 63 = .ok (.invokevirtual 173, 3) := dk_182 0 173 (dk_at dksX2_cleanUp_2 17 rfl rfl)
theorem dX2_cleanUp_66 : decode cX2_cleanUp 66 = .ok (.return_, 1) := dk_177 (dk_at dksX2_cleanUp_2 20 rfl rfl)
abbrev cX2_end : ByteArray := prog_3_method_14_code
def yX2_end : MethodName := ⟨RX2, "end", "(I)V"⟩
def dkwX2_end_7 : List UInt8 := [4, 79, 42, 28, 182, 0, 134, 177]
abbrev dktX2_end_7 : List UInt8 := dkwX2_end_7 ++ []
def dkwX2_end_6 : List UInt8 := [180, 0, 24, 28, 182, 0, 103, 153, 0, 24, 42, 180, 0, 33, 28, 46, 154, 0, 15, 42, 180, 0, 33, 28]
abbrev dktX2_end_6 : List UInt8 := dkwX2_end_6 ++ dktX2_end_7
def dkwX2_end_5 : List UInt8 := [180, 0, 107, 180, 0, 167, 28, 182, 0, 103, 154, 0, 12, 42, 28, 4, 182, 0, 155, 167, 0, 35, 42]
abbrev dktX2_end_5 : List UInt8 := dkwX2_end_5 ++ dktX2_end_6
def dkwX2_end_4 : List UInt8 := [182, 0, 152, 132, 3, 1, 167, 255, 230, 42, 180, 0, 20, 28, 182, 0, 103, 153, 0, 29, 42, 180, 0, 3]
abbrev dktX2_end_4 : List UInt8 := dkwX2_end_4 ++ dktX2_end_5
def dkwX2_end_3 : List UInt8 := [3, 62, 29, 42, 180, 0, 52, 27, 46, 162, 0, 22, 42, 28, 42, 180, 0, 57, 27, 50, 29, 46]
abbrev dktX2_end_3 : List UInt8 := dkwX2_end_3 ++ dktX2_end_4
def dkwX2_end_2 : List UInt8 := [42, 180, 0, 33, 27, 46, 6, 159, 0, 4, 177, 42, 180, 0, 3, 180, 0, 107, 180, 0, 125, 27, 46, 61]
abbrev dktX2_end_2 : List UInt8 := dkwX2_end_2 ++ dktX2_end_3
def dkwX2_end_1 : List UInt8 := [180, 0, 69, 79, 42, 27, 5, 182, 0, 130, 27, 153, 0, 23, 42, 180, 0, 33, 27, 46, 4, 159, 0, 14]
abbrev dktX2_end_1 : List UInt8 := dkwX2_end_1 ++ dktX2_end_2
def dkwX2_end_0 : List UInt8 := [42, 180, 0, 24, 27, 182, 0, 128, 42, 180, 0, 27, 27, 182, 0, 85, 42, 180, 0, 49, 27, 42]
abbrev dktX2_end_0 : List UInt8 := dkwX2_end_0 ++ dktX2_end_1
theorem dksX2_end_0 : cX2_end.data.toList.drop 0 = dktX2_end_0 := by decide +kernel
theorem dksX2_end_1 : cX2_end.data.toList.drop 22 = dktX2_end_1 := dk_seg dksX2_end_0 22 rfl rfl
theorem dksX2_end_2 : cX2_end.data.toList.drop 46 = dktX2_end_2 := dk_seg dksX2_end_1 24 rfl rfl
theorem dksX2_end_3 : cX2_end.data.toList.drop 70 = dktX2_end_3 := dk_seg dksX2_end_2 24 rfl rfl
theorem dksX2_end_4 : cX2_end.data.toList.drop 92 = dktX2_end_4 := dk_seg dksX2_end_3 22 rfl rfl
theorem dksX2_end_5 : cX2_end.data.toList.drop 116 = dktX2_end_5 := dk_seg dksX2_end_4 24 rfl rfl
theorem dksX2_end_6 : cX2_end.data.toList.drop 139 = dktX2_end_6 := dk_seg dksX2_end_5 23 rfl rfl
theorem dksX2_end_7 : cX2_end.data.toList.drop 163 = dktX2_end_7 := dk_seg dksX2_end_6 24 rfl rfl
theorem dX2_end_0 : decode cX2_end 0 = .ok (.aload_n 0, 1) := dk_42 (dk_at dksX2_end_0 0 rfl rfl)
theorem dX2_end_1 : decode cX2_end 1 = .ok (.getfield 24, 3) := dk_180 0 24 (dk_at dksX2_end_0 1 rfl rfl)
theorem dX2_end_4 : decode cX2_end 4 = .ok (.iload_n 1, 1) := dk_27 (dk_at dksX2_end_0 4 rfl rfl)
theorem dX2_end_5 : decode cX2_end 5 = .ok (.invokevirtual 128, 3) := dk_182 0 128 (dk_at dksX2_end_0 5 rfl rfl)
theorem dX2_end_8 : decode cX2_end 8 = .ok (.aload_n 0, 1) := dk_42 (dk_at dksX2_end_0 8 rfl rfl)
theorem dX2_end_9 : decode cX2_end 9 = .ok (.getfield 27, 3) := dk_180 0 27 (dk_at dksX2_end_0 9 rfl rfl)
theorem dX2_end_12 : decode cX2_end 12 = .ok (.iload_n 1, 1) := dk_27 (dk_at dksX2_end_0 12 rfl rfl)
theorem dX2_end_13 : decode cX2_end 13 = .ok (.invokevirtual 85, 3) := dk_182 0 85 (dk_at dksX2_end_0 13 rfl rfl)
theorem dX2_end_16 : decode cX2_end 16 = .ok (.aload_n 0, 1) := dk_42 (dk_at dksX2_end_0 16 rfl rfl)
theorem dX2_end_17 : decode cX2_end 17 = .ok (.getfield 49, 3) := dk_180 0 49 (dk_at dksX2_end_0 17 rfl rfl)
theorem dX2_end_20 : decode cX2_end 20 = .ok (.iload_n 1, 1) := dk_27 (dk_at dksX2_end_0 20 rfl rfl)
theorem dX2_end_21 : decode cX2_end 21 = .ok (.aload_n 0, 1) := dk_42 (dk_at dksX2_end_0 21 rfl rfl)
theorem dX2_end_22 : decode cX2_end 22 = .ok (.getfield 69, 3) := dk_180 0 69 (dk_at dksX2_end_1 0 rfl rfl)
theorem dX2_end_25 : decode cX2_end 25 = .ok (.iastore, 1) := dk_79 (dk_at dksX2_end_1 3 rfl rfl)
theorem dX2_end_26 : decode cX2_end 26 = .ok (.aload_n 0, 1) := dk_42 (dk_at dksX2_end_1 4 rfl rfl)
theorem dX2_end_27 : decode cX2_end 27 = .ok (.iload_n 1, 1) := dk_27 (dk_at dksX2_end_1 5 rfl rfl)
theorem dX2_end_28 : decode cX2_end 28 = .ok (.iconst 2, 1) := dk_5 (dk_at dksX2_end_1 6 rfl rfl)
theorem dX2_end_29 : decode cX2_end 29 = .ok (.invokevirtual 130, 3) := dk_182 0 130 (dk_at dksX2_end_1 7 rfl rfl)
theorem dX2_end_32 : decode cX2_end 32 = .ok (.iload_n 1, 1) := dk_27 (dk_at dksX2_end_1 10 rfl rfl)
theorem dX2_end_33 : decode cX2_end 33 = .ok (.ifCond .eq 23, 3) := dk_153 0 23 (dk_at dksX2_end_1 11 rfl rfl)
theorem dX2_end_36 : decode cX2_end 36 = .ok (.aload_n 0, 1) := dk_42 (dk_at dksX2_end_1 14 rfl rfl)
theorem dX2_end_37 : decode cX2_end 37 = .ok (.getfield 33, 3) := dk_180 0 33 (dk_at dksX2_end_1 15 rfl rfl)
theorem dX2_end_40 : decode cX2_end 40 = .ok (.iload_n 1, 1) := dk_27 (dk_at dksX2_end_1 18 rfl rfl)
theorem dX2_end_41 : decode cX2_end 41 = .ok (.iaload, 1) := dk_46 (dk_at dksX2_end_1 19 rfl rfl)
theorem dX2_end_42 : decode cX2_end 42 = .ok (.iconst 1, 1) := dk_4 (dk_at dksX2_end_1 20 rfl rfl)
theorem dX2_end_43 : decode cX2_end 43 = .ok (.if_icmp .eq 14, 3) := dk_159 0 14 (dk_at dksX2_end_1 21 rfl rfl)
theorem dX2_end_46 : decode cX2_end 46 = .ok (.aload_n 0, 1) := dk_42 (dk_at dksX2_end_2 0 rfl rfl)
theorem dX2_end_47 : decode cX2_end 47 = .ok (.getfield 33, 3) := dk_180 0 33 (dk_at dksX2_end_2 1 rfl rfl)
theorem dX2_end_50 : decode cX2_end 50 = .ok (.iload_n 1, 1) := dk_27 (dk_at dksX2_end_2 4 rfl rfl)
theorem dX2_end_51 : decode cX2_end 51 = .ok (.iaload, 1) := dk_46 (dk_at dksX2_end_2 5 rfl rfl)
theorem dX2_end_52 : decode cX2_end 52 = .ok (.iconst 3, 1) := dk_6 (dk_at dksX2_end_2 6 rfl rfl)
theorem dX2_end_53 : decode cX2_end 53 = .ok (.if_icmp .eq 4, 3) := dk_159 0 4 (dk_at dksX2_end_2 7 rfl rfl)
theorem dX2_end_56 : decode cX2_end 56 = .ok (.return_, 1) := dk_177 (dk_at dksX2_end_2 10 rfl rfl)
theorem dX2_end_57 : decode cX2_end 57 = .ok (.aload_n 0, 1) := dk_42 (dk_at dksX2_end_2 11 rfl rfl)
theorem dX2_end_58 : decode cX2_end 58 = .ok (.getfield 3, 3) := dk_180 0 3 (dk_at dksX2_end_2 12 rfl rfl)
theorem dX2_end_61 : decode cX2_end 61 = .ok (.getfield 107, 3) := dk_180 0 107 (dk_at dksX2_end_2 15 rfl rfl)
theorem dX2_end_64 : decode cX2_end 64 = .ok (.getfield 125, 3) := dk_180 0 125 (dk_at dksX2_end_2 18 rfl rfl)
theorem dX2_end_67 : decode cX2_end 67 = .ok (.iload_n 1, 1) := dk_27 (dk_at dksX2_end_2 21 rfl rfl)
theorem dX2_end_68 : decode cX2_end 68 = .ok (.iaload, 1) := dk_46 (dk_at dksX2_end_2 22 rfl rfl)
theorem dX2_end_69 : decode cX2_end 69 = .ok (.istore_n 2, 1) := dk_61 (dk_at dksX2_end_2 23 rfl rfl)
theorem dX2_end_70 : decode cX2_end 70 = .ok (.iconst 0, 1) := dk_3 (dk_at dksX2_end_3 0 rfl rfl)
theorem dX2_end_71 : decode cX2_end 71 = .ok (.istore_n 3, 1) := dk_62 (dk_at dksX2_end_3 1 rfl rfl)
theorem dX2_end_72 : decode cX2_end 72 = .ok (.iload_n 3, 1) := dk_29 (dk_at dksX2_end_3 2 rfl rfl)
theorem dX2_end_73 : decode cX2_end 73 = .ok (.aload_n 0, 1) := dk_42 (dk_at dksX2_end_3 3 rfl rfl)
theorem dX2_end_74 : decode cX2_end 74 = .ok (.getfield 52, 3) := dk_180 0 52 (dk_at dksX2_end_3 4 rfl rfl)
theorem dX2_end_77 : decode cX2_end 77 = .ok (.iload_n 1, 1) := dk_27 (dk_at dksX2_end_3 7 rfl rfl)
theorem dX2_end_78 : decode cX2_end 78 = .ok (.iaload, 1) := dk_46 (dk_at dksX2_end_3 8 rfl rfl)
theorem dX2_end_79 : decode cX2_end 79 = .ok (.if_icmp .ge 22, 3) := dk_162 0 22 (dk_at dksX2_end_3 9 rfl rfl)
theorem dX2_end_82 : decode cX2_end 82 = .ok (.aload_n 0, 1) := dk_42 (dk_at dksX2_end_3 12 rfl rfl)
theorem dX2_end_83 : decode cX2_end 83 = .ok (.iload_n 2, 1) := dk_28 (dk_at dksX2_end_3 13 rfl rfl)
theorem dX2_end_84 : decode cX2_end 84 = .ok (.aload_n 0, 1) := dk_42 (dk_at dksX2_end_3 14 rfl rfl)
theorem dX2_end_85 : decode cX2_end 85 = .ok (.getfield 57, 3) := dk_180 0 57 (dk_at dksX2_end_3 15 rfl rfl)
theorem dX2_end_88 : decode cX2_end 88 = .ok (.iload_n 1, 1) := dk_27 (dk_at dksX2_end_3 18 rfl rfl)
theorem dX2_end_89 : decode cX2_end 89 = .ok (.aaload, 1) := dk_50 (dk_at dksX2_end_3 19 rfl rfl)
theorem dX2_end_90 : decode cX2_end 90 = .ok (.iload_n 3, 1) := dk_29 (dk_at dksX2_end_3 20 rfl rfl)
theorem dX2_end_91 : decode cX2_end 91 = .ok (.iaload, 1) := dk_46 (dk_at dksX2_end_3 21 rfl rfl)
theorem dX2_end_92 : decode cX2_end 92 = .ok (.invokevirtual 152, 3) := dk_182 0 152 (dk_at dksX2_end_4 0 rfl rfl)
theorem dX2_end_95 : decode cX2_end 95 = .ok (.iinc 3 1, 3) := dk_132 3 1 (dk_at dksX2_end_4 3 rfl rfl)
theorem dX2_end_98 : decode cX2_end 98 = .ok (.goto (-26), 3) := dk_167 255 230 (dk_at dksX2_end_4 6 rfl rfl)
theorem dX2_end_101 : decode cX2_end 101 = .ok (.aload_n 0, 1) := dk_42 (dk_at dksX2_end_4 9 rfl rfl)
theorem dX2_end_102 : decode cX2_end 102 = .ok (.getfield 20, 3) := dk_180 0 20 (dk_at dksX2_end_4 10 rfl rfl)
theorem dX2_end_105 : decode cX2_end 105 = .ok (.iload_n 2, 1) := dk_28 (dk_at dksX2_end_4 13 rfl rfl)
theorem dX2_end_106 : decode cX2_end 106 = .ok (.invokevirtual 103, 3) := dk_182 0 103 (dk_at dksX2_end_4 14 rfl rfl)
theorem dX2_end_109 : decode cX2_end 109 = .ok (.ifCond .eq 29, 3) := dk_153 0 29 (dk_at dksX2_end_4 17 rfl rfl)
theorem dX2_end_112 : decode cX2_end 112 = .ok (.aload_n 0, 1) := dk_42 (dk_at dksX2_end_4 20 rfl rfl)
theorem dX2_end_113 : decode cX2_end 113 = .ok (.getfield 3, 3) := dk_180 0 3 (dk_at dksX2_end_4 21 rfl rfl)
theorem dX2_end_116 : decode cX2_end 116 = .ok (.getfield 107, 3) := dk_180 0 107 (dk_at dksX2_end_5 0 rfl rfl)
theorem dX2_end_119 : decode cX2_end 119 = .ok (.getfield 167, 3) := dk_180 0 167 (dk_at dksX2_end_5 3 rfl rfl)
theorem dX2_end_122 : decode cX2_end 122 = .ok (.iload_n 2, 1) := dk_28 (dk_at dksX2_end_5 6 rfl rfl)
theorem dX2_end_123 : decode cX2_end 123 = .ok (.invokevirtual 103, 3) := dk_182 0 103 (dk_at dksX2_end_5 7 rfl rfl)
theorem dX2_end_126 : decode cX2_end 126 = .ok (.ifCond .ne 12, 3) := dk_154 0 12 (dk_at dksX2_end_5 10 rfl rfl)
theorem dX2_end_129 : decode cX2_end 129 = .ok (.aload_n 0, 1) := dk_42 (dk_at dksX2_end_5 13 rfl rfl)
theorem dX2_end_130 : decode cX2_end 130 = .ok (.iload_n 2, 1) := dk_28 (dk_at dksX2_end_5 14 rfl rfl)
theorem dX2_end_131 : decode cX2_end 131 = .ok (.iconst 1, 1) := dk_4 (dk_at dksX2_end_5 15 rfl rfl)
theorem dX2_end_132 : decode cX2_end 132 = .ok (.invokevirtual 155, 3) := dk_182 0 155 (dk_at dksX2_end_5 16 rfl rfl)
theorem dX2_end_135 : decode cX2_end 135 = .ok (.goto 35, 3) := dk_167 0 35 (dk_at dksX2_end_5 19 rfl rfl)
theorem dX2_end_138 : decode cX2_end 138 = .ok (.aload_n 0, 1) := dk_42 (dk_at dksX2_end_5 22 rfl rfl)
theorem dX2_end_139 : decode cX2_end 139 = .ok (.getfield 24, 3) := dk_180 0 24 (dk_at dksX2_end_6 0 rfl rfl)
theorem dX2_end_142 : decode cX2_end 142 = .ok (.iload_n 2, 1) := dk_28 (dk_at dksX2_end_6 3 rfl rfl)
theorem dX2_end_143 : decode cX2_end 143 = .ok (.invokevirtual 103, 3) := dk_182 0 103 (dk_at dksX2_end_6 4 rfl rfl)
theorem dX2_end_146 : decode cX2_end 146 = .ok (.ifCond .eq 24, 3) := dk_153 0 24 (dk_at dksX2_end_6 7 rfl rfl)
theorem dX2_end_149 : decode cX2_end 149 = .ok (.aload_n 0, 1) := dk_42 (dk_at dksX2_end_6 10 rfl rfl)
theorem dX2_end_150 : decode cX2_end 150 = .ok (.getfield 33, 3) := dk_180 0 33 (dk_at dksX2_end_6 11 rfl rfl)
theorem dX2_end_153 : decode cX2_end 153 = .ok (.iload_n 2, 1) := dk_28 (dk_at dksX2_end_6 14 rfl rfl)
theorem dX2_end_154 : decode cX2_end 154 = .ok (.iaload, 1) := dk_46 (dk_at dksX2_end_6 15 rfl rfl)
theorem dX2_end_155 : decode cX2_end 155 = .ok (.ifCond .ne 15, 3) := dk_154 0 15 (dk_at dksX2_end_6 16 rfl rfl)
theorem dX2_end_158 : decode cX2_end 158 = .ok (.aload_n 0, 1) := dk_42 (dk_at dksX2_end_6 19 rfl rfl)
theorem dX2_end_159 : decode cX2_end 159 = .ok (.getfield 33, 3) := dk_180 0 33 (dk_at dksX2_end_6 20 rfl rfl)
theorem dX2_end_162 : decode cX2_end 162 = .ok (.iload_n 2, 1) := dk_28 (dk_at dksX2_end_6 23 rfl rfl)
theorem dX2_end_163 : decode cX2_end 163 = .ok (.iconst 1, 1) := dk_4 (dk_at dksX2_end_7 0 rfl rfl)
theorem dX2_end_164 : decode cX2_end 164 = .ok (.iastore, 1) := dk_79 (dk_at dksX2_end_7 1 rfl rfl)
theorem dX2_end_165 : decode cX2_end 165 = .ok (.aload_n 0, 1) := dk_42 (dk_at dksX2_end_7 2 rfl rfl)
theorem dX2_end_166 : decode cX2_end 166 = .ok (.iload_n 2, 1) := dk_28 (dk_at dksX2_end_7 3 rfl rfl)
theorem dX2_end_167 : decode cX2_end 167 = .ok (.invokevirtual 134, 3) := dk_182 0 134 (dk_at dksX2_end_7 4 rfl rfl)
theorem dX2_end_170 : decode cX2_end 170 = .ok (.return_, 1) := dk_177 (dk_at dksX2_end_7 7 rfl rfl)
abbrev cX2_how : ByteArray := prog_3_method_4_code
def yX2_how : MethodName := ⟨RX2, "how", "(I)I"⟩
def dkwX2_how_1 : List UInt8 := [153, 0, 7, 5, 167, 0, 19, 42, 180, 0, 27, 27, 182, 0, 103, 153, 0, 7, 6, 167, 0, 4, 3, 172]
abbrev dktX2_how_1 : List UInt8 := dkwX2_how_1 ++ []
def dkwX2_how_0 : List UInt8 := [42, 180, 0, 20, 27, 182, 0, 103, 153, 0, 7, 4, 167, 0, 34, 42, 180, 0, 24, 27, 182, 0, 103]
abbrev dktX2_how_0 : List UInt8 := dkwX2_how_0 ++ dktX2_how_1
theorem dksX2_how_0 : cX2_how.data.toList.drop 0 = dktX2_how_0 := by decide +kernel
theorem dksX2_how_1 : cX2_how.data.toList.drop 23 = dktX2_how_1 := dk_seg dksX2_how_0 23 rfl rfl
theorem dX2_how_0 : decode cX2_how 0 = .ok (.aload_n 0, 1) := dk_42 (dk_at dksX2_how_0 0 rfl rfl)
theorem dX2_how_1 : decode cX2_how 1 = .ok (.getfield 20, 3) := dk_180 0 20 (dk_at dksX2_how_0 1 rfl rfl)
theorem dX2_how_4 : decode cX2_how 4 = .ok (.iload_n 1, 1) := dk_27 (dk_at dksX2_how_0 4 rfl rfl)
theorem dX2_how_5 : decode cX2_how 5 = .ok (.invokevirtual 103, 3) := dk_182 0 103 (dk_at dksX2_how_0 5 rfl rfl)
theorem dX2_how_8 : decode cX2_how 8 = .ok (.ifCond .eq 7, 3) := dk_153 0 7 (dk_at dksX2_how_0 8 rfl rfl)
theorem dX2_how_11 : decode cX2_how 11 = .ok (.iconst 1, 1) := dk_4 (dk_at dksX2_how_0 11 rfl rfl)
theorem dX2_how_12 : decode cX2_how 12 = .ok (.goto 34, 3) := dk_167 0 34 (dk_at dksX2_how_0 12 rfl rfl)
theorem dX2_how_15 : decode cX2_how 15 = .ok (.aload_n 0, 1) := dk_42 (dk_at dksX2_how_0 15 rfl rfl)
theorem dX2_how_16 : decode cX2_how 16 = .ok (.getfield 24, 3) := dk_180 0 24 (dk_at dksX2_how_0 16 rfl rfl)
theorem dX2_how_19 : decode cX2_how 19 = .ok (.iload_n 1, 1) := dk_27 (dk_at dksX2_how_0 19 rfl rfl)
theorem dX2_how_20 : decode cX2_how 20 = .ok (.invokevirtual 103, 3) := dk_182 0 103 (dk_at dksX2_how_0 20 rfl rfl)
theorem dX2_how_23 : decode cX2_how 23 = .ok (.ifCond .eq 7, 3) := dk_153 0 7 (dk_at dksX2_how_1 0 rfl rfl)
theorem dX2_how_26 : decode cX2_how 26 = .ok (.iconst 2, 1) := dk_5 (dk_at dksX2_how_1 3 rfl rfl)
theorem dX2_how_27 : decode cX2_how 27 = .ok (.goto 19, 3) := dk_167 0 19 (dk_at dksX2_how_1 4 rfl rfl)
theorem dX2_how_30 : decode cX2_how 30 = .ok (.aload_n 0, 1) := dk_42 (dk_at dksX2_how_1 7 rfl rfl)
theorem dX2_how_31 : decode cX2_how 31 = .ok (.getfield 27, 3) := dk_180 0 27 (dk_at dksX2_how_1 8 rfl rfl)
theorem dX2_how_34 : decode cX2_how 34 = .ok (.iload_n 1, 1) := dk_27 (dk_at dksX2_how_1 11 rfl rfl)
theorem dX2_how_35 : decode cX2_how 35 = .ok (.invokevirtual 103, 3) := dk_182 0 103 (dk_at dksX2_how_1 12 rfl rfl)
theorem dX2_how_38 : decode cX2_how 38 = .ok (.ifCond .eq 7, 3) := dk_153 0 7 (dk_at dksX2_how_1 15 rfl rfl)
theorem dX2_how_41 : decode cX2_how 41 = .ok (.iconst 3, 1) := dk_6 (dk_at dksX2_how_1 18 rfl rfl)
theorem dX2_how_42 : decode cX2_how 42 = .ok (.goto 4, 3) := dk_167 0 4 (dk_at dksX2_how_1 19 rfl rfl)
theorem dX2_how_45 : decode cX2_how 45 = .ok (.iconst 0, 1) := dk_3 (dk_at dksX2_how_1 22 rfl rfl)
theorem dX2_how_46 : decode cX2_how 46 = .ok (.ireturn, 1) := dk_172 (dk_at dksX2_how_1 23 rfl rfl)
abbrev cX2_goTill : ByteArray := prog_3_method_18_code
def yX2_goTill : MethodName := ⟨RX2, "goTill", "(II)Z"⟩
def dkwX2_goTill_1 : List UInt8 := [154, 0, 13, 42, 182, 0, 212, 132, 3, 1, 167, 255, 226, 42, 180, 0, 27, 27, 182, 0, 103, 172]
abbrev dktX2_goTill_1 : List UInt8 := dkwX2_goTill_1 ++ []
def dkwX2_goTill_0 : List UInt8 := [3, 62, 29, 28, 162, 0, 31, 42, 180, 0, 27, 27, 182, 0, 103, 154, 0, 20, 42, 182, 0, 209]
abbrev dktX2_goTill_0 : List UInt8 := dkwX2_goTill_0 ++ dktX2_goTill_1
theorem dksX2_goTill_0 : cX2_goTill.data.toList.drop 0 = dktX2_goTill_0 := by decide +kernel
theorem dksX2_goTill_1 : cX2_goTill.data.toList.drop 22 = dktX2_goTill_1 := dk_seg dksX2_goTill_0 22 rfl rfl
theorem dX2_goTill_0 : decode cX2_goTill 0 = .ok (.iconst 0, 1) := dk_3 (dk_at dksX2_goTill_0 0 rfl rfl)
theorem dX2_goTill_1 : decode cX2_goTill 1 = .ok (.istore_n 3, 1) := dk_62 (dk_at dksX2_goTill_0 1 rfl rfl)
theorem dX2_goTill_2 : decode cX2_goTill 2 = .ok (.iload_n 3, 1) := dk_29 (dk_at dksX2_goTill_0 2 rfl rfl)
theorem dX2_goTill_3 : decode cX2_goTill 3 = .ok (.iload_n 2, 1) := dk_28 (dk_at dksX2_goTill_0 3 rfl rfl)
theorem dX2_goTill_4 : decode cX2_goTill 4 = .ok (.if_icmp .ge 31, 3) := dk_162 0 31 (dk_at dksX2_goTill_0 4 rfl rfl)
theorem dX2_goTill_7 : decode cX2_goTill 7 = .ok (.aload_n 0, 1) := dk_42 (dk_at dksX2_goTill_0 7 rfl rfl)
theorem dX2_goTill_8 : decode cX2_goTill 8 = .ok (.getfield 27, 3) := dk_180 0 27 (dk_at dksX2_goTill_0 8 rfl rfl)
theorem dX2_goTill_11 : decode cX2_goTill 11 = .ok (.iload_n 1, 1) := dk_27 (dk_at dksX2_goTill_0 11 rfl rfl)
theorem dX2_goTill_12 : decode cX2_goTill 12 = .ok (.invokevirtual 103, 3) := dk_182 0 103 (dk_at dksX2_goTill_0 12 rfl rfl)
theorem dX2_goTill_15 : decode cX2_goTill 15 = .ok (.ifCond .ne 20, 3) := dk_154 0 20 (dk_at dksX2_goTill_0 15 rfl rfl)
theorem dX2_goTill_18 : decode cX2_goTill 18 = .ok (.aload_n 0, 1) := dk_42 (dk_at dksX2_goTill_0 18 rfl rfl)
theorem dX2_goTill_19 : decode cX2_goTill 19 = .ok (.invokevirtual 209, 3) := dk_182 0 209 (dk_at dksX2_goTill_0 19 rfl rfl)
theorem dX2_goTill_22 : decode cX2_goTill 22 = .ok (.ifCond .ne 13, 3) := dk_154 0 13 (dk_at dksX2_goTill_1 0 rfl rfl)
theorem dX2_goTill_25 : decode cX2_goTill 25 = .ok (.aload_n 0, 1) := dk_42 (dk_at dksX2_goTill_1 3 rfl rfl)
theorem dX2_goTill_26 : decode cX2_goTill 26 = .ok (.invokevirtual 212, 3) := dk_182 0 212 (dk_at dksX2_goTill_1 4 rfl rfl)
theorem dX2_goTill_29 : decode cX2_goTill 29 = .ok (.iinc 3 1, 3) := dk_132 3 1 (dk_at dksX2_goTill_1 7 rfl rfl)
theorem dX2_goTill_32 : decode cX2_goTill 32 = .ok (.goto (-30), 3) := dk_167 255 226 (dk_at dksX2_goTill_1 10 rfl rfl)
theorem dX2_goTill_35 : decode cX2_goTill 35 = .ok (.aload_n 0, 1) := dk_42 (dk_at dksX2_goTill_1 13 rfl rfl)
theorem dX2_goTill_36 : decode cX2_goTill 36 = .ok (.getfield 27, 3) := dk_180 0 27 (dk_at dksX2_goTill_1 14 rfl rfl)
theorem dX2_goTill_39 : decode cX2_goTill 39 = .ok (.iload_n 1, 1) := dk_27 (dk_at dksX2_goTill_1 17 rfl rfl)
theorem dX2_goTill_40 : decode cX2_goTill 40 = .ok (.invokevirtual 103, 3) := dk_182 0 103 (dk_at dksX2_goTill_1 18 rfl rfl)
theorem dX2_goTill_43 : decode cX2_goTill 43 = .ok (.ireturn, 1) := dk_172 (dk_at dksX2_goTill_1 21 rfl rfl)
theorem q65 : (Jvm.Cond.initialized "ScopeTasks$Run") ∈ lw_all := lw_g (lw_at lw_m1 6 rfl) rfl
theorem q128 : (Jvm.Cond.fieldLinkNest "ScopeTasks$Run" (137 : Nat) "ScopeTasks$Tree" "tasks" "I" "ScopeTasks") ∈ lw_tbl := lw_at lw_m1 69 rfl
theorem q130 : (Jvm.Cond.fieldLinkNest "ScopeTasks$Run" (125 : Nat) "ScopeTasks$Tree" "parent" "[I" "ScopeTasks") ∈ lw_tbl := lw_at lw_m1 71 rfl
theorem q134 : (Jvm.Cond.fieldLinkNest "ScopeTasks$Run" (161 : Nat) "ScopeTasks$Tree" "length" "[I" "ScopeTasks") ∈ lw_tbl := lw_at lw_m1 75 rfl
theorem q137 : (Jvm.Cond.fieldLinkNest "ScopeTasks$Run" (140 : Nat) "ScopeTasks$Tree" "what" "[[I" "ScopeTasks") ∈ lw_tbl := lw_at lw_m1 78 rfl
theorem q140 : (Jvm.Cond.fieldLinkNest "ScopeTasks$Run" (143 : Nat) "ScopeTasks$Tree" "of" "[[I" "ScopeTasks") ∈ lw_tbl := lw_at lw_m1 81 rfl
theorem q142 : (Jvm.Cond.fieldLinkNest "ScopeTasks$Run" (111 : Nat) "ScopeTasks$Tree" "deadline" "[I" "ScopeTasks") ∈ lw_tbl := lw_at lw_m1 83 rfl
theorem q147 : (Jvm.Cond.fieldLinkNest "ScopeTasks$Run" (158 : Nat) "ScopeTasks$Tree" "shield" "[I" "ScopeTasks") ∈ lw_tbl := lw_at lw_m1 88 rfl
theorem q150 : (Jvm.Cond.fieldLinkNest "ScopeTasks$Run" (170 : Nat) "ScopeTasks$Tree" "cleanUp" "[I" "ScopeTasks") ∈ lw_tbl := lw_at lw_m1 91 rfl
theorem q153 : (Jvm.Cond.fieldLinkNest "ScopeTasks$Run" (167 : Nat) "ScopeTasks$Tree" "gathers" "Ljava/util/BitSet;" "ScopeTasks") ∈ lw_tbl := lw_at lw_m1 94 rfl
theorem q196 : (Jvm.Cond.instantiable "ScopeTasks$Run" (18 : Nat)) ∈ lw_all := lw_g (lw_at lw_m1 137 rfl) rfl
theorem q198 : (Jvm.Cond.instanceMethod ({ cls := "ScopeTasks$Run", name := "<init>", desc := "(LScopeTasks;)V" } : Jvm.MethodName)) ∈ lw_all := lw_g (lw_at lw_m1 139 rfl) rfl
theorem q199 : (Jvm.Cond.code ({ cls := "ScopeTasks$Run", name := "<init>", desc := "(LScopeTasks;)V" } : Jvm.MethodName) prog_3_method_1_code (2 : Nat) (Option.none : Option Jvm.ClassFile.FieldType)) ∈ lw_all := lw_g (lw_at lw_m1 140 rfl) rfl
theorem q200 : (Jvm.Cond.methodLink "ScopeTasks$Run" (9 : Nat) ({ cls := "java/lang/Object", name := "<init>", desc := "()V" } : Jvm.MethodName)) ∈ lw_all := lw_g (lw_at lw_m1 141 rfl) rfl
theorem q201 : (Jvm.Cond.classLink "ScopeTasks$Run" (15 : Nat) "java/util/BitSet") ∈ lw_all := lw_g (lw_at lw_m1 142 rfl) rfl
theorem q202 : (Jvm.Cond.methodLink "ScopeTasks$Run" (17 : Nat) ({ cls := "java/util/BitSet", name := "<init>", desc := "(I)V" } : Jvm.MethodName)) ∈ lw_all := lw_g (lw_at lw_m1 143 rfl) rfl
theorem q203 : (Jvm.Cond.classLink "ScopeTasks$Run" (55 : Nat) "[[I") ∈ lw_all := lw_g (lw_at lw_m1 144 rfl) rfl
theorem q204 : (Jvm.Cond.fieldLink "ScopeTasks$Run" (69 : Nat) "ScopeTasks$Run" "tick" "I") ∈ lw_all := lw_g (lw_at lw_m1 145 rfl) rfl
theorem q206 : (Jvm.Cond.fieldLink "ScopeTasks$Run" (20 : Nat) "ScopeTasks$Run" "running" "Ljava/util/BitSet;") ∈ lw_all := lw_g (lw_at lw_m1 147 rfl) rfl
theorem q208 : (Jvm.Cond.fieldLink "ScopeTasks$Run" (24 : Nat) "ScopeTasks$Run" "closing" "Ljava/util/BitSet;") ∈ lw_all := lw_g (lw_at lw_m1 149 rfl) rfl
theorem q210 : (Jvm.Cond.fieldLink "ScopeTasks$Run" (27 : Nat) "ScopeTasks$Run" "ended" "Ljava/util/BitSet;") ∈ lw_all := lw_g (lw_at lw_m1 151 rfl) rfl
theorem q212 : (Jvm.Cond.fieldLink "ScopeTasks$Run" (30 : Nat) "ScopeTasks$Run" "asked" "Ljava/util/BitSet;") ∈ lw_all := lw_g (lw_at lw_m1 153 rfl) rfl
theorem q214 : (Jvm.Cond.fieldLink "ScopeTasks$Run" (33 : Nat) "ScopeTasks$Run" "out" "[I") ∈ lw_all := lw_g (lw_at lw_m1 155 rfl) rfl
theorem q216 : (Jvm.Cond.fieldLink "ScopeTasks$Run" (37 : Nat) "ScopeTasks$Run" "gone" "[I") ∈ lw_all := lw_g (lw_at lw_m1 157 rfl) rfl
theorem q218 : (Jvm.Cond.fieldLink "ScopeTasks$Run" (40 : Nat) "ScopeTasks$Run" "worked" "[I") ∈ lw_all := lw_g (lw_at lw_m1 159 rfl) rfl
theorem q219 : (Jvm.Cond.fieldLink "ScopeTasks$Run" (43 : Nat) "ScopeTasks$Run" "due" "[I") ∈ lw_all := lw_g (lw_at lw_m1 160 rfl) rfl
theorem q221 : (Jvm.Cond.fieldLink "ScopeTasks$Run" (46 : Nat) "ScopeTasks$Run" "begun" "[I") ∈ lw_all := lw_g (lw_at lw_m1 162 rfl) rfl
theorem q222 : (Jvm.Cond.fieldLink "ScopeTasks$Run" (49 : Nat) "ScopeTasks$Run" "end" "[I") ∈ lw_all := lw_g (lw_at lw_m1 163 rfl) rfl
theorem q224 : (Jvm.Cond.fieldLink "ScopeTasks$Run" (52 : Nat) "ScopeTasks$Run" "many" "[I") ∈ lw_all := lw_g (lw_at lw_m1 165 rfl) rfl
theorem q226 : (Jvm.Cond.fieldLink "ScopeTasks$Run" (57 : Nat) "ScopeTasks$Run" "list" "[[I") ∈ lw_all := lw_g (lw_at lw_m1 167 rfl) rfl
theorem q228 : (Jvm.Cond.fieldLink "ScopeTasks$Run" (60 : Nat) "ScopeTasks$Run" "traceTick" "[I") ∈ lw_all := lw_g (lw_at lw_m1 169 rfl) rfl
theorem q230 : (Jvm.Cond.fieldLink "ScopeTasks$Run" (63 : Nat) "ScopeTasks$Run" "traceTask" "[I") ∈ lw_all := lw_g (lw_at lw_m1 171 rfl) rfl
theorem q232 : (Jvm.Cond.fieldLink "ScopeTasks$Run" (66 : Nat) "ScopeTasks$Run" "traceWhat" "[I") ∈ lw_all := lw_g (lw_at lw_m1 173 rfl) rfl
theorem q234 : (Jvm.Cond.fieldLink "ScopeTasks$Run" (76 : Nat) "ScopeTasks$Run" "traced" "I") ∈ lw_all := lw_g (lw_at lw_m1 175 rfl) rfl
theorem q236 : (Jvm.Cond.fieldLink "ScopeTasks$Run" (3 : Nat) "ScopeTasks$Run" "this$0" "LScopeTasks;") ∈ lw_all := lw_g (lw_at lw_m1 177 rfl) rfl
theorem q237 : (Jvm.Cond.lays "ScopeTasks$Run" "ScopeTasks$Run" "tick" "I") ∈ lw_all := lw_g (lw_at lw_m1 178 rfl) rfl
theorem q238 : (Jvm.Cond.soleField "ScopeTasks$Run" "tick") ∈ lw_all := lw_g (lw_at lw_m1 179 rfl) rfl
theorem q239 : (Jvm.Cond.laysFinal "ScopeTasks$Run" "ScopeTasks$Run" "running" "Ljava/util/BitSet;") ∈ lw_all := lw_g (lw_at lw_m1 180 rfl) rfl
theorem q240 : (Jvm.Cond.soleField "ScopeTasks$Run" "running") ∈ lw_all := lw_g (lw_at lw_m1 181 rfl) rfl
theorem q241 : (Jvm.Cond.laysFinal "ScopeTasks$Run" "ScopeTasks$Run" "closing" "Ljava/util/BitSet;") ∈ lw_all := lw_g (lw_at lw_m1 182 rfl) rfl
theorem q242 : (Jvm.Cond.soleField "ScopeTasks$Run" "closing") ∈ lw_all := lw_g (lw_at lw_m1 183 rfl) rfl
theorem q243 : (Jvm.Cond.laysFinal "ScopeTasks$Run" "ScopeTasks$Run" "ended" "Ljava/util/BitSet;") ∈ lw_all := lw_g (lw_at lw_m1 184 rfl) rfl
theorem q244 : (Jvm.Cond.soleField "ScopeTasks$Run" "ended") ∈ lw_all := lw_g (lw_at lw_m1 185 rfl) rfl
theorem q245 : (Jvm.Cond.laysFinal "ScopeTasks$Run" "ScopeTasks$Run" "asked" "Ljava/util/BitSet;") ∈ lw_all := lw_g (lw_at lw_m1 186 rfl) rfl
theorem q246 : (Jvm.Cond.soleField "ScopeTasks$Run" "asked") ∈ lw_all := lw_g (lw_at lw_m1 187 rfl) rfl
theorem q247 : (Jvm.Cond.laysFinal "ScopeTasks$Run" "ScopeTasks$Run" "out" "[I") ∈ lw_all := lw_g (lw_at lw_m1 188 rfl) rfl
theorem q248 : (Jvm.Cond.soleField "ScopeTasks$Run" "out") ∈ lw_all := lw_g (lw_at lw_m1 189 rfl) rfl
theorem q249 : (Jvm.Cond.laysFinal "ScopeTasks$Run" "ScopeTasks$Run" "gone" "[I") ∈ lw_all := lw_g (lw_at lw_m1 190 rfl) rfl
theorem q250 : (Jvm.Cond.soleField "ScopeTasks$Run" "gone") ∈ lw_all := lw_g (lw_at lw_m1 191 rfl) rfl
theorem q251 : (Jvm.Cond.laysFinal "ScopeTasks$Run" "ScopeTasks$Run" "worked" "[I") ∈ lw_all := lw_g (lw_at lw_m1 192 rfl) rfl
theorem q252 : (Jvm.Cond.soleField "ScopeTasks$Run" "worked") ∈ lw_all := lw_g (lw_at lw_m1 193 rfl) rfl
theorem q253 : (Jvm.Cond.laysFinal "ScopeTasks$Run" "ScopeTasks$Run" "due" "[I") ∈ lw_all := lw_g (lw_at lw_m1 194 rfl) rfl
theorem q254 : (Jvm.Cond.soleField "ScopeTasks$Run" "due") ∈ lw_all := lw_g (lw_at lw_m1 195 rfl) rfl
theorem q255 : (Jvm.Cond.laysFinal "ScopeTasks$Run" "ScopeTasks$Run" "begun" "[I") ∈ lw_all := lw_g (lw_at lw_m1 196 rfl) rfl
theorem q256 : (Jvm.Cond.soleField "ScopeTasks$Run" "begun") ∈ lw_all := lw_g (lw_at lw_m1 197 rfl) rfl
theorem q257 : (Jvm.Cond.laysFinal "ScopeTasks$Run" "ScopeTasks$Run" "end" "[I") ∈ lw_all := lw_g (lw_at lw_m1 198 rfl) rfl
theorem q258 : (Jvm.Cond.soleField "ScopeTasks$Run" "end") ∈ lw_all := lw_g (lw_at lw_m1 199 rfl) rfl
theorem q259 : (Jvm.Cond.laysFinal "ScopeTasks$Run" "ScopeTasks$Run" "many" "[I") ∈ lw_all := lw_g (lw_at lw_m1 200 rfl) rfl
theorem q260 : (Jvm.Cond.soleField "ScopeTasks$Run" "many") ∈ lw_all := lw_g (lw_at lw_m1 201 rfl) rfl
theorem q261 : (Jvm.Cond.laysFinal "ScopeTasks$Run" "ScopeTasks$Run" "list" "[[I") ∈ lw_all := lw_g (lw_at lw_m1 202 rfl) rfl
theorem q262 : (Jvm.Cond.soleField "ScopeTasks$Run" "list") ∈ lw_all := lw_g (lw_at lw_m1 203 rfl) rfl
theorem q263 : (Jvm.Cond.laysFinal "ScopeTasks$Run" "ScopeTasks$Run" "traceTick" "[I") ∈ lw_all := lw_g (lw_at lw_m1 204 rfl) rfl
theorem q264 : (Jvm.Cond.soleField "ScopeTasks$Run" "traceTick") ∈ lw_all := lw_g (lw_at lw_m1 205 rfl) rfl
theorem q265 : (Jvm.Cond.laysFinal "ScopeTasks$Run" "ScopeTasks$Run" "traceTask" "[I") ∈ lw_all := lw_g (lw_at lw_m1 206 rfl) rfl
theorem q266 : (Jvm.Cond.soleField "ScopeTasks$Run" "traceTask") ∈ lw_all := lw_g (lw_at lw_m1 207 rfl) rfl
theorem q267 : (Jvm.Cond.laysFinal "ScopeTasks$Run" "ScopeTasks$Run" "traceWhat" "[I") ∈ lw_all := lw_g (lw_at lw_m1 208 rfl) rfl
theorem q268 : (Jvm.Cond.soleField "ScopeTasks$Run" "traceWhat") ∈ lw_all := lw_g (lw_at lw_m1 209 rfl) rfl
theorem q269 : (Jvm.Cond.lays "ScopeTasks$Run" "ScopeTasks$Run" "traced" "I") ∈ lw_all := lw_g (lw_at lw_m1 210 rfl) rfl
theorem q270 : (Jvm.Cond.soleField "ScopeTasks$Run" "traced") ∈ lw_all := lw_g (lw_at lw_m1 211 rfl) rfl
theorem q271 : (Jvm.Cond.laysFinal "ScopeTasks$Run" "ScopeTasks$Run" "this$0" "LScopeTasks;") ∈ lw_all := lw_g (lw_at lw_m1 212 rfl) rfl
theorem q272 : (Jvm.Cond.soleField "ScopeTasks$Run" "this$0") ∈ lw_all := lw_g (lw_at lw_m1 213 rfl) rfl
theorem q273 : (Jvm.Cond.superclass "ScopeTasks$Run" "java/lang/Object") ∈ lw_all := lw_g (lw_at lw_m1 214 rfl) rfl
theorem q303 : (Jvm.Cond.selects "ScopeTasks$Run" ({ cls := "java/lang/Object", name := "getClass", desc := "()Ljava/lang/Class;" } : Jvm.MethodName) ({ cls := "java/lang/Object", name := "getClass", desc := "()Ljava/lang/Class;" } : Jvm.MethodName)) ∈ lw_all := lw_g (lw_at lw_m2 4 rfl) rfl
theorem q336 : (Jvm.Cond.instanceMethod ({ cls := "ScopeTasks$Run", name := "start", desc := "()V" } : Jvm.MethodName)) ∈ lw_all := lw_g (lw_at lw_m2 37 rfl) rfl
theorem q337 : (Jvm.Cond.selects "ScopeTasks$Run" ({ cls := "ScopeTasks$Run", name := "start", desc := "()V" } : Jvm.MethodName) ({ cls := "ScopeTasks$Run", name := "start", desc := "()V" } : Jvm.MethodName)) ∈ lw_all := lw_g (lw_at lw_m2 38 rfl) rfl
theorem q338 : (Jvm.Cond.code ({ cls := "ScopeTasks$Run", name := "start", desc := "()V" } : Jvm.MethodName) prog_3_method_2_code (1 : Nat) (Option.none : Option Jvm.ClassFile.FieldType)) ∈ lw_all := lw_g (lw_at lw_m2 39 rfl) rfl
theorem q339 : (Jvm.Cond.methodLink "ScopeTasks$Run" (73 : Nat) ({ cls := "java/util/BitSet", name := "clear", desc := "()V" } : Jvm.MethodName)) ∈ lw_all := lw_g (lw_at lw_m2 40 rfl) rfl
theorem q340 : (Jvm.Cond.methodLink "ScopeTasks$Run" (79 : Nat) ({ cls := "java/util/Arrays", name := "fill", desc := "([II)V" } : Jvm.MethodName)) ∈ lw_all := lw_g (lw_at lw_m2 41 rfl) rfl
theorem q343 : (Jvm.Cond.methodLink "ScopeTasks$Run" (85 : Nat) ({ cls := "java/util/BitSet", name := "set", desc := "(I)V" } : Jvm.MethodName)) ∈ lw_all := lw_g (lw_at lw_m2 44 rfl) rfl
theorem q374 : (Jvm.Cond.constant "ScopeTasks$Run" (88 : Nat) (100000 : Int32)) ∈ lw_all := lw_g (lw_at lw_m2 75 rfl) rfl
theorem q375 : (Jvm.Cond.methodLink "ScopeTasks$Run" (89 : Nat) ({ cls := "ScopeTasks$Run", name := "dueOf", desc := "(II)I" } : Jvm.MethodName)) ∈ lw_all := lw_g (lw_at lw_m2 76 rfl) rfl
theorem q376 : (Jvm.Cond.privateMethod ({ cls := "ScopeTasks$Run", name := "dueOf", desc := "(II)I" } : Jvm.MethodName)) ∈ lw_tbl := lw_at lw_m2 77 rfl
theorem q377 : (Jvm.Cond.instanceMethod ({ cls := "ScopeTasks$Run", name := "dueOf", desc := "(II)I" } : Jvm.MethodName)) ∈ lw_all := lw_g (lw_at lw_m2 78 rfl) rfl
theorem q378 : (Jvm.Cond.code ({ cls := "ScopeTasks$Run", name := "dueOf", desc := "(II)I" } : Jvm.MethodName) prog_3_method_5_code (4 : Nat) (Option.some Jvm.ClassFile.FieldType.int)) ∈ lw_all := lw_g (lw_at lw_m2 79 rfl) rfl
theorem q379 : (Jvm.Cond.methodLink "ScopeTasks$Run" (116 : Nat) ({ cls := "java/lang/Math", name := "min", desc := "(II)I" } : Jvm.MethodName)) ∈ lw_all := lw_g (lw_at lw_m2 80 rfl) rfl
theorem q381 : (Jvm.Cond.fieldLinkNest "ScopeTasks$Run" (107 : Nat) "ScopeTasks" "tree" "LScopeTasks$Tree;" "ScopeTasks") ∈ lw_tbl := lw_at lw_m2 82 rfl
theorem q385 : (Jvm.Cond.fieldLinkNest "ScopeTasks$Run" (175 : Nat) "ScopeTasks" "turns" "Ljava/util/ArrayDeque;" "ScopeTasks") ∈ lw_tbl := lw_at lw_m2 86 rfl
theorem q710 : (Jvm.Cond.instanceMethod ({ cls := "ScopeTasks$Run", name := "isOver", desc := "()Z" } : Jvm.MethodName)) ∈ lw_all := lw_g (lw_at lw_m3 171 rfl) rfl
theorem q711 : (Jvm.Cond.selects "ScopeTasks$Run" ({ cls := "ScopeTasks$Run", name := "isOver", desc := "()Z" } : Jvm.MethodName) ({ cls := "ScopeTasks$Run", name := "isOver", desc := "()Z" } : Jvm.MethodName)) ∈ lw_all := lw_g (lw_at lw_m3 172 rfl) rfl
theorem q712 : (Jvm.Cond.code ({ cls := "ScopeTasks$Run", name := "isOver", desc := "()Z" } : Jvm.MethodName) prog_3_method_17_code (1 : Nat) (Option.some Jvm.ClassFile.FieldType.boolean)) ∈ lw_all := lw_g (lw_at lw_m3 173 rfl) rfl
theorem q713 : (Jvm.Cond.methodLink "ScopeTasks$Run" (103 : Nat) ({ cls := "java/util/BitSet", name := "get", desc := "(I)Z" } : Jvm.MethodName)) ∈ lw_all := lw_g (lw_at lw_m3 174 rfl) rfl
theorem q727 : (Jvm.Cond.instanceMethod ({ cls := "ScopeTasks$Run", name := "copyOf", desc := "(LScopeTasks$Run;)LScopeTasks$Run;" } : Jvm.MethodName)) ∈ lw_all := lw_g (lw_at lw_m3 188 rfl) rfl
theorem q728 : (Jvm.Cond.selects "ScopeTasks$Run" ({ cls := "ScopeTasks$Run", name := "copyOf", desc := "(LScopeTasks$Run;)LScopeTasks$Run;" } : Jvm.MethodName) ({ cls := "ScopeTasks$Run", name := "copyOf", desc := "(LScopeTasks$Run;)LScopeTasks$Run;" } : Jvm.MethodName)) ∈ lw_all := lw_g (lw_at lw_m3 189 rfl) rfl
theorem q729 : (Jvm.Cond.code ({ cls := "ScopeTasks$Run", name := "copyOf", desc := "(LScopeTasks$Run;)LScopeTasks$Run;" } : Jvm.MethodName) prog_3_method_3_code (3 : Nat) (Option.some (Jvm.ClassFile.FieldType.object "ScopeTasks$Run"))) ∈ lw_all := lw_g (lw_at lw_m3 190 rfl) rfl
theorem q730 : (Jvm.Cond.methodLink "ScopeTasks$Run" (93 : Nat) ({ cls := "java/util/BitSet", name := "or", desc := "(Ljava/util/BitSet;)V" } : Jvm.MethodName)) ∈ lw_all := lw_g (lw_at lw_m3 191 rfl) rfl
theorem q731 : (Jvm.Cond.methodLink "ScopeTasks$Run" (97 : Nat) ({ cls := "java/lang/System", name := "arraycopy", desc := "(Ljava/lang/Object;ILjava/lang/Object;II)V" } : Jvm.MethodName)) ∈ lw_all := lw_g (lw_at lw_m3 192 rfl) rfl
theorem q733 : (Jvm.Cond.instanceMethod ({ cls := "ScopeTasks$Run", name := "pass", desc := "()V" } : Jvm.MethodName)) ∈ lw_all := lw_g (lw_at lw_m3 194 rfl) rfl
theorem q734 : (Jvm.Cond.selects "ScopeTasks$Run" ({ cls := "ScopeTasks$Run", name := "pass", desc := "()V" } : Jvm.MethodName) ({ cls := "ScopeTasks$Run", name := "pass", desc := "()V" } : Jvm.MethodName)) ∈ lw_all := lw_g (lw_at lw_m3 195 rfl) rfl
theorem q735 : (Jvm.Cond.code ({ cls := "ScopeTasks$Run", name := "pass", desc := "()V" } : Jvm.MethodName) prog_3_method_16_code (2 : Nat) (Option.none : Option Jvm.ClassFile.FieldType)) ∈ lw_all := lw_g (lw_at lw_m3 196 rfl) rfl
theorem q736 : (Jvm.Cond.methodLink "ScopeTasks$Run" (121 : Nat) ({ cls := "java/util/BitSet", name := "nextSetBit", desc := "(I)I" } : Jvm.MethodName)) ∈ lw_all := lw_g (lw_at lw_m3 197 rfl) rfl
theorem q748 : (Jvm.Cond.methodLink "ScopeTasks$Run" (152 : Nat) ({ cls := "ScopeTasks$Run", name := "fail", desc := "(II)V" } : Jvm.MethodName)) ∈ lw_all := lw_g (lw_at lw_m3 209 rfl) rfl
theorem q749 : (Jvm.Cond.privateMethod ({ cls := "ScopeTasks$Run", name := "fail", desc := "(II)V" } : Jvm.MethodName)) ∈ lw_tbl := lw_at lw_m3 210 rfl
theorem q750 : (Jvm.Cond.instanceMethod ({ cls := "ScopeTasks$Run", name := "fail", desc := "(II)V" } : Jvm.MethodName)) ∈ lw_all := lw_g (lw_at lw_m3 211 rfl) rfl
theorem q751 : (Jvm.Cond.code ({ cls := "ScopeTasks$Run", name := "fail", desc := "(II)V" } : Jvm.MethodName) prog_3_method_7_code (3 : Nat) (Option.none : Option Jvm.ClassFile.FieldType)) ∈ lw_all := lw_g (lw_at lw_m3 212 rfl) rfl
theorem q752 : (Jvm.Cond.methodLink "ScopeTasks$Run" (155 : Nat) ({ cls := "ScopeTasks$Run", name := "close", desc := "(II)V" } : Jvm.MethodName)) ∈ lw_all := lw_g (lw_at lw_m3 213 rfl) rfl
theorem q753 : (Jvm.Cond.privateMethod ({ cls := "ScopeTasks$Run", name := "close", desc := "(II)V" } : Jvm.MethodName)) ∈ lw_tbl := lw_at lw_m3 214 rfl
theorem q754 : (Jvm.Cond.instanceMethod ({ cls := "ScopeTasks$Run", name := "close", desc := "(II)V" } : Jvm.MethodName)) ∈ lw_all := lw_g (lw_at lw_m3 215 rfl) rfl
theorem q755 : (Jvm.Cond.code ({ cls := "ScopeTasks$Run", name := "close", desc := "(II)V" } : Jvm.MethodName) prog_3_method_9_code (3 : Nat) (Option.none : Option Jvm.ClassFile.FieldType)) ∈ lw_all := lw_g (lw_at lw_m3 216 rfl) rfl
theorem q756 : (Jvm.Cond.methodLink "ScopeTasks$Run" (128 : Nat) ({ cls := "java/util/BitSet", name := "clear", desc := "(I)V" } : Jvm.MethodName)) ∈ lw_all := lw_g (lw_at lw_m3 217 rfl) rfl
theorem q764 : (Jvm.Cond.methodLink "ScopeTasks$Run" (130 : Nat) ({ cls := "ScopeTasks$Run", name := "trace", desc := "(II)V" } : Jvm.MethodName)) ∈ lw_all := lw_g (lw_at lw_m3 225 rfl) rfl
theorem q765 : (Jvm.Cond.privateMethod ({ cls := "ScopeTasks$Run", name := "trace", desc := "(II)V" } : Jvm.MethodName)) ∈ lw_tbl := lw_at lw_m3 226 rfl
theorem q766 : (Jvm.Cond.instanceMethod ({ cls := "ScopeTasks$Run", name := "trace", desc := "(II)V" } : Jvm.MethodName)) ∈ lw_all := lw_g (lw_at lw_m3 227 rfl) rfl
theorem q767 : (Jvm.Cond.code ({ cls := "ScopeTasks$Run", name := "trace", desc := "(II)V" } : Jvm.MethodName) prog_3_method_6_code (3 : Nat) (Option.none : Option Jvm.ClassFile.FieldType)) ∈ lw_all := lw_g (lw_at lw_m3 228 rfl) rfl
theorem q768 : (Jvm.Cond.methodLink "ScopeTasks$Run" (134 : Nat) ({ cls := "ScopeTasks$Run", name := "askChildren", desc := "(I)V" } : Jvm.MethodName)) ∈ lw_all := lw_g (lw_at lw_m3 229 rfl) rfl
theorem q769 : (Jvm.Cond.privateMethod ({ cls := "ScopeTasks$Run", name := "askChildren", desc := "(I)V" } : Jvm.MethodName)) ∈ lw_tbl := lw_at lw_m3 230 rfl
theorem q770 : (Jvm.Cond.instanceMethod ({ cls := "ScopeTasks$Run", name := "askChildren", desc := "(I)V" } : Jvm.MethodName)) ∈ lw_all := lw_g (lw_at lw_m3 231 rfl) rfl
theorem q771 : (Jvm.Cond.code ({ cls := "ScopeTasks$Run", name := "askChildren", desc := "(I)V" } : Jvm.MethodName) prog_3_method_8_code (3 : Nat) (Option.none : Option Jvm.ClassFile.FieldType)) ∈ lw_all := lw_g (lw_at lw_m3 232 rfl) rfl
theorem q772 : (Jvm.Cond.methodLink "ScopeTasks$Run" (179 : Nat) ({ cls := "java/util/ArrayDeque", name := "clear", desc := "()V" } : Jvm.MethodName)) ∈ lw_all := lw_g (lw_at lw_m3 233 rfl) rfl
theorem q779 : (Jvm.Cond.methodLink "ScopeTasks$Run" (182 : Nat) ({ cls := "java/lang/Integer", name := "valueOf", desc := "(I)Ljava/lang/Integer;" } : Jvm.MethodName)) ∈ lw_all := lw_g (lw_at lw_m4 0 rfl) rfl
theorem q799 : (Jvm.Cond.methodLink "ScopeTasks$Run" (188 : Nat) ({ cls := "java/util/ArrayDeque", name := "addLast", desc := "(Ljava/lang/Object;)V" } : Jvm.MethodName)) ∈ lw_all := lw_g (lw_at lw_m4 20 rfl) rfl
theorem q800 : (Jvm.Cond.methodLink "ScopeTasks$Run" (192 : Nat) ({ cls := "java/util/ArrayDeque", name := "isEmpty", desc := "()Z" } : Jvm.MethodName)) ∈ lw_all := lw_g (lw_at lw_m4 21 rfl) rfl
theorem q801 : (Jvm.Cond.methodLink "ScopeTasks$Run" (196 : Nat) ({ cls := "java/util/ArrayDeque", name := "pollFirst", desc := "()Ljava/lang/Object;" } : Jvm.MethodName)) ∈ lw_all := lw_g (lw_at lw_m4 22 rfl) rfl
theorem q802 : (Jvm.Cond.classLink "ScopeTasks$Run" (183 : Nat) "java/lang/Integer") ∈ lw_all := lw_g (lw_at lw_m4 23 rfl) rfl
theorem q803 : (Jvm.Cond.methodLink "ScopeTasks$Run" (200 : Nat) ({ cls := "java/lang/Integer", name := "intValue", desc := "()I" } : Jvm.MethodName)) ∈ lw_all := lw_g (lw_at lw_m4 24 rfl) rfl
theorem q807 : (Jvm.Cond.methodLink "ScopeTasks$Run" (204 : Nat) ({ cls := "ScopeTasks$Run", name := "turn", desc := "(I)V" } : Jvm.MethodName)) ∈ lw_all := lw_g (lw_at lw_m4 28 rfl) rfl
theorem q808 : (Jvm.Cond.privateMethod ({ cls := "ScopeTasks$Run", name := "turn", desc := "(I)V" } : Jvm.MethodName)) ∈ lw_tbl := lw_at lw_m4 29 rfl
theorem q809 : (Jvm.Cond.instanceMethod ({ cls := "ScopeTasks$Run", name := "turn", desc := "(I)V" } : Jvm.MethodName)) ∈ lw_all := lw_g (lw_at lw_m4 30 rfl) rfl
theorem q810 : (Jvm.Cond.code ({ cls := "ScopeTasks$Run", name := "turn", desc := "(I)V" } : Jvm.MethodName) prog_3_method_13_code (2 : Nat) (Option.none : Option Jvm.ClassFile.FieldType)) ∈ lw_all := lw_g (lw_at lw_m4 31 rfl) rfl
theorem q811 : (Jvm.Cond.methodLink "ScopeTasks$Run" (164 : Nat) ({ cls := "ScopeTasks$Run", name := "goOn", desc := "(I)V" } : Jvm.MethodName)) ∈ lw_all := lw_g (lw_at lw_m4 32 rfl) rfl
theorem q812 : (Jvm.Cond.privateMethod ({ cls := "ScopeTasks$Run", name := "goOn", desc := "(I)V" } : Jvm.MethodName)) ∈ lw_tbl := lw_at lw_m4 33 rfl
theorem q813 : (Jvm.Cond.instanceMethod ({ cls := "ScopeTasks$Run", name := "goOn", desc := "(I)V" } : Jvm.MethodName)) ∈ lw_all := lw_g (lw_at lw_m4 34 rfl) rfl
theorem q814 : (Jvm.Cond.code ({ cls := "ScopeTasks$Run", name := "goOn", desc := "(I)V" } : Jvm.MethodName) prog_3_method_12_code (3 : Nat) (Option.none : Option Jvm.ClassFile.FieldType)) ∈ lw_all := lw_g (lw_at lw_m4 35 rfl) rfl
theorem q815 : (Jvm.Cond.methodLink "ScopeTasks$Run" (146 : Nat) ({ cls := "ScopeTasks$Run", name := "begin", desc := "(I)V" } : Jvm.MethodName)) ∈ lw_all := lw_g (lw_at lw_m4 36 rfl) rfl
theorem q816 : (Jvm.Cond.privateMethod ({ cls := "ScopeTasks$Run", name := "begin", desc := "(I)V" } : Jvm.MethodName)) ∈ lw_tbl := lw_at lw_m4 37 rfl
theorem q817 : (Jvm.Cond.instanceMethod ({ cls := "ScopeTasks$Run", name := "begin", desc := "(I)V" } : Jvm.MethodName)) ∈ lw_all := lw_g (lw_at lw_m4 38 rfl) rfl
theorem q818 : (Jvm.Cond.code ({ cls := "ScopeTasks$Run", name := "begin", desc := "(I)V" } : Jvm.MethodName) prog_3_method_10_code (3 : Nat) (Option.none : Option Jvm.ClassFile.FieldType)) ∈ lw_all := lw_g (lw_at lw_m4 39 rfl) rfl
theorem q819 : (Jvm.Cond.methodLink "ScopeTasks$Run" (149 : Nat) ({ cls := "ScopeTasks$Run", name := "hasChildren", desc := "(I)Z" } : Jvm.MethodName)) ∈ lw_all := lw_g (lw_at lw_m4 40 rfl) rfl
theorem q820 : (Jvm.Cond.instanceMethod ({ cls := "ScopeTasks$Run", name := "hasChildren", desc := "(I)Z" } : Jvm.MethodName)) ∈ lw_all := lw_g (lw_at lw_m4 41 rfl) rfl
theorem q821 : (Jvm.Cond.selects "ScopeTasks$Run" ({ cls := "ScopeTasks$Run", name := "hasChildren", desc := "(I)Z" } : Jvm.MethodName) ({ cls := "ScopeTasks$Run", name := "hasChildren", desc := "(I)Z" } : Jvm.MethodName)) ∈ lw_all := lw_g (lw_at lw_m4 42 rfl) rfl
theorem q822 : (Jvm.Cond.code ({ cls := "ScopeTasks$Run", name := "hasChildren", desc := "(I)Z" } : Jvm.MethodName) prog_3_method_11_code (4 : Nat) (Option.some Jvm.ClassFile.FieldType.boolean)) ∈ lw_all := lw_g (lw_at lw_m4 43 rfl) rfl
theorem q823 : (Jvm.Cond.methodLink "ScopeTasks$Run" (207 : Nat) ({ cls := "ScopeTasks$Run", name := "cleanUp", desc := "(I)V" } : Jvm.MethodName)) ∈ lw_all := lw_g (lw_at lw_m4 44 rfl) rfl
theorem q824 : (Jvm.Cond.privateMethod ({ cls := "ScopeTasks$Run", name := "cleanUp", desc := "(I)V" } : Jvm.MethodName)) ∈ lw_tbl := lw_at lw_m4 45 rfl
theorem q825 : (Jvm.Cond.instanceMethod ({ cls := "ScopeTasks$Run", name := "cleanUp", desc := "(I)V" } : Jvm.MethodName)) ∈ lw_all := lw_g (lw_at lw_m4 46 rfl) rfl
theorem q826 : (Jvm.Cond.code ({ cls := "ScopeTasks$Run", name := "cleanUp", desc := "(I)V" } : Jvm.MethodName) prog_3_method_15_code (2 : Nat) (Option.none : Option Jvm.ClassFile.FieldType)) ∈ lw_all := lw_g (lw_at lw_m4 47 rfl) rfl
theorem q827 : (Jvm.Cond.methodLink "ScopeTasks$Run" (173 : Nat) ({ cls := "ScopeTasks$Run", name := "end", desc := "(I)V" } : Jvm.MethodName)) ∈ lw_all := lw_g (lw_at lw_m4 48 rfl) rfl
theorem q828 : (Jvm.Cond.privateMethod ({ cls := "ScopeTasks$Run", name := "end", desc := "(I)V" } : Jvm.MethodName)) ∈ lw_tbl := lw_at lw_m4 49 rfl
theorem q829 : (Jvm.Cond.instanceMethod ({ cls := "ScopeTasks$Run", name := "end", desc := "(I)V" } : Jvm.MethodName)) ∈ lw_all := lw_g (lw_at lw_m4 50 rfl) rfl
theorem q830 : (Jvm.Cond.code ({ cls := "ScopeTasks$Run", name := "end", desc := "(I)V" } : Jvm.MethodName) prog_3_method_14_code (4 : Nat) (Option.none : Option Jvm.ClassFile.FieldType)) ∈ lw_all := lw_g (lw_at lw_m4 51 rfl) rfl
theorem q857 : (Jvm.Cond.instanceMethod ({ cls := "ScopeTasks$Run", name := "how", desc := "(I)I" } : Jvm.MethodName)) ∈ lw_all := lw_g (lw_at lw_m4 78 rfl) rfl
theorem q858 : (Jvm.Cond.selects "ScopeTasks$Run" ({ cls := "ScopeTasks$Run", name := "how", desc := "(I)I" } : Jvm.MethodName) ({ cls := "ScopeTasks$Run", name := "how", desc := "(I)I" } : Jvm.MethodName)) ∈ lw_all := lw_g (lw_at lw_m4 79 rfl) rfl
theorem q859 : (Jvm.Cond.code ({ cls := "ScopeTasks$Run", name := "how", desc := "(I)I" } : Jvm.MethodName) prog_3_method_4_code (2 : Nat) (Option.some Jvm.ClassFile.FieldType.int)) ∈ lw_all := lw_g (lw_at lw_m4 80 rfl) rfl
theorem q878 : (Jvm.Cond.instanceMethod ({ cls := "ScopeTasks$Run", name := "goTill", desc := "(II)Z" } : Jvm.MethodName)) ∈ lw_all := lw_g (lw_at lw_m4 99 rfl) rfl
theorem q879 : (Jvm.Cond.selects "ScopeTasks$Run" ({ cls := "ScopeTasks$Run", name := "goTill", desc := "(II)Z" } : Jvm.MethodName) ({ cls := "ScopeTasks$Run", name := "goTill", desc := "(II)Z" } : Jvm.MethodName)) ∈ lw_all := lw_g (lw_at lw_m4 100 rfl) rfl
theorem q880 : (Jvm.Cond.code ({ cls := "ScopeTasks$Run", name := "goTill", desc := "(II)Z" } : Jvm.MethodName) prog_3_method_18_code (4 : Nat) (Option.some Jvm.ClassFile.FieldType.boolean)) ∈ lw_all := lw_g (lw_at lw_m4 101 rfl) rfl
theorem q881 : (Jvm.Cond.methodLink "ScopeTasks$Run" (209 : Nat) ({ cls := "ScopeTasks$Run", name := "isOver", desc := "()Z" } : Jvm.MethodName)) ∈ lw_all := lw_g (lw_at lw_m4 102 rfl) rfl
theorem q882 : (Jvm.Cond.methodLink "ScopeTasks$Run" (212 : Nat) ({ cls := "ScopeTasks$Run", name := "pass", desc := "()V" } : Jvm.MethodName)) ∈ lw_all := lw_g (lw_at lw_m4 103 rfl) rfl
theorem q1247 : (Jvm.Cond.castable "ScopeTasks$Run" "java/lang/Object") ∈ lw_tbl := lw_at lw_m5 228 rfl
theorem in_X2 : ∀ w ∈ wsX20, w ∈ lw_all := lw_in wsX20 [237, 239, 241, 243, 245, 247, 249, 251, 253, 255, 257, 259, 261, 263, 265, 267, 269, 271] (by decide +kernel) (by decide +kernel)
