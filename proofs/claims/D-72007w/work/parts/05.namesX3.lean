/-! ScopeTasksModel -/
set_option maxRecDepth 100000
def RX3 : String := "ScopeTasksModel"
def TX3 : u_T := fun k => match k with
  | 0 => ("ScopeTasksModel", "letterMany", "I", false)
  | 1 => ("ScopeTasksModel", "text", "[I", true)
  | 2 => ("ScopeTasksModel", "readAt", "I", false)
  | 3 => ("ScopeTasksModel", "tokenAt", "I", false)
  | 4 => ("ScopeTasksModel", "token", "I", false)
  | 5 => ("ScopeTasksModel", "value", "I", false)
  | 6 => ("ScopeTasksModel", "faultAt", "I", false)
  | 7 => ("ScopeTasksModel", "readMany", "I", false)
  | 8 => ("ScopeTasksModel", "readGathers", "I", false)
  | 9 => ("ScopeTasksModel", "readParent", "[I", true)
  | 10 => ("ScopeTasksModel", "readSizes", "[I", true)
  | 11 => ("ScopeTasksModel", "readActs", "[I", true)
  | 12 => ("ScopeTasksModel", "readDeadlines", "[I", true)
  | 13 => ("ScopeTasksModel", "readShields", "[I", true)
  | 14 => ("ScopeTasksModel", "readCleans", "[I", true)
  | 15 => ("ScopeTasksModel", "taskMany", "I", false)
  | 16 => ("ScopeTasksModel", "gathers", "I", false)
  | 17 => ("ScopeTasksModel", "parent", "[I", true)
  | 18 => ("ScopeTasksModel", "sizes", "[I", true)
  | 19 => ("ScopeTasksModel", "acts", "[I", true)
  | 20 => ("ScopeTasksModel", "deadlines", "[I", true)
  | 21 => ("ScopeTasksModel", "shields", "[I", true)
  | 22 => ("ScopeTasksModel", "cleans", "[I", true)
  | 23 => ("ScopeTasksModel", "now", "[I", true)
  | 24 => ("ScopeTasksModel", "tried", "[I", true)
  | 25 => ("ScopeTasksModel", "undoMany", "I", false)
  | 26 => ("ScopeTasksModel", "undoAt", "I", false)
  | 27 => ("ScopeTasksModel", "undos", "[I", true)
  | 28 => ("ScopeTasksModel", "seenMany", "I", false)
  | 29 => ("ScopeTasksModel", "seenTask", "[I", true)
  | 30 => ("ScopeTasksModel", "seenTicks", "[I", true)
  | 31 => ("ScopeTasksModel", "seenEnded", "[I", true)
  | 32 => ("ScopeTasksModel", "isKept", "[Z", true)
  | _ => ("ScopeTasksModel", "kept", "[I", true)
def tyX3 : Nat → FieldType := fun k => match k with
  | 0 => .int
  | 1 => .array .int
  | 2 => .int
  | 3 => .int
  | 4 => .int
  | 5 => .int
  | 6 => .int
  | 7 => .int
  | 8 => .int
  | 9 => .array .int
  | 10 => .array .int
  | 11 => .array .int
  | 12 => .array .int
  | 13 => .array .int
  | 14 => .array .int
  | 15 => .int
  | 16 => .int
  | 17 => .array .int
  | 18 => .array .int
  | 19 => .array .int
  | 20 => .array .int
  | 21 => .array .int
  | 22 => .array .int
  | 23 => .array .int
  | 24 => .array .int
  | 25 => .int
  | 26 => .int
  | 27 => .array .int
  | 28 => .int
  | 29 => .array .int
  | 30 => .array .int
  | 31 => .array .int
  | 32 => .array .boolean
  | _ => .array .int
abbrev wsX30 : List Cond := u_ws RX3 TX3 34
set_option maxRecDepth 100000 in
theorem nmX3 : ∀ a, a < 34 → ∀ b, b < 34 → a ≠ b → (TX3 a).2.1 ≠ (TX3 b).2.1 := by decide +kernel
set_option maxRecDepth 100000 in
theorem tyX3_ok : ∀ k, k < 34 → parseFieldDescriptor (TX3 k).2.2.1 = some (tyX3 k) := by decide +kernel
abbrev cX3_init : ByteArray := prog_7_method_1_code
def yX3_init : MethodName := ⟨RX3, "<init>", "()V"⟩
def dkwX3_init_7 : List UInt8 := [181, 0, 67, 42, 17, 2, 140, 188, 10, 181, 0, 71, 42, 182, 0, 74, 42, 182, 0, 77, 177]
abbrev dktX3_init_7 : List UInt8 := dkwX3_init_7 ++ []
def dkwX3_init_6 : List UInt8 := [181, 0, 58, 42, 16, 6, 188, 10, 181, 0, 61, 42, 16, 6, 188, 10, 181, 0, 64, 42, 5, 188, 4]
abbrev dktX3_init_6 : List UInt8 := dkwX3_init_6 ++ dktX3_init_7
def dkwX3_init_5 : List UInt8 := [17, 1, 70, 188, 10, 181, 0, 52, 42, 17, 15, 72, 188, 10, 181, 0, 55, 42, 16, 6, 188, 10]
abbrev dktX3_init_5 : List UInt8 := dkwX3_init_5 ++ dktX3_init_6
def dkwX3_init_4 : List UInt8 := [188, 10, 181, 0, 43, 42, 16, 8, 188, 10, 181, 0, 46, 42, 17, 1, 70, 188, 10, 181, 0, 49, 42]
abbrev dktX3_init_4 : List UInt8 := dkwX3_init_4 ++ dktX3_init_5
def dkwX3_init_3 : List UInt8 := [188, 10, 181, 0, 34, 42, 16, 96, 188, 10, 181, 0, 37, 42, 16, 8, 188, 10, 181, 0, 40, 42, 16, 8]
abbrev dktX3_init_3 : List UInt8 := dkwX3_init_3 ++ dktX3_init_4
def dkwX3_init_2 : List UInt8 := [188, 10, 181, 0, 25, 42, 16, 8, 188, 10, 181, 0, 28, 42, 16, 8, 188, 10, 181, 0, 31, 42, 16, 8]
abbrev dktX3_init_2 : List UInt8 := dkwX3_init_2 ++ dktX3_init_3
def dkwX3_init_1 : List UInt8 := [188, 10, 181, 0, 16, 42, 16, 96, 188, 10, 181, 0, 19, 42, 16, 8, 188, 10, 181, 0, 22, 42, 16, 8]
abbrev dktX3_init_1 : List UInt8 := dkwX3_init_1 ++ dktX3_init_2
def dkwX3_init_0 : List UInt8 := [42, 183, 0, 1, 42, 16, 120, 188, 10, 181, 0, 7, 42, 16, 8, 188, 10, 181, 0, 13, 42, 16, 8]
abbrev dktX3_init_0 : List UInt8 := dkwX3_init_0 ++ dktX3_init_1
theorem dksX3_init_0 : cX3_init.data.toList.drop 0 = dktX3_init_0 := by decide +kernel
theorem dksX3_init_1 : cX3_init.data.toList.drop 23 = dktX3_init_1 := dk_seg dksX3_init_0 23 rfl rfl
theorem dksX3_init_2 : cX3_init.data.toList.drop 47 = dktX3_init_2 := dk_seg dksX3_init_1 24 rfl rfl
theorem dksX3_init_3 : cX3_init.data.toList.drop 71 = dktX3_init_3 := dk_seg dksX3_init_2 24 rfl rfl
theorem dksX3_init_4 : cX3_init.data.toList.drop 95 = dktX3_init_4 := dk_seg dksX3_init_3 24 rfl rfl
theorem dksX3_init_5 : cX3_init.data.toList.drop 118 = dktX3_init_5 := dk_seg dksX3_init_4 23 rfl rfl
theorem dksX3_init_6 : cX3_init.data.toList.drop 140 = dktX3_init_6 := dk_seg dksX3_init_5 22 rfl rfl
theorem dksX3_init_7 : cX3_init.data.toList.drop 163 = dktX3_init_7 := dk_seg dksX3_init_6 23 rfl rfl
theorem dX3_init_0 : decode cX3_init 0 = .ok (.aload_n 0, 1) := dk_42 (dk_at dksX3_init_0 0 rfl rfl)
theorem dX3_init_1 : decode cX3_init 1 = .ok (.invokespecial 1, 3) := dk_183 0 1 (dk_at dksX3_init_0 1 rfl rfl)
theorem dX3_init_4 : decode cX3_init 4 = .ok (.aload_n 0, 1) := dk_42 (dk_at dksX3_init_0 4 rfl rfl)
theorem dX3_init_5 : decode cX3_init 5 = .ok (.bipush 120, 2) := dk_16 120 (dk_at dksX3_init_0 5 rfl rfl)
theorem dX3_init_7 : decode cX3_init 7 = .ok (.newarray .int, 2) := dk_188_10 (dk_at dksX3_init_0 7 rfl rfl)
theorem dX3_init_9 : decode cX3_init 9 = .ok (.putfield 7, 3) := dk_181 0 7 (dk_at dksX3_init_0 9 rfl rfl)
theorem dX3_init_12 : decode cX3_init 12 = .ok (.aload_n 0, 1) := dk_42 (dk_at dksX3_init_0 12 rfl rfl)
theorem dX3_init_13 : decode cX3_init 13 = .ok (.bipush 8, 2) := dk_16 8 (dk_at dksX3_init_0 13 rfl rfl)
theorem dX3_init_15 : decode cX3_init 15 = .ok (.newarray .int, 2) := dk_188_10 (dk_at dksX3_init_0 15 rfl rfl)
theorem dX3_init_17 : decode cX3_init 17 = .ok (.putfield 13, 3) := dk_181 0 13 (dk_at dksX3_init_0 17 rfl rfl)
theorem dX3_init_20 : decode cX3_init 20 = .ok (.aload_n 0, 1) := dk_42 (dk_at dksX3_init_0 20 rfl rfl)
theorem dX3_init_21 : decode cX3_init 21 = .ok (.bipush 8, 2) := dk_16 8 (dk_at dksX3_init_0 21 rfl rfl)
theorem dX3_init_23 : decode cX3_init 23 = .ok (.newarray .int, 2) := dk_188_10 (dk_at dksX3_init_1 0 rfl rfl)
theorem dX3_init_25 : decode cX3_init 25 = .ok (.putfield 16, 3) := dk_181 0 16 (dk_at dksX3_init_1 2 rfl rfl)
theorem dX3_init_28 : decode cX3_init 28 = .ok (.aload_n 0, 1) := dk_42 (dk_at dksX3_init_1 5 rfl rfl)
theorem dX3_init_29 : decode cX3_init 29 = .ok (.bipush 96, 2) := dk_16 96 (dk_at dksX3_init_1 6 rfl rfl)
theorem dX3_init_31 : decode cX3_init 31 = .ok (.newarray .int, 2) := dk_188_10 (dk_at dksX3_init_1 8 rfl rfl)
theorem dX3_init_33 : decode cX3_init 33 = .ok (.putfield 19, 3) := dk_181 0 19 (dk_at dksX3_init_1 10 rfl rfl)
theorem dX3_init_36 : decode cX3_init 36 = .ok (.aload_n 0, 1) := dk_42 (dk_at dksX3_init_1 13 rfl rfl)
theorem dX3_init_37 : decode cX3_init 37 = .ok (.bipush 8, 2) := dk_16 8 (dk_at dksX3_init_1 14 rfl rfl)
theorem dX3_init_39 : decode cX3_init 39 = .ok (.newarray .int, 2) := dk_188_10 (dk_at dksX3_init_1 16 rfl rfl)
theorem dX3_init_41 : decode cX3_init 41 = .ok (.putfield 22, 3) := dk_181 0 22 (dk_at dksX3_init_1 18 rfl rfl)
theorem dX3_init_44 : decode cX3_init 44 = .ok (.aload_n 0, 1) := dk_42 (dk_at dksX3_init_1 21 rfl rfl)
theorem dX3_init_45 : decode cX3_init 45 = .ok (.bipush 8, 2) := dk_16 8 (dk_at dksX3_init_1 22 rfl rfl)
theorem dX3_init_47 : decode cX3_init 47 = .ok (.newarray .int, 2) := dk_188_10 (dk_at dksX3_init_2 0 rfl rfl)
theorem dX3_init_49 : decode cX3_init 49 = .ok (.putfield 25, 3) := dk_181 0 25 (dk_at dksX3_init_2 2 rfl rfl)
theorem dX3_init_52 : decode cX3_init 52 = .ok (.aload_n 0, 1) := dk_42 (dk_at dksX3_init_2 5 rfl rfl)
theorem dX3_init_53 : decode cX3_init 53 = .ok (.bipush 8, 2) := dk_16 8 (dk_at dksX3_init_2 6 rfl rfl)
theorem dX3_init_55 : decode cX3_init 55 = .ok (.newarray .int, 2) := dk_188_10 (dk_at dksX3_init_2 8 rfl rfl)
theorem dX3_init_57 : decode cX3_init 57 = .ok (.putfield 28, 3) := dk_181 0 28 (dk_at dksX3_init_2 10 rfl rfl)
theorem dX3_init_60 : decode cX3_init 60 = .ok (.aload_n 0, 1) := dk_42 (dk_at dksX3_init_2 13 rfl rfl)
theorem dX3_init_61 : decode cX3_init 61 = .ok (.bipush 8, 2) := dk_16 8 (dk_at dksX3_init_2 14 rfl rfl)
theorem dX3_init_63 : decode cX3_init 63 = .ok (.newarray .int, 2) := dk_188_10 (dk_at dksX3_init_2 16 rfl rfl)
theorem dX3_init_65 : decode cX3_init 65 = .ok (.putfield 31, 3) := dk_181 0 31 (dk_at dksX3_init_2 18 rfl rfl)
theorem dX3_init_68 : decode cX3_init 68 = .ok (.aload_n 0, 1) := dk_42 (dk_at dksX3_init_2 21 rfl rfl)
theorem dX3_init_69 : decode cX3_init 69 = .ok (.bipush 8, 2) := dk_16 8 (dk_at dksX3_init_2 22 rfl rfl)
theorem dX3_init_71 : decode cX3_init 71 = .ok (.newarray .int, 2) := dk_188_10 (dk_at dksX3_init_3 0 rfl rfl)
theorem dX3_init_73 : decode cX3_init 73 = .ok (.putfield 34, 3) := dk_181 0 34 (dk_at dksX3_init_3 2 rfl rfl)
theorem dX3_init_76 : decode cX3_init 76 = .ok (.aload_n 0, 1) := dk_42 (dk_at dksX3_init_3 5 rfl rfl)
theorem dX3_init_77 : decode cX3_init 77 = .ok (.bipush 96, 2) := dk_16 96 (dk_at dksX3_init_3 6 rfl rfl)
theorem dX3_init_79 : decode cX3_init 79 = .ok (.newarray .int, 2) := dk_188_10 (dk_at dksX3_init_3 8 rfl rfl)
theorem dX3_init_81 : decode cX3_init 81 = .ok (.putfield 37, 3) := dk_181 0 37 (dk_at dksX3_init_3 10 rfl rfl)
theorem dX3_init_84 : decode cX3_init 84 = .ok (.aload_n 0, 1) := dk_42 (dk_at dksX3_init_3 13 rfl rfl)
theorem dX3_init_85 : decode cX3_init 85 = .ok (.bipush 8, 2) := dk_16 8 (dk_at dksX3_init_3 14 rfl rfl)
theorem dX3_init_87 : decode cX3_init 87 = .ok (.newarray .int, 2) := dk_188_10 (dk_at dksX3_init_3 16 rfl rfl)
theorem dX3_init_89 : decode cX3_init 89 = .ok (.putfield 40, 3) := dk_181 0 40 (dk_at dksX3_init_3 18 rfl rfl)
theorem dX3_init_92 : decode cX3_init 92 = .ok (.aload_n 0, 1) := dk_42 (dk_at dksX3_init_3 21 rfl rfl)
theorem dX3_init_93 : decode cX3_init 93 = .ok (.bipush 8, 2) := dk_16 8 (dk_at dksX3_init_3 22 rfl rfl)
theorem dX3_init_95 : decode cX3_init 95 = .ok (.newarray .int, 2) := dk_188_10 (dk_at dksX3_init_4 0 rfl rfl)
theorem dX3_init_97 : decode cX3_init 97 = .ok (.putfield 43, 3) := dk_181 0 43 (dk_at dksX3_init_4 2 rfl rfl)
theorem dX3_init_100 : decode cX3_init 100 = .ok (.aload_n 0, 1) := dk_42 (dk_at dksX3_init_4 5 rfl rfl)
theorem dX3_init_101 : decode cX3_init 101 = .ok (.bipush 8, 2) := dk_16 8 (dk_at dksX3_init_4 6 rfl rfl)
theorem dX3_init_103 : decode cX3_init 103 = .ok (.newarray .int, 2) := dk_188_10 (dk_at dksX3_init_4 8 rfl rfl)
theorem dX3_init_105 : decode cX3_init 105 = .ok (.putfield 46, 3) := dk_181 0 46 (dk_at dksX3_init_4 10 rfl rfl)
theorem dX3_init_108 : decode cX3_init 108 = .ok (.aload_n 0, 1) := dk_42 (dk_at dksX3_init_4 13 rfl rfl)
theorem dX3_init_109 : decode cX3_init 109 = .ok (.sipush 326, 3) := dk_17 1 70 (dk_at dksX3_init_4 14 rfl rfl)
theorem dX3_init_112 : decode cX3_init 112 = .ok (.newarray .int, 2) := dk_188_10 (dk_at dksX3_init_4 17 rfl rfl)
theorem dX3_init_114 : decode cX3_init 114 = .ok (.putfield 49, 3) := dk_181 0 49 (dk_at dksX3_init_4 19 rfl rfl)
theorem dX3_init_117 : decode cX3_init 117 = .ok (.aload_n 0, 1) := dk_42 (dk_at dksX3_init_4 22 rfl rfl)
theorem dX3_init_118 : decode cX3_init 118 = .ok (.sipush 326, 3) := dk_17 1 70 (dk_at dksX3_init_5 0 rfl rfl)
theorem dX3_init_121 : decode cX3_init 121 = .ok (.newarray .int, 2) := dk_188_10 (dk_at dksX3_init_5 3 rfl rfl)
theorem dX3_init_123 : decode cX3_init 123 = .ok (.putfield 52, 3) := dk_181 0 52 (dk_at dksX3_init_5 5 rfl rfl)
theorem dX3_init_126 : decode cX3_init 126 = .ok (.aload_n 0, 1) := dk_42 (dk_at dksX3_init_5 8 rfl rfl)
theorem dX3_init_127 : decode cX3_init 127 = .ok (.sipush 3912, 3) := dk_17 15 72 (dk_at dksX3_init_5 9 rfl rfl)
theorem dX3_init_130 : decode cX3_init 130 = .ok (.newarray .int, 2) := dk_188_10 (dk_at dksX3_init_5 12 rfl rfl)
theorem dX3_init_132 : decode cX3_init 132 = .ok (.putfield 55, 3) := dk_181 0 55 (dk_at dksX3_init_5 14 rfl rfl)
theorem dX3_init_135 : decode cX3_init 135 = .ok (.aload_n 0, 1) := dk_42 (dk_at dksX3_init_5 17 rfl rfl)
theorem dX3_init_136 : decode cX3_init 136 = .ok (.bipush 6, 2) := dk_16 6 (dk_at dksX3_init_5 18 rfl rfl)
theorem dX3_init_138 : decode cX3_init 138 = .ok (.newarray .int, 2) := dk_188_10 (dk_at dksX3_init_5 20 rfl rfl)
theorem dX3_init_140 : decode cX3_init 140 = .ok (.putfield 58, 3) := dk_181 0 58 (dk_at dksX3_init_6 0 rfl rfl)
theorem dX3_init_143 : decode cX3_init 143 = .ok (.aload_n 0, 1) := dk_42 (dk_at dksX3_init_6 3 rfl rfl)
theorem dX3_init_144 : decode cX3_init 144 = .ok (.bipush 6, 2) := dk_16 6 (dk_at dksX3_init_6 4 rfl rfl)
theorem dX3_init_146 : decode cX3_init 146 = .ok (.newarray .int, 2) := dk_188_10 (dk_at dksX3_init_6 6 rfl rfl)
theorem dX3_init_148 : decode cX3_init 148 = .ok (.putfield 61, 3) := dk_181 0 61 (dk_at dksX3_init_6 8 rfl rfl)
theorem dX3_init_151 : decode cX3_init 151 = .ok (.aload_n 0, 1) := dk_42 (dk_at dksX3_init_6 11 rfl rfl)
theorem dX3_init_152 : decode cX3_init 152 = .ok (.bipush 6, 2) := dk_16 6 (dk_at dksX3_init_6 12 rfl rfl)
theorem dX3_init_154 : decode cX3_init 154 = .ok (.newarray .int, 2) := dk_188_10 (dk_at dksX3_init_6 14 rfl rfl)
theorem dX3_init_156 : decode cX3_init 156 = .ok (.putfield 64, 3) := dk_181 0 64 (dk_at dksX3_init_6 16 rfl rfl)
theorem dX3_init_159 : decode cX3_init 159 = .ok (.aload_n 0, 1) := dk_42 (dk_at dksX3_init_6 19 rfl rfl)
theorem dX3_init_160 : decode cX3_init 160 = .ok (.iconst 2, 1) := dk_5 (dk_at dksX3_init_6 20 rfl rfl)
theorem dX3_init_161 : decode cX3_init 161 = .ok (.newarray .boolean, 2) := dk_188_4 (dk_at dksX3_init_6 21 rfl rfl)
theorem dX3_init_163 : decode cX3_init 163 = .ok (.putfield 67, 3) := dk_181 0 67 (dk_at dksX3_init_7 0 rfl rfl)
theorem dX3_init_166 : decode cX3_init 166 = .ok (.aload_n 0, 1) := dk_42 (dk_at dksX3_init_7 3 rfl rfl)
theorem dX3_init_167 : decode cX3_init 167 = .ok (.sipush 652, 3) := dk_17 2 140 (dk_at dksX3_init_7 4 rfl rfl)
theorem dX3_init_170 : decode cX3_init 170 = .ok (.newarray .int, 2) := dk_188_10 (dk_at dksX3_init_7 7 rfl rfl)
theorem dX3_init_172 : decode cX3_init 172 = .ok (.putfield 71, 3) := dk_181 0 71 (dk_at dksX3_init_7 9 rfl rfl)
theorem dX3_init_175 : decode cX3_init 175 = .ok (.aload_n 0, 1) := dk_42 (dk_at dksX3_init_7 12 rfl rfl)
theorem dX3_init_176 : decode cX3_init 176 = .ok (.invokevirtual 74, 3) := dk_182 0 74 (dk_at dksX3_init_7 13 rfl rfl)
theorem dX3_init_179 : decode cX3_init 179 = .ok (.aload_n 0, 1) := dk_42 (dk_at dksX3_init_7 16 rfl rfl)
theorem dX3_init_180 : decode cX3_init 180 = .ok (.invokevirtual 77, 3) := dk_182 0 77 (dk_at dksX3_init_7 17 rfl rfl)
theorem dX3_init_183 : decode cX3_init 183 = .ok (.return_, 1) := dk_177 (dk_at dksX3_init_7 20 rfl rfl)
abbrev cX3_begins : ByteArray := prog_7_method_12_code
def yX3_begins : MethodName := ⟨RX3, "begins", "()V"⟩
def dkwX3_begins_2 : List UInt8 := [79, 42, 180, 0, 28, 27, 3, 79, 132, 1, 1, 167, 255, 210, 177]
abbrev dktX3_begins_2 : List UInt8 := dkwX3_begins_2 ++ []
def dkwX3_begins_1 : List UInt8 := [16, 247, 79, 42, 180, 0, 16, 27, 3, 79, 42, 180, 0, 22, 27, 16, 99, 79, 42, 180, 0, 25, 27, 3]
abbrev dktX3_begins_1 : List UInt8 := dkwX3_begins_1 ++ dktX3_begins_2
def dkwX3_begins_0 : List UInt8 := [42, 3, 181, 0, 120, 42, 3, 181, 0, 123, 3, 60, 27, 16, 8, 162, 0, 46, 42, 180, 0, 13, 27]
abbrev dktX3_begins_0 : List UInt8 := dkwX3_begins_0 ++ dktX3_begins_1
theorem dksX3_begins_0 : cX3_begins.data.toList.drop 0 = dktX3_begins_0 := by decide +kernel
theorem dksX3_begins_1 : cX3_begins.data.toList.drop 23 = dktX3_begins_1 := dk_seg dksX3_begins_0 23 rfl rfl
theorem dksX3_begins_2 : cX3_begins.data.toList.drop 47 = dktX3_begins_2 := dk_seg dksX3_begins_1 24 rfl rfl
theorem dX3_begins_0 : decode cX3_begins 0 = .ok (.aload_n 0, 1) := dk_42 (dk_at dksX3_begins_0 0 rfl rfl)
theorem dX3_begins_1 : decode cX3_begins 1 = .ok (.iconst 0, 1) := dk_3 (dk_at dksX3_begins_0 1 rfl rfl)
theorem dX3_begins_2 : decode cX3_begins 2 = .ok (.putfield 120, 3) := dk_181 0 120 (dk_at dksX3_begins_0 2 rfl rfl)
theorem dX3_begins_5 : decode cX3_begins 5 = .ok (.aload_n 0, 1) := dk_42 (dk_at dksX3_begins_0 5 rfl rfl)
theorem dX3_begins_6 : decode cX3_begins 6 = .ok (.iconst 0, 1) := dk_3 (dk_at dksX3_begins_0 6 rfl rfl)
theorem dX3_begins_7 : decode cX3_begins 7 = .ok (.putfield 123, 3) := dk_181 0 123 (dk_at dksX3_begins_0 7 rfl rfl)
theorem dX3_begins_10 : decode cX3_begins 10 = .ok (.iconst 0, 1) := dk_3 (dk_at dksX3_begins_0 10 rfl rfl)
theorem dX3_begins_11 : decode cX3_begins 11 = .ok (.istore_n 1, 1) := dk_60 (dk_at dksX3_begins_0 11 rfl rfl)
theorem dX3_begins_12 : decode cX3_begins 12 = .ok (.iload_n 1, 1) := dk_27 (dk_at dksX3_begins_0 12 rfl rfl)
theorem dX3_begins_13 : decode cX3_begins 13 = .ok (.bipush 8, 2) := dk_16 8 (dk_at dksX3_begins_0 13 rfl rfl)
theorem dX3_begins_15 : decode cX3_begins 15 = .ok (.if_icmp .ge 46, 3) := dk_162 0 46 (dk_at dksX3_begins_0 15 rfl rfl)
theorem dX3_begins_18 : decode cX3_begins 18 = .ok (.aload_n 0, 1) := dk_42 (dk_at dksX3_begins_0 18 rfl rfl)
theorem dX3_begins_19 : decode cX3_begins 19 = .ok (.getfield 13, 3) := dk_180 0 13 (dk_at dksX3_begins_0 19 rfl rfl)
theorem dX3_begins_22 : decode cX3_begins 22 = .ok (.iload_n 1, 1) := dk_27 (dk_at dksX3_begins_0 22 rfl rfl)
theorem dX3_begins_23 : decode cX3_begins 23 = .ok (.bipush (-9), 2) := dk_16 247 (dk_at dksX3_begins_1 0 rfl rfl)
theorem dX3_begins_25 : decode cX3_begins 25 = .ok (.iastore, 1) := dk_79 (dk_at dksX3_begins_1 2 rfl rfl)
theorem dX3_begins_26 : decode cX3_begins 26 = .ok (.aload_n 0, 1) := dk_42 (dk_at dksX3_begins_1 3 rfl rfl)
theorem dX3_begins_27 : decode cX3_begins 27 = .ok (.getfield 16, 3) := dk_180 0 16 (dk_at dksX3_begins_1 4 rfl rfl)
theorem dX3_begins_30 : decode cX3_begins 30 = .ok (.iload_n 1, 1) := dk_27 (dk_at dksX3_begins_1 7 rfl rfl)
theorem dX3_begins_31 : decode cX3_begins 31 = .ok (.iconst 0, 1) := dk_3 (dk_at dksX3_begins_1 8 rfl rfl)
theorem dX3_begins_32 : decode cX3_begins 32 = .ok (.iastore, 1) := dk_79 (dk_at dksX3_begins_1 9 rfl rfl)
theorem dX3_begins_33 : decode cX3_begins 33 = .ok (.aload_n 0, 1) := dk_42 (dk_at dksX3_begins_1 10 rfl rfl)
theorem dX3_begins_34 : decode cX3_begins 34 = .ok (.getfield 22, 3) := dk_180 0 22 (dk_at dksX3_begins_1 11 rfl rfl)
theorem dX3_begins_37 : decode cX3_begins 37 = .ok (.iload_n 1, 1) := dk_27 (dk_at dksX3_begins_1 14 rfl rfl)
theorem dX3_begins_38 : decode cX3_begins 38 = .ok (.bipush 99, 2) := dk_16 99 (dk_at dksX3_begins_1 15 rfl rfl)
theorem dX3_begins_40 : decode cX3_begins 40 = .ok (.iastore, 1) := dk_79 (dk_at dksX3_begins_1 17 rfl rfl)
theorem dX3_begins_41 : decode cX3_begins 41 = .ok (.aload_n 0, 1) := dk_42 (dk_at dksX3_begins_1 18 rfl rfl)
theorem dX3_begins_42 : decode cX3_begins 42 = .ok (.getfield 25, 3) := dk_180 0 25 (dk_at dksX3_begins_1 19 rfl rfl)
theorem dX3_begins_45 : decode cX3_begins 45 = .ok (.iload_n 1, 1) := dk_27 (dk_at dksX3_begins_1 22 rfl rfl)
theorem dX3_begins_46 : decode cX3_begins 46 = .ok (.iconst 0, 1) := dk_3 (dk_at dksX3_begins_1 23 rfl rfl)
theorem dX3_begins_47 : decode cX3_begins 47 = .ok (.iastore, 1) := dk_79 (dk_at dksX3_begins_2 0 rfl rfl)
theorem dX3_begins_48 : decode cX3_begins 48 = .ok (.aload_n 0, 1) := dk_42 (dk_at dksX3_begins_2 1 rfl rfl)
theorem dX3_begins_49 : decode cX3_begins 49 = .ok (.getfield 28, 3) := dk_180 0 28 (dk_at dksX3_begins_2 2 rfl rfl)
theorem dX3_begins_52 : decode cX3_begins 52 = .ok (.iload_n 1, 1) := dk_27 (dk_at dksX3_begins_2 5 rfl rfl)
theorem dX3_begins_53 : decode cX3_begins 53 = .ok (.iconst 0, 1) := dk_3 (dk_at dksX3_begins_2 6 rfl rfl)
theorem dX3_begins_54 : decode cX3_begins 54 = .ok (.iastore, 1) := dk_79 (dk_at dksX3_begins_2 7 rfl rfl)
theorem dX3_begins_55 : decode cX3_begins 55 = .ok (.iinc 1 1, 3) := dk_132 1 1 (dk_at dksX3_begins_2 8 rfl rfl)
theorem dX3_begins_58 : decode cX3_begins 58 = .ok (.goto (-46), 3) := dk_167 255 210 (dk_at dksX3_begins_2 11 rfl rfl)
theorem dX3_begins_61 : decode cX3_begins 61 = .ok (.return_, 1) := dk_177 (dk_at dksX3_begins_2 14 rfl rfl)
abbrev cX3_tellsAll : ByteArray := prog_7_method_17_code
def yX3_tellsAll : MethodName := ⟨RX3, "tellsAll", "()V"⟩
def dkwX3_tellsAll_7 : List UInt8 := [4, 3, 84, 177]
abbrev dktX3_tellsAll_7 : List UInt8 := dkwX3_tellsAll_7 ++ []
def dkwX3_tellsAll_6 : List UInt8 := [182, 0, 148, 42, 3, 181, 0, 152, 42, 3, 181, 0, 155, 42, 180, 0, 67, 3, 3, 84, 42, 180, 0, 67]
abbrev dktX3_tellsAll_6 : List UInt8 := dkwX3_tellsAll_6 ++ dktX3_tellsAll_7
def dkwX3_tellsAll_5 : List UInt8 := [180, 0, 19, 28, 46, 79, 132, 2, 1, 167, 255, 230, 132, 1, 1, 167, 255, 153, 42, 42, 180, 0, 49]
abbrev dktX3_tellsAll_5 : List UInt8 := dkwX3_tellsAll_5 ++ dktX3_tellsAll_6
def dkwX3_tellsAll_4 : List UInt8 := [16, 12, 27, 104, 61, 28, 16, 12, 27, 104, 16, 12, 96, 162, 0, 21, 42, 180, 0, 37, 28, 42]
abbrev dktX3_tellsAll_4 : List UInt8 := dkwX3_tellsAll_4 ++ dktX3_tellsAll_5
def dkwX3_tellsAll_3 : List UInt8 := [180, 0, 43, 27, 42, 180, 0, 25, 27, 46, 79, 42, 180, 0, 46, 27, 42, 180, 0, 28, 27, 46, 79]
abbrev dktX3_tellsAll_3 : List UInt8 := dkwX3_tellsAll_3 ++ dktX3_tellsAll_4
def dkwX3_tellsAll_2 : List UInt8 := [180, 0, 34, 27, 42, 180, 0, 16, 27, 46, 79, 42, 180, 0, 40, 27, 42, 180, 0, 22, 27, 46, 79, 42]
abbrev dktX3_tellsAll_2 : List UInt8 := dkwX3_tellsAll_2 ++ dktX3_tellsAll_3
def dkwX3_tellsAll_1 : List UInt8 := [181, 0, 145, 3, 60, 27, 16, 8, 162, 0, 103, 42, 180, 0, 31, 27, 42, 180, 0, 13, 27, 46, 79, 42]
abbrev dktX3_tellsAll_1 : List UInt8 := dkwX3_tellsAll_1 ++ dktX3_tellsAll_2
def dkwX3_tellsAll_0 : List UInt8 := [42, 42, 180, 0, 120, 158, 0, 10, 42, 180, 0, 120, 167, 0, 4, 4, 181, 0, 142, 42, 42, 180, 0, 123]
abbrev dktX3_tellsAll_0 : List UInt8 := dkwX3_tellsAll_0 ++ dktX3_tellsAll_1
theorem dksX3_tellsAll_0 : cX3_tellsAll.data.toList.drop 0 = dktX3_tellsAll_0 := by decide +kernel
theorem dksX3_tellsAll_1 : cX3_tellsAll.data.toList.drop 24 = dktX3_tellsAll_1 := dk_seg dksX3_tellsAll_0 24 rfl rfl
theorem dksX3_tellsAll_2 : cX3_tellsAll.data.toList.drop 48 = dktX3_tellsAll_2 := dk_seg dksX3_tellsAll_1 24 rfl rfl
theorem dksX3_tellsAll_3 : cX3_tellsAll.data.toList.drop 72 = dktX3_tellsAll_3 := dk_seg dksX3_tellsAll_2 24 rfl rfl
theorem dksX3_tellsAll_4 : cX3_tellsAll.data.toList.drop 95 = dktX3_tellsAll_4 := dk_seg dksX3_tellsAll_3 23 rfl rfl
theorem dksX3_tellsAll_5 : cX3_tellsAll.data.toList.drop 117 = dktX3_tellsAll_5 := dk_seg dksX3_tellsAll_4 22 rfl rfl
theorem dksX3_tellsAll_6 : cX3_tellsAll.data.toList.drop 140 = dktX3_tellsAll_6 := dk_seg dksX3_tellsAll_5 23 rfl rfl
theorem dksX3_tellsAll_7 : cX3_tellsAll.data.toList.drop 164 = dktX3_tellsAll_7 := dk_seg dksX3_tellsAll_6 24 rfl rfl
theorem dX3_tellsAll_0 : decode cX3_tellsAll 0 = .ok (.aload_n 0, 1) := dk_42 (dk_at dksX3_tellsAll_0 0 rfl rfl)
theorem dX3_tellsAll_1 : decode cX3_tellsAll 1 = .ok (.aload_n 0, 1) := dk_42 (dk_at dksX3_tellsAll_0 1 rfl rfl)
theorem dX3_tellsAll_2 : decode cX3_tellsAll 2 = .ok (.getfield 120, 3) := dk_180 0 120 (dk_at dksX3_tellsAll_0 2 rfl rfl)
theorem dX3_tellsAll_5 : decode cX3_tellsAll 5 = .ok (.ifCond .le 10, 3) := dk_158 0 10 (dk_at dksX3_tellsAll_0 5 rfl rfl)
theorem dX3_tellsAll_8 : decode cX3_tellsAll 8 = .ok (.aload_n 0, 1) := dk_42 (dk_at dksX3_tellsAll_0 8 rfl rfl)
theorem dX3_tellsAll_9 : decode cX3_tellsAll 9 = .ok (.getfield 120, 3) := dk_180 0 120 (dk_at dksX3_tellsAll_0 9 rfl rfl)
theorem dX3_tellsAll_12 : decode cX3_tellsAll 12 = .ok (.goto 4, 3) := dk_167 0 4 (dk_at dksX3_tellsAll_0 12 rfl rfl)
theorem dX3_tellsAll_15 : decode cX3_tellsAll 15 = .ok (.iconst 1, 1) := dk_4 (dk_at dksX3_tellsAll_0 15 rfl rfl)
theorem dX3_tellsAll_16 : decode cX3_tellsAll 16 = .ok (.putfield 142, 3) := dk_181 0 142 (dk_at dksX3_tellsAll_0 16 rfl rfl)
theorem dX3_tellsAll_19 : decode cX3_tellsAll 19 = .ok (.aload_n 0, 1) := dk_42 (dk_at dksX3_tellsAll_0 19 rfl rfl)
theorem dX3_tellsAll_20 : decode cX3_tellsAll 20 = .ok (.aload_n 0, 1) := dk_42 (dk_at dksX3_tellsAll_0 20 rfl rfl)
theorem dX3_tellsAll_21 : decode cX3_tellsAll 21 = .ok (.getfield 123, 3) := dk_180 0 123 (dk_at dksX3_tellsAll_0 21 rfl rfl)
theorem dX3_tellsAll_24 : decode cX3_tellsAll 24 = .ok (.putfield 145, 3) := dk_181 0 145 (dk_at dksX3_tellsAll_1 0 rfl rfl)
theorem dX3_tellsAll_27 : decode cX3_tellsAll 27 = .ok (.iconst 0, 1) := dk_3 (dk_at dksX3_tellsAll_1 3 rfl rfl)
theorem dX3_tellsAll_28 : decode cX3_tellsAll 28 = .ok (.istore_n 1, 1) := dk_60 (dk_at dksX3_tellsAll_1 4 rfl rfl)
theorem dX3_tellsAll_29 : decode cX3_tellsAll 29 = .ok (.iload_n 1, 1) := dk_27 (dk_at dksX3_tellsAll_1 5 rfl rfl)
theorem dX3_tellsAll_30 : decode cX3_tellsAll 30 = .ok (.bipush 8, 2) := dk_16 8 (dk_at dksX3_tellsAll_1 6 rfl rfl)
theorem dX3_tellsAll_32 : decode cX3_tellsAll 32 = .ok (.if_icmp .ge 103, 3) := dk_162 0 103 (dk_at dksX3_tellsAll_1 8 rfl rfl)
theorem dX3_tellsAll_35 : decode cX3_tellsAll 35 = .ok (.aload_n 0, 1) := dk_42 (dk_at dksX3_tellsAll_1 11 rfl rfl)
theorem dX3_tellsAll_36 : decode cX3_tellsAll 36 = .ok (.getfield 31, 3) := dk_180 0 31 (dk_at dksX3_tellsAll_1 12 rfl rfl)
theorem dX3_tellsAll_39 : decode cX3_tellsAll 39 = .ok (.iload_n 1, 1) := dk_27 (dk_at dksX3_tellsAll_1 15 rfl rfl)
theorem dX3_tellsAll_40 : decode cX3_tellsAll 40 = .ok (.aload_n 0, 1) := dk_42 (dk_at dksX3_tellsAll_1 16 rfl rfl)
theorem dX3_tellsAll_41 : decode cX3_tellsAll 41 = .ok (.getfield 13, 3) := dk_180 0 13 (dk_at dksX3_tellsAll_1 17 rfl rfl)
theorem dX3_tellsAll_44 : decode cX3_tellsAll 44 = .ok (.iload_n 1, 1) := dk_27 (dk_at dksX3_tellsAll_1 20 rfl rfl)
theorem dX3_tellsAll_45 : decode cX3_tellsAll 45 = .ok (.iaload, 1) := dk_46 (dk_at dksX3_tellsAll_1 21 rfl rfl)
theorem dX3_tellsAll_46 : decode cX3_tellsAll 46 = .ok (.iastore, 1) := dk_79 (dk_at dksX3_tellsAll_1 22 rfl rfl)
theorem dX3_tellsAll_47 : decode cX3_tellsAll 47 = .ok (.aload_n 0, 1) := dk_42 (dk_at dksX3_tellsAll_1 23 rfl rfl)
theorem dX3_tellsAll_48 : decode cX3_tellsAll 48 = .ok (.getfield 34, 3) := dk_180 0 34 (dk_at dksX3_tellsAll_2 0 rfl rfl)
theorem dX3_tellsAll_51 : decode cX3_tellsAll 51 = .ok (.iload_n 1, 1) := dk_27 (dk_at dksX3_tellsAll_2 3 rfl rfl)
theorem dX3_tellsAll_52 : decode cX3_tellsAll 52 = .ok (.aload_n 0, 1) := dk_42 (dk_at dksX3_tellsAll_2 4 rfl rfl)
theorem dX3_tellsAll_53 : decode cX3_tellsAll 53 = .ok (.getfield 16, 3) := dk_180 0 16 (dk_at dksX3_tellsAll_2 5 rfl rfl)
theorem dX3_tellsAll_56 : decode cX3_tellsAll 56 = .ok (.iload_n 1, 1) := dk_27 (dk_at dksX3_tellsAll_2 8 rfl rfl)
theorem dX3_tellsAll_57 : decode cX3_tellsAll 57 = .ok (.iaload, 1) := dk_46 (dk_at dksX3_tellsAll_2 9 rfl rfl)
theorem dX3_tellsAll_58 : decode cX3_tellsAll 58 = .ok (.iastore, 1) := dk_79 (dk_at dksX3_tellsAll_2 10 rfl rfl)
theorem dX3_tellsAll_59 : decode cX3_tellsAll 59 = .ok (.aload_n 0, 1) := dk_42 (dk_at dksX3_tellsAll_2 11 rfl rfl)
theorem dX3_tellsAll_60 : decode cX3_tellsAll 60 = .ok (.getfield 40, 3) := dk_180 0 40 (dk_at dksX3_tellsAll_2 12 rfl rfl)
theorem dX3_tellsAll_63 : decode cX3_tellsAll 63 = .ok (.iload_n 1, 1) := dk_27 (dk_at dksX3_tellsAll_2 15 rfl rfl)
theorem dX3_tellsAll_64 : decode cX3_tellsAll 64 = .ok (.aload_n 0, 1) := dk_42 (dk_at dksX3_tellsAll_2 16 rfl rfl)
theorem dX3_tellsAll_65 : decode cX3_tellsAll 65 = .ok (.getfield 22, 3) := dk_180 0 22 (dk_at dksX3_tellsAll_2 17 rfl rfl)
theorem dX3_tellsAll_68 : decode cX3_tellsAll 68 = .ok (.iload_n 1, 1) := dk_27 (dk_at dksX3_tellsAll_2 20 rfl rfl)
theorem dX3_tellsAll_69 : decode cX3_tellsAll 69 = .ok (.iaload, 1) := dk_46 (dk_at dksX3_tellsAll_2 21 rfl rfl)
theorem dX3_tellsAll_70 : decode cX3_tellsAll 70 = .ok (.iastore, 1) := dk_79 (dk_at dksX3_tellsAll_2 22 rfl rfl)
theorem dX3_tellsAll_71 : decode cX3_tellsAll 71 = .ok (.aload_n 0, 1) := dk_42 (dk_at dksX3_tellsAll_2 23 rfl rfl)
theorem dX3_tellsAll_72 : decode cX3_tellsAll 72 = .ok (.getfield 43, 3) := dk_180 0 43 (dk_at dksX3_tellsAll_3 0 rfl rfl)
theorem dX3_tellsAll_75 : decode cX3_tellsAll 75 = .ok (.iload_n 1, 1) := dk_27 (dk_at dksX3_tellsAll_3 3 rfl rfl)
theorem dX3_tellsAll_76 : decode cX3_tellsAll 76 = .ok (.aload_n 0, 1) := dk_42 (dk_at dksX3_tellsAll_3 4 rfl rfl)
theorem dX3_tellsAll_77 : decode cX3_tellsAll 77 = .ok (.getfield 25, 3) := dk_180 0 25 (dk_at dksX3_tellsAll_3 5 rfl rfl)
theorem dX3_tellsAll_80 : decode cX3_tellsAll 80 = .ok (.iload_n 1, 1) := dk_27 (dk_at dksX3_tellsAll_3 8 rfl rfl)
theorem dX3_tellsAll_81 : decode cX3_tellsAll 81 = .ok (.iaload, 1) := dk_46 (dk_at dksX3_tellsAll_3 9 rfl rfl)
theorem dX3_tellsAll_82 : decode cX3_tellsAll 82 = .ok (.iastore, 1) := dk_79 (dk_at dksX3_tellsAll_3 10 rfl rfl)
theorem dX3_tellsAll_83 : decode cX3_tellsAll 83 = .ok (.aload_n 0, 1) := dk_42 (dk_at dksX3_tellsAll_3 11 rfl rfl)
theorem dX3_tellsAll_84 : decode cX3_tellsAll 84 = .ok (.getfield 46, 3) := dk_180 0 46 (dk_at dksX3_tellsAll_3 12 rfl rfl)
theorem dX3_tellsAll_87 : decode cX3_tellsAll 87 = .ok (.iload_n 1, 1) := dk_27 (dk_at dksX3_tellsAll_3 15 rfl rfl)
theorem dX3_tellsAll_88 : decode cX3_tellsAll 88 = .ok (.aload_n 0, 1) := dk_42 (dk_at dksX3_tellsAll_3 16 rfl rfl)
theorem dX3_tellsAll_89 : decode cX3_tellsAll 89 = .ok (.getfield 28, 3) := dk_180 0 28 (dk_at dksX3_tellsAll_3 17 rfl rfl)
theorem dX3_tellsAll_92 : decode cX3_tellsAll 92 = .ok (.iload_n 1, 1) := dk_27 (dk_at dksX3_tellsAll_3 20 rfl rfl)
theorem dX3_tellsAll_93 : decode cX3_tellsAll 93 = .ok (.iaload, 1) := dk_46 (dk_at dksX3_tellsAll_3 21 rfl rfl)
theorem dX3_tellsAll_94 : decode cX3_tellsAll 94 = .ok (.iastore, 1) := dk_79 (dk_at dksX3_tellsAll_3 22 rfl rfl)
theorem dX3_tellsAll_95 : decode cX3_tellsAll 95 = .ok (.bipush 12, 2) := dk_16 12 (dk_at dksX3_tellsAll_4 0 rfl rfl)
theorem dX3_tellsAll_97 : decode cX3_tellsAll 97 = .ok (.iload_n 1, 1) := dk_27 (dk_at dksX3_tellsAll_4 2 rfl rfl)
theorem dX3_tellsAll_98 : decode cX3_tellsAll 98 = .ok (.imul, 1) := dk_104 (dk_at dksX3_tellsAll_4 3 rfl rfl)
theorem dX3_tellsAll_99 : decode cX3_tellsAll 99 = .ok (.istore_n 2, 1) := dk_61 (dk_at dksX3_tellsAll_4 4 rfl rfl)
theorem dX3_tellsAll_100 : decode cX3_tellsAll 100 = .ok (.iload_n 2, 1) := dk_28 (dk_at dksX3_tellsAll_4 5 rfl rfl)
theorem dX3_tellsAll_101 : decode cX3_tellsAll 101 = .ok (.bipush 12, 2) := dk_16 12 (dk_at dksX3_tellsAll_4 6 rfl rfl)
theorem dX3_tellsAll_103 : decode cX3_tellsAll 103 = .ok (.iload_n 1, 1) := dk_27 (dk_at dksX3_tellsAll_4 8 rfl rfl)
theorem dX3_tellsAll_104 : decode cX3_tellsAll 104 = .ok (.imul, 1) := dk_104 (dk_at dksX3_tellsAll_4 9 rfl rfl)
theorem dX3_tellsAll_105 : decode cX3_tellsAll 105 = .ok (.bipush 12, 2) := dk_16 12 (dk_at dksX3_tellsAll_4 10 rfl rfl)
theorem dX3_tellsAll_107 : decode cX3_tellsAll 107 = .ok (.iadd, 1) := dk_96 (dk_at dksX3_tellsAll_4 12 rfl rfl)
theorem dX3_tellsAll_108 : decode cX3_tellsAll 108 = .ok (.if_icmp .ge 21, 3) := dk_162 0 21 (dk_at dksX3_tellsAll_4 13 rfl rfl)
theorem dX3_tellsAll_111 : decode cX3_tellsAll 111 = .ok (.aload_n 0, 1) := dk_42 (dk_at dksX3_tellsAll_4 16 rfl rfl)
theorem dX3_tellsAll_112 : decode cX3_tellsAll 112 = .ok (.getfield 37, 3) := dk_180 0 37 (dk_at dksX3_tellsAll_4 17 rfl rfl)
theorem dX3_tellsAll_115 : decode cX3_tellsAll 115 = .ok (.iload_n 2, 1) := dk_28 (dk_at dksX3_tellsAll_4 20 rfl rfl)
theorem dX3_tellsAll_116 : decode cX3_tellsAll 116 = .ok (.aload_n 0, 1) := dk_42 (dk_at dksX3_tellsAll_4 21 rfl rfl)
theorem dX3_tellsAll_117 : decode cX3_tellsAll 117 = .ok (.getfield 19, 3) := dk_180 0 19 (dk_at dksX3_tellsAll_5 0 rfl rfl)
theorem dX3_tellsAll_120 : decode cX3_tellsAll 120 = .ok (.iload_n 2, 1) := dk_28 (dk_at dksX3_tellsAll_5 3 rfl rfl)
theorem dX3_tellsAll_121 : decode cX3_tellsAll 121 = .ok (.iaload, 1) := dk_46 (dk_at dksX3_tellsAll_5 4 rfl rfl)
theorem dX3_tellsAll_122 : decode cX3_tellsAll 122 = .ok (.iastore, 1) := dk_79 (dk_at dksX3_tellsAll_5 5 rfl rfl)
theorem dX3_tellsAll_123 : decode cX3_tellsAll 123 = .ok (.iinc 2 1, 3) := dk_132 2 1 (dk_at dksX3_tellsAll_5 6 rfl rfl)
theorem dX3_tellsAll_126 : decode cX3_tellsAll 126 = .ok (.goto (-26), 3) := dk_167 255 230 (dk_at dksX3_tellsAll_5 9 rfl rfl)
theorem dX3_tellsAll_129 : decode cX3_tellsAll 129 = .ok (.iinc 1 1, 3) := dk_132 1 1 (dk_at dksX3_tellsAll_5 12 rfl rfl)
theorem dX3_tellsAll_132 : decode cX3_tellsAll 132 = .ok (.goto (-103), 3) := dk_167 255 153 (dk_at dksX3_tellsAll_5 15 rfl rfl)
theorem dX3_tellsAll_135 : decode cX3_tellsAll 135 = .ok (.aload_n 0, 1) := dk_42 (dk_at dksX3_tellsAll_5 18 rfl rfl)
theorem dX3_tellsAll_136 : decode cX3_tellsAll 136 = .ok (.aload_n 0, 1) := dk_42 (dk_at dksX3_tellsAll_5 19 rfl rfl)
theorem dX3_tellsAll_137 : decode cX3_tellsAll 137 = .ok (.getfield 49, 3) := dk_180 0 49 (dk_at dksX3_tellsAll_5 20 rfl rfl)
theorem dX3_tellsAll_140 : decode cX3_tellsAll 140 = .ok (.invokevirtual 148, 3) := dk_182 0 148 (dk_at dksX3_tellsAll_6 0 rfl rfl)
theorem dX3_tellsAll_143 : decode cX3_tellsAll 143 = .ok (.aload_n 0, 1) := dk_42 (dk_at dksX3_tellsAll_6 3 rfl rfl)
theorem dX3_tellsAll_144 : decode cX3_tellsAll 144 = .ok (.iconst 0, 1) := dk_3 (dk_at dksX3_tellsAll_6 4 rfl rfl)
theorem dX3_tellsAll_145 : decode cX3_tellsAll 145 = .ok (.putfield 152, 3) := dk_181 0 152 (dk_at dksX3_tellsAll_6 5 rfl rfl)
theorem dX3_tellsAll_148 : decode cX3_tellsAll 148 = .ok (.aload_n 0, 1) := dk_42 (dk_at dksX3_tellsAll_6 8 rfl rfl)
theorem dX3_tellsAll_149 : decode cX3_tellsAll 149 = .ok (.iconst 0, 1) := dk_3 (dk_at dksX3_tellsAll_6 9 rfl rfl)
theorem dX3_tellsAll_150 : decode cX3_tellsAll 150 = .ok (.putfield 155, 3) := dk_181 0 155 (dk_at dksX3_tellsAll_6 10 rfl rfl)
theorem dX3_tellsAll_153 : decode cX3_tellsAll 153 = .ok (.aload_n 0, 1) := dk_42 (dk_at dksX3_tellsAll_6 13 rfl rfl)
theorem dX3_tellsAll_154 : decode cX3_tellsAll 154 = .ok (.getfield 67, 3) := dk_180 0 67 (dk_at dksX3_tellsAll_6 14 rfl rfl)
theorem dX3_tellsAll_157 : decode cX3_tellsAll 157 = .ok (.iconst 0, 1) := dk_3 (dk_at dksX3_tellsAll_6 17 rfl rfl)
theorem dX3_tellsAll_158 : decode cX3_tellsAll 158 = .ok (.iconst 0, 1) := dk_3 (dk_at dksX3_tellsAll_6 18 rfl rfl)
theorem dX3_tellsAll_159 : decode cX3_tellsAll 159 = .ok (.bastore, 1) := dk_84 (dk_at dksX3_tellsAll_6 19 rfl rfl)
theorem dX3_tellsAll_160 : decode cX3_tellsAll 160 = .ok (.aload_n 0, 1) := dk_42 (dk_at dksX3_tellsAll_6 20 rfl rfl)
theorem dX3_tellsAll_161 : decode cX3_tellsAll 161 = .ok (.getfield 67, 3) := dk_180 0 67 (dk_at dksX3_tellsAll_6 21 rfl rfl)
theorem dX3_tellsAll_164 : decode cX3_tellsAll 164 = .ok (.iconst 1, 1) := dk_4 (dk_at dksX3_tellsAll_7 0 rfl rfl)
theorem dX3_tellsAll_165 : decode cX3_tellsAll 165 = .ok (.iconst 0, 1) := dk_3 (dk_at dksX3_tellsAll_7 1 rfl rfl)
theorem dX3_tellsAll_166 : decode cX3_tellsAll 166 = .ok (.bastore, 1) := dk_84 (dk_at dksX3_tellsAll_7 2 rfl rfl)
theorem dX3_tellsAll_167 : decode cX3_tellsAll 167 = .ok (.return_, 1) := dk_177 (dk_at dksX3_tellsAll_7 3 rfl rfl)
abbrev cX3_starts : ByteArray := prog_7_method_20_code
def yX3_starts : MethodName := ⟨RX3, "starts", "([I)V"⟩
def dkwX3_starts_3 : List UInt8 := [17, 39, 15, 167, 0, 9, 42, 180, 0, 40, 3, 46, 79, 177]
abbrev dktX3_starts_3 : List UInt8 := dkwX3_starts_3 ++ []
def dkwX3_starts_2 : List UInt8 := [132, 2, 1, 167, 255, 226, 43, 3, 4, 79, 43, 7, 42, 180, 0, 40, 3, 46, 16, 99, 160, 0, 9]
abbrev dktX3_starts_2 : List UInt8 := dkwX3_starts_2 ++ dktX3_starts_3
def dkwX3_starts_1 : List UInt8 := [162, 0, 30, 43, 16, 18, 28, 104, 4, 96, 16, 247, 79, 43, 16, 18, 28, 104, 16, 8, 96, 16, 247, 79]
abbrev dktX3_starts_1 : List UInt8 := dkwX3_starts_1 ++ dktX3_starts_2
def dkwX3_starts_0 : List UInt8 := [3, 61, 28, 17, 1, 70, 162, 0, 13, 43, 28, 3, 79, 132, 2, 1, 167, 255, 242, 3, 61, 28, 16, 8]
abbrev dktX3_starts_0 : List UInt8 := dkwX3_starts_0 ++ dktX3_starts_1
theorem dksX3_starts_0 : cX3_starts.data.toList.drop 0 = dktX3_starts_0 := by decide +kernel
theorem dksX3_starts_1 : cX3_starts.data.toList.drop 24 = dktX3_starts_1 := dk_seg dksX3_starts_0 24 rfl rfl
theorem dksX3_starts_2 : cX3_starts.data.toList.drop 48 = dktX3_starts_2 := dk_seg dksX3_starts_1 24 rfl rfl
theorem dksX3_starts_3 : cX3_starts.data.toList.drop 71 = dktX3_starts_3 := dk_seg dksX3_starts_2 23 rfl rfl
theorem dX3_starts_0 : decode cX3_starts 0 = .ok (.iconst 0, 1) := dk_3 (dk_at dksX3_starts_0 0 rfl rfl)
theorem dX3_starts_1 : decode cX3_starts 1 = .ok (.istore_n 2, 1) := dk_61 (dk_at dksX3_starts_0 1 rfl rfl)
theorem dX3_starts_2 : decode cX3_starts 2 = .ok (.iload_n 2, 1) := dk_28 (dk_at dksX3_starts_0 2 rfl rfl)
theorem dX3_starts_3 : decode cX3_starts 3 = .ok (.sipush 326, 3) := dk_17 1 70 (dk_at dksX3_starts_0 3 rfl rfl)
theorem dX3_starts_6 : decode cX3_starts 6 = .ok (.if_icmp .ge 13, 3) := dk_162 0 13 (dk_at dksX3_starts_0 6 rfl rfl)
theorem dX3_starts_9 : decode cX3_starts 9 = .ok (.aload_n 1, 1) := dk_43 (dk_at dksX3_starts_0 9 rfl rfl)
theorem dX3_starts_10 : decode cX3_starts 10 = .ok (.iload_n 2, 1) := dk_28 (dk_at dksX3_starts_0 10 rfl rfl)
theorem dX3_starts_11 : decode cX3_starts 11 = .ok (.iconst 0, 1) := dk_3 (dk_at dksX3_starts_0 11 rfl rfl)
theorem dX3_starts_12 : decode cX3_starts 12 = .ok (.iastore, 1) := dk_79 (dk_at dksX3_starts_0 12 rfl rfl)
theorem dX3_starts_13 : decode cX3_starts 13 = .ok (.iinc 2 1, 3) := dk_132 2 1 (dk_at dksX3_starts_0 13 rfl rfl)
theorem dX3_starts_16 : decode cX3_starts 16 = .ok (.goto (-14), 3) := dk_167 255 242 (dk_at dksX3_starts_0 16 rfl rfl)
theorem dX3_starts_19 : decode cX3_starts 19 = .ok (.iconst 0, 1) := dk_3 (dk_at dksX3_starts_0 19 rfl rfl)
theorem dX3_starts_20 : decode cX3_starts 20 = .ok (.istore_n 2, 1) := dk_61 (dk_at dksX3_starts_0 20 rfl rfl)
theorem dX3_starts_21 : decode cX3_starts 21 = .ok (.iload_n 2, 1) := dk_28 (dk_at dksX3_starts_0 21 rfl rfl)
theorem dX3_starts_22 : decode cX3_starts 22 = .ok (.bipush 8, 2) := dk_16 8 (dk_at dksX3_starts_0 22 rfl rfl)
theorem dX3_starts_24 : decode cX3_starts 24 = .ok (.if_icmp .ge 30, 3) := dk_162 0 30 (dk_at dksX3_starts_1 0 rfl rfl)
theorem dX3_starts_27 : decode cX3_starts 27 = .ok (.aload_n 1, 1) := dk_43 (dk_at dksX3_starts_1 3 rfl rfl)
theorem dX3_starts_28 : decode cX3_starts 28 = .ok (.bipush 18, 2) := dk_16 18 (dk_at dksX3_starts_1 4 rfl rfl)
theorem dX3_starts_30 : decode cX3_starts 30 = .ok (.iload_n 2, 1) := dk_28 (dk_at dksX3_starts_1 6 rfl rfl)
theorem dX3_starts_31 : decode cX3_starts 31 = .ok (.imul, 1) := dk_104 (dk_at dksX3_starts_1 7 rfl rfl)
theorem dX3_starts_32 : decode cX3_starts 32 = .ok (.iconst 1, 1) := dk_4 (dk_at dksX3_starts_1 8 rfl rfl)
theorem dX3_starts_33 : decode cX3_starts 33 = .ok (.iadd, 1) := dk_96 (dk_at dksX3_starts_1 9 rfl rfl)
theorem dX3_starts_34 : decode cX3_starts 34 = .ok (.bipush (-9), 2) := dk_16 247 (dk_at dksX3_starts_1 10 rfl rfl)
theorem dX3_starts_36 : decode cX3_starts 36 = .ok (.iastore, 1) := dk_79 (dk_at dksX3_starts_1 12 rfl rfl)
theorem dX3_starts_37 : decode cX3_starts 37 = .ok (.aload_n 1, 1) := dk_43 (dk_at dksX3_starts_1 13 rfl rfl)
theorem dX3_starts_38 : decode cX3_starts 38 = .ok (.bipush 18, 2) := dk_16 18 (dk_at dksX3_starts_1 14 rfl rfl)
theorem dX3_starts_40 : decode cX3_starts 40 = .ok (.iload_n 2, 1) := dk_28 (dk_at dksX3_starts_1 16 rfl rfl)
theorem dX3_starts_41 : decode cX3_starts 41 = .ok (.imul, 1) := dk_104 (dk_at dksX3_starts_1 17 rfl rfl)
theorem dX3_starts_42 : decode cX3_starts 42 = .ok (.bipush 8, 2) := dk_16 8 (dk_at dksX3_starts_1 18 rfl rfl)
theorem dX3_starts_44 : decode cX3_starts 44 = .ok (.iadd, 1) := dk_96 (dk_at dksX3_starts_1 20 rfl rfl)
theorem dX3_starts_45 : decode cX3_starts 45 = .ok (.bipush (-9), 2) := dk_16 247 (dk_at dksX3_starts_1 21 rfl rfl)
theorem dX3_starts_47 : decode cX3_starts 47 = .ok (.iastore, 1) := dk_79 (dk_at dksX3_starts_1 23 rfl rfl)
theorem dX3_starts_48 : decode cX3_starts 48 = .ok (.iinc 2 1, 3) := dk_132 2 1 (dk_at dksX3_starts_2 0 rfl rfl)
theorem dX3_starts_51 : decode cX3_starts 51 = .ok (.goto (-30), 3) := dk_167 255 226 (dk_at dksX3_starts_2 3 rfl rfl)
theorem dX3_starts_54 : decode cX3_starts 54 = .ok (.aload_n 1, 1) := dk_43 (dk_at dksX3_starts_2 6 rfl rfl)
theorem dX3_starts_55 : decode cX3_starts 55 = .ok (.iconst 0, 1) := dk_3 (dk_at dksX3_starts_2 7 rfl rfl)
theorem dX3_starts_56 : decode cX3_starts 56 = .ok (.iconst 1, 1) := dk_4 (dk_at dksX3_starts_2 8 rfl rfl)
theorem dX3_starts_57 : decode cX3_starts 57 = .ok (.iastore, 1) := dk_79 (dk_at dksX3_starts_2 9 rfl rfl)
theorem dX3_starts_58 : decode cX3_starts 58 = .ok (.aload_n 1, 1) := dk_43 (dk_at dksX3_starts_2 10 rfl rfl)
theorem dX3_starts_59 : decode cX3_starts 59 = .ok (.iconst 4, 1) := dk_7 (dk_at dksX3_starts_2 11 rfl rfl)
theorem dX3_starts_60 : decode cX3_starts 60 = .ok (.aload_n 0, 1) := dk_42 (dk_at dksX3_starts_2 12 rfl rfl)
theorem dX3_starts_61 : decode cX3_starts 61 = .ok (.getfield 40, 3) := dk_180 0 40 (dk_at dksX3_starts_2 13 rfl rfl)
theorem dX3_starts_64 : decode cX3_starts 64 = .ok (.iconst 0, 1) := dk_3 (dk_at dksX3_starts_2 16 rfl rfl)
theorem dX3_starts_65 : decode cX3_starts 65 = .ok (.iaload, 1) := dk_46 (dk_at dksX3_starts_2 17 rfl rfl)
theorem dX3_starts_66 : decode cX3_starts 66 = .ok (.bipush 99, 2) := dk_16 99 (dk_at dksX3_starts_2 18 rfl rfl)
theorem dX3_starts_68 : decode cX3_starts 68 = .ok (.if_icmp .ne 9, 3) := dk_160 0 9 (dk_at dksX3_starts_2 20 rfl rfl)
theorem dX3_starts_71 : decode cX3_starts 71 = .ok (.sipush 9999, 3) := dk_17 39 15 (dk_at dksX3_starts_3 0 rfl rfl)
theorem dX3_starts_74 : decode cX3_starts 74 = .ok (.goto 9, 3) := dk_167 0 9 (dk_at dksX3_starts_3 3 rfl rfl)
theorem dX3_starts_77 : decode cX3_starts 77 = .ok (.aload_n 0, 1) := dk_42 (dk_at dksX3_starts_3 6 rfl rfl)
theorem dX3_starts_78 : decode cX3_starts 78 = .ok (.getfield 40, 3) := dk_180 0 40 (dk_at dksX3_starts_3 7 rfl rfl)
theorem dX3_starts_81 : decode cX3_starts 81 = .ok (.iconst 0, 1) := dk_3 (dk_at dksX3_starts_3 10 rfl rfl)
theorem dX3_starts_82 : decode cX3_starts 82 = .ok (.iaload, 1) := dk_46 (dk_at dksX3_starts_3 11 rfl rfl)
theorem dX3_starts_83 : decode cX3_starts 83 = .ok (.iastore, 1) := dk_79 (dk_at dksX3_starts_3 12 rfl rfl)
theorem dX3_starts_84 : decode cX3_starts 84 = .ok (.return_, 1) := dk_177 (dk_at dksX3_starts_3 13 rfl rfl)
abbrev cX3_type : ByteArray := prog_7_method_3_code
def yX3_type : MethodName := ⟨RX3, "type", "(I)I"⟩
def dkwX3_type_2 : List UInt8 := [180, 0, 84, 172]
abbrev dktX3_type_2 : List UInt8 := dkwX3_type_2 ++ []
def dkwX3_type_1 : List UInt8 := [172, 42, 180, 0, 7, 42, 180, 0, 84, 27, 79, 42, 89, 180, 0, 84, 4, 96, 181, 0, 84, 42]
abbrev dktX3_type_1 : List UInt8 := dkwX3_type_1 ++ dktX3_type_2
def dkwX3_type_0 : List UInt8 := [27, 3, 17, 0, 255, 184, 0, 80, 154, 0, 5, 2, 172, 42, 180, 0, 84, 16, 120, 160, 0, 6, 16, 253]
abbrev dktX3_type_0 : List UInt8 := dkwX3_type_0 ++ dktX3_type_1
theorem dksX3_type_0 : cX3_type.data.toList.drop 0 = dktX3_type_0 := by decide +kernel
theorem dksX3_type_1 : cX3_type.data.toList.drop 24 = dktX3_type_1 := dk_seg dksX3_type_0 24 rfl rfl
theorem dksX3_type_2 : cX3_type.data.toList.drop 46 = dktX3_type_2 := dk_seg dksX3_type_1 22 rfl rfl
theorem dX3_type_0 : decode cX3_type 0 = .ok (.iload_n 1, 1) := dk_27 (dk_at dksX3_type_0 0 rfl rfl)
theorem dX3_type_1 : decode cX3_type 1 = .ok (.iconst 0, 1) := dk_3 (dk_at dksX3_type_0 1 rfl rfl)
theorem dX3_type_2 : decode cX3_type 2 = .ok (.sipush 255, 3) := dk_17 0 255 (dk_at dksX3_type_0 2 rfl rfl)
theorem dX3_type_5 : decode cX3_type 5 = .ok (.invokestatic 80, 3) := dk_184 0 80 (dk_at dksX3_type_0 5 rfl rfl)
theorem dX3_type_8 : decode cX3_type 8 = .ok (.ifCond .ne 5, 3) := dk_154 0 5 (dk_at dksX3_type_0 8 rfl rfl)
theorem dX3_type_11 : decode cX3_type 11 = .ok (.iconst (-1), 1) := dk_2 (dk_at dksX3_type_0 11 rfl rfl)
theorem dX3_type_12 : decode cX3_type 12 = .ok (.ireturn, 1) := dk_172 (dk_at dksX3_type_0 12 rfl rfl)
theorem dX3_type_13 : decode cX3_type 13 = .ok (.aload_n 0, 1) := dk_42 (dk_at dksX3_type_0 13 rfl rfl)
theorem dX3_type_14 : decode cX3_type 14 = .ok (.getfield 84, 3) := dk_180 0 84 (dk_at dksX3_type_0 14 rfl rfl)
theorem dX3_type_17 : decode cX3_type 17 = .ok (.bipush 120, 2) := dk_16 120 (dk_at dksX3_type_0 17 rfl rfl)
theorem dX3_type_19 : decode cX3_type 19 = .ok (.if_icmp .ne 6, 3) := dk_160 0 6 (dk_at dksX3_type_0 19 rfl rfl)
theorem dX3_type_22 : decode cX3_type 22 = .ok (.bipush (-3), 2) := dk_16 253 (dk_at dksX3_type_0 22 rfl rfl)
theorem dX3_type_24 : decode cX3_type 24 = .ok (.ireturn, 1) := dk_172 (dk_at dksX3_type_1 0 rfl rfl)
theorem dX3_type_25 : decode cX3_type 25 = .ok (.aload_n 0, 1) := dk_42 (dk_at dksX3_type_1 1 rfl rfl)
theorem dX3_type_26 : decode cX3_type 26 = .ok (.getfield 7, 3) := dk_180 0 7 (dk_at dksX3_type_1 2 rfl rfl)
theorem dX3_type_29 : decode cX3_type 29 = .ok (.aload_n 0, 1) := dk_42 (dk_at dksX3_type_1 5 rfl rfl)
theorem dX3_type_30 : decode cX3_type 30 = .ok (.getfield 84, 3) := dk_180 0 84 (dk_at dksX3_type_1 6 rfl rfl)
theorem dX3_type_33 : decode cX3_type 33 = .ok (.iload_n 1, 1) := dk_27 (dk_at dksX3_type_1 9 rfl rfl)
theorem dX3_type_34 : decode cX3_type 34 = .ok (.iastore, 1) := dk_79 (dk_at dksX3_type_1 10 rfl rfl)
theorem dX3_type_35 : decode cX3_type 35 = .ok (.aload_n 0, 1) := dk_42 (dk_at dksX3_type_1 11 rfl rfl)
theorem dX3_type_36 : decode cX3_type 36 = .ok (.dup, 1) := dk_89 (dk_at dksX3_type_1 12 rfl rfl)
theorem dX3_type_37 : decode cX3_type 37 = .ok (.getfield 84, 3) := dk_180 0 84 (dk_at dksX3_type_1 13 rfl rfl)
theorem dX3_type_40 : decode cX3_type 40 = .ok (.iconst 1, 1) := dk_4 (dk_at dksX3_type_1 16 rfl rfl)
theorem dX3_type_41 : decode cX3_type 41 = .ok (.iadd, 1) := dk_96 (dk_at dksX3_type_1 17 rfl rfl)
theorem dX3_type_42 : decode cX3_type 42 = .ok (.putfield 84, 3) := dk_181 0 84 (dk_at dksX3_type_1 18 rfl rfl)
theorem dX3_type_45 : decode cX3_type 45 = .ok (.aload_n 0, 1) := dk_42 (dk_at dksX3_type_1 21 rfl rfl)
theorem dX3_type_46 : decode cX3_type 46 = .ok (.getfield 84, 3) := dk_180 0 84 (dk_at dksX3_type_2 0 rfl rfl)
theorem dX3_type_49 : decode cX3_type 49 = .ok (.ireturn, 1) := dk_172 (dk_at dksX3_type_2 3 rfl rfl)
abbrev cX3_in : ByteArray := prog_7_method_2_code
def yX3_in : MethodName := ⟨RX3, "in", "(III)Z"⟩
def dkwX3_in_0 : List UInt8 := [26, 27, 161, 0, 12, 26, 28, 163, 0, 7, 4, 167, 0, 4, 3, 172]
abbrev dktX3_in_0 : List UInt8 := dkwX3_in_0 ++ []
theorem dksX3_in_0 : cX3_in.data.toList.drop 0 = dktX3_in_0 := by decide +kernel
theorem dX3_in_0 : decode cX3_in 0 = .ok (.iload_n 0, 1) := dk_26 (dk_at dksX3_in_0 0 rfl rfl)
theorem dX3_in_1 : decode cX3_in 1 = .ok (.iload_n 1, 1) := dk_27 (dk_at dksX3_in_0 1 rfl rfl)
theorem dX3_in_2 : decode cX3_in 2 = .ok (.if_icmp .lt 12, 3) := dk_161 0 12 (dk_at dksX3_in_0 2 rfl rfl)
theorem dX3_in_5 : decode cX3_in 5 = .ok (.iload_n 0, 1) := dk_26 (dk_at dksX3_in_0 5 rfl rfl)
theorem dX3_in_6 : decode cX3_in 6 = .ok (.iload_n 2, 1) := dk_28 (dk_at dksX3_in_0 6 rfl rfl)
theorem dX3_in_7 : decode cX3_in 7 = .ok (.if_icmp .gt 7, 3) := dk_163 0 7 (dk_at dksX3_in_0 7 rfl rfl)
theorem dX3_in_10 : decode cX3_in 10 = .ok (.iconst 1, 1) := dk_4 (dk_at dksX3_in_0 10 rfl rfl)
theorem dX3_in_11 : decode cX3_in 11 = .ok (.goto 4, 3) := dk_167 0 4 (dk_at dksX3_in_0 11 rfl rfl)
theorem dX3_in_14 : decode cX3_in 14 = .ok (.iconst 0, 1) := dk_3 (dk_at dksX3_in_0 14 rfl rfl)
theorem dX3_in_15 : decode cX3_in 15 = .ok (.ireturn, 1) := dk_172 (dk_at dksX3_in_0 15 rfl rfl)
abbrev cX3_clear : ByteArray := prog_7_method_4_code
def yX3_clear : MethodName := ⟨RX3, "clear", "()I"⟩
def dkwX3_clear_0 : List UInt8 := [42, 180, 0, 84, 60, 42, 3, 181, 0, 84, 27, 172]
abbrev dktX3_clear_0 : List UInt8 := dkwX3_clear_0 ++ []
theorem dksX3_clear_0 : cX3_clear.data.toList.drop 0 = dktX3_clear_0 := by decide +kernel
theorem dX3_clear_0 : decode cX3_clear 0 = .ok (.aload_n 0, 1) := dk_42 (dk_at dksX3_clear_0 0 rfl rfl)
theorem dX3_clear_1 : decode cX3_clear 1 = .ok (.getfield 84, 3) := dk_180 0 84 (dk_at dksX3_clear_0 1 rfl rfl)
theorem dX3_clear_4 : decode cX3_clear 4 = .ok (.istore_n 1, 1) := dk_60 (dk_at dksX3_clear_0 4 rfl rfl)
theorem dX3_clear_5 : decode cX3_clear 5 = .ok (.aload_n 0, 1) := dk_42 (dk_at dksX3_clear_0 5 rfl rfl)
theorem dX3_clear_6 : decode cX3_clear 6 = .ok (.iconst 0, 1) := dk_3 (dk_at dksX3_clear_0 6 rfl rfl)
theorem dX3_clear_7 : decode cX3_clear 7 = .ok (.putfield 84, 3) := dk_181 0 84 (dk_at dksX3_clear_0 7 rfl rfl)
theorem dX3_clear_10 : decode cX3_clear 10 = .ok (.iload_n 1, 1) := dk_27 (dk_at dksX3_clear_0 10 rfl rfl)
theorem dX3_clear_11 : decode cX3_clear 11 = .ok (.ireturn, 1) := dk_172 (dk_at dksX3_clear_0 11 rfl rfl)
abbrev cX3_tree : ByteArray := prog_7_method_18_code
def yX3_tree : MethodName := ⟨RX3, "tree", "()I"⟩
def dkwX3_tree_2 : List UInt8 := [182, 0, 91, 167, 255, 223, 42, 3, 181, 0, 84, 42, 182, 0, 77, 27, 172]
abbrev dktX3_tree_2 : List UInt8 := dkwX3_tree_2 ++ []
def dkwX3_tree_1 : List UInt8 := [162, 0, 28, 42, 182, 0, 158, 154, 0, 11, 16, 246, 42, 180, 0, 111, 100, 172, 132, 1, 1, 42]
abbrev dktX3_tree_1 : List UInt8 := dkwX3_tree_1 ++ dktX3_tree_2
def dkwX3_tree_0 : List UInt8 := [42, 182, 0, 74, 42, 3, 181, 0, 88, 3, 60, 42, 182, 0, 91, 42, 180, 0, 88, 42, 180, 0, 84]
abbrev dktX3_tree_0 : List UInt8 := dkwX3_tree_0 ++ dktX3_tree_1
theorem dksX3_tree_0 : cX3_tree.data.toList.drop 0 = dktX3_tree_0 := by decide +kernel
theorem dksX3_tree_1 : cX3_tree.data.toList.drop 23 = dktX3_tree_1 := dk_seg dksX3_tree_0 23 rfl rfl
theorem dksX3_tree_2 : cX3_tree.data.toList.drop 45 = dktX3_tree_2 := dk_seg dksX3_tree_1 22 rfl rfl
theorem dX3_tree_0 : decode cX3_tree 0 = .ok (.aload_n 0, 1) := dk_42 (dk_at dksX3_tree_0 0 rfl rfl)
theorem dX3_tree_1 : decode cX3_tree 1 = .ok (.invokevirtual 74, 3) := dk_182 0 74 (dk_at dksX3_tree_0 1 rfl rfl)
theorem dX3_tree_4 : decode cX3_tree 4 = .ok (.aload_n 0, 1) := dk_42 (dk_at dksX3_tree_0 4 rfl rfl)
theorem dX3_tree_5 : decode cX3_tree 5 = .ok (.iconst 0, 1) := dk_3 (dk_at dksX3_tree_0 5 rfl rfl)
theorem dX3_tree_6 : decode cX3_tree 6 = .ok (.putfield 88, 3) := dk_181 0 88 (dk_at dksX3_tree_0 6 rfl rfl)
theorem dX3_tree_9 : decode cX3_tree 9 = .ok (.iconst 0, 1) := dk_3 (dk_at dksX3_tree_0 9 rfl rfl)
theorem dX3_tree_10 : decode cX3_tree 10 = .ok (.istore_n 1, 1) := dk_60 (dk_at dksX3_tree_0 10 rfl rfl)
theorem dX3_tree_11 : decode cX3_tree 11 = .ok (.aload_n 0, 1) := dk_42 (dk_at dksX3_tree_0 11 rfl rfl)
theorem dX3_tree_12 : decode cX3_tree 12 = .ok (.invokevirtual 91, 3) := dk_182 0 91 (dk_at dksX3_tree_0 12 rfl rfl)
theorem dX3_tree_15 : decode cX3_tree 15 = .ok (.aload_n 0, 1) := dk_42 (dk_at dksX3_tree_0 15 rfl rfl)
theorem dX3_tree_16 : decode cX3_tree 16 = .ok (.getfield 88, 3) := dk_180 0 88 (dk_at dksX3_tree_0 16 rfl rfl)
theorem dX3_tree_19 : decode cX3_tree 19 = .ok (.aload_n 0, 1) := dk_42 (dk_at dksX3_tree_0 19 rfl rfl)
theorem dX3_tree_20 : decode cX3_tree 20 = .ok (.getfield 84, 3) := dk_180 0 84 (dk_at dksX3_tree_0 20 rfl rfl)
theorem dX3_tree_23 : decode cX3_tree 23 = .ok (.if_icmp .ge 28, 3) := dk_162 0 28 (dk_at dksX3_tree_1 0 rfl rfl)
theorem dX3_tree_26 : decode cX3_tree 26 = .ok (.aload_n 0, 1) := dk_42 (dk_at dksX3_tree_1 3 rfl rfl)
theorem dX3_tree_27 : decode cX3_tree 27 = .ok (.invokevirtual 158, 3) := dk_182 0 158 (dk_at dksX3_tree_1 4 rfl rfl)
theorem dX3_tree_30 : decode cX3_tree 30 = .ok (.ifCond .ne 11, 3) := dk_154 0 11 (dk_at dksX3_tree_1 7 rfl rfl)
theorem dX3_tree_33 : decode cX3_tree 33 = .ok (.bipush (-10), 2) := dk_16 246 (dk_at dksX3_tree_1 10 rfl rfl)
theorem dX3_tree_35 : decode cX3_tree 35 = .ok (.aload_n 0, 1) := dk_42 (dk_at dksX3_tree_1 12 rfl rfl)
theorem dX3_tree_36 : decode cX3_tree 36 = .ok (.getfield 111, 3) := dk_180 0 111 (dk_at dksX3_tree_1 13 rfl rfl)
theorem dX3_tree_39 : decode cX3_tree 39 = .ok (.isub, 1) := dk_100 (dk_at dksX3_tree_1 16 rfl rfl)
theorem dX3_tree_40 : decode cX3_tree 40 = .ok (.ireturn, 1) := dk_172 (dk_at dksX3_tree_1 17 rfl rfl)
theorem dX3_tree_41 : decode cX3_tree 41 = .ok (.iinc 1 1, 3) := dk_132 1 1 (dk_at dksX3_tree_1 18 rfl rfl)
theorem dX3_tree_44 : decode cX3_tree 44 = .ok (.aload_n 0, 1) := dk_42 (dk_at dksX3_tree_1 21 rfl rfl)
theorem dX3_tree_45 : decode cX3_tree 45 = .ok (.invokevirtual 91, 3) := dk_182 0 91 (dk_at dksX3_tree_2 0 rfl rfl)
theorem dX3_tree_48 : decode cX3_tree 48 = .ok (.goto (-33), 3) := dk_167 255 223 (dk_at dksX3_tree_2 3 rfl rfl)
theorem dX3_tree_51 : decode cX3_tree 51 = .ok (.aload_n 0, 1) := dk_42 (dk_at dksX3_tree_2 6 rfl rfl)
theorem dX3_tree_52 : decode cX3_tree 52 = .ok (.iconst 0, 1) := dk_3 (dk_at dksX3_tree_2 7 rfl rfl)
theorem dX3_tree_53 : decode cX3_tree 53 = .ok (.putfield 84, 3) := dk_181 0 84 (dk_at dksX3_tree_2 8 rfl rfl)
theorem dX3_tree_56 : decode cX3_tree 56 = .ok (.aload_n 0, 1) := dk_42 (dk_at dksX3_tree_2 11 rfl rfl)
theorem dX3_tree_57 : decode cX3_tree 57 = .ok (.invokevirtual 77, 3) := dk_182 0 77 (dk_at dksX3_tree_2 12 rfl rfl)
theorem dX3_tree_60 : decode cX3_tree 60 = .ok (.iload_n 1, 1) := dk_27 (dk_at dksX3_tree_2 15 rfl rfl)
theorem dX3_tree_61 : decode cX3_tree 61 = .ok (.ireturn, 1) := dk_172 (dk_at dksX3_tree_2 16 rfl rfl)
abbrev cX3_blanks : ByteArray := prog_7_method_6_code
def yX3_blanks : MethodName := ⟨RX3, "blanks", "()V"⟩
def dkwX3_blanks_1 : List UInt8 := [160, 0, 16, 42, 89, 180, 0, 88, 4, 96, 181, 0, 88, 167, 255, 221, 177]
abbrev dktX3_blanks_1 : List UInt8 := dkwX3_blanks_1 ++ []
def dkwX3_blanks_0 : List UInt8 := [42, 180, 0, 88, 42, 180, 0, 84, 162, 0, 30, 42, 180, 0, 7, 42, 180, 0, 88, 46, 16, 32]
abbrev dktX3_blanks_0 : List UInt8 := dkwX3_blanks_0 ++ dktX3_blanks_1
theorem dksX3_blanks_0 : cX3_blanks.data.toList.drop 0 = dktX3_blanks_0 := by decide +kernel
theorem dksX3_blanks_1 : cX3_blanks.data.toList.drop 22 = dktX3_blanks_1 := dk_seg dksX3_blanks_0 22 rfl rfl
theorem dX3_blanks_0 : decode cX3_blanks 0 = .ok (.aload_n 0, 1) := dk_42 (dk_at dksX3_blanks_0 0 rfl rfl)
theorem dX3_blanks_1 : decode cX3_blanks 1 = .ok (.getfield 88, 3) := dk_180 0 88 (dk_at dksX3_blanks_0 1 rfl rfl)
theorem dX3_blanks_4 : decode cX3_blanks 4 = .ok (.aload_n 0, 1) := dk_42 (dk_at dksX3_blanks_0 4 rfl rfl)
theorem dX3_blanks_5 : decode cX3_blanks 5 = .ok (.getfield 84, 3) := dk_180 0 84 (dk_at dksX3_blanks_0 5 rfl rfl)
theorem dX3_blanks_8 : decode cX3_blanks 8 = .ok (.if_icmp .ge 30, 3) := dk_162 0 30 (dk_at dksX3_blanks_0 8 rfl rfl)
theorem dX3_blanks_11 : decode cX3_blanks 11 = .ok (.aload_n 0, 1) := dk_42 (dk_at dksX3_blanks_0 11 rfl rfl)
theorem dX3_blanks_12 : decode cX3_blanks 12 = .ok (.getfield 7, 3) := dk_180 0 7 (dk_at dksX3_blanks_0 12 rfl rfl)
theorem dX3_blanks_15 : decode cX3_blanks 15 = .ok (.aload_n 0, 1) := dk_42 (dk_at dksX3_blanks_0 15 rfl rfl)
theorem dX3_blanks_16 : decode cX3_blanks 16 = .ok (.getfield 88, 3) := dk_180 0 88 (dk_at dksX3_blanks_0 16 rfl rfl)
theorem dX3_blanks_19 : decode cX3_blanks 19 = .ok (.iaload, 1) := dk_46 (dk_at dksX3_blanks_0 19 rfl rfl)
theorem dX3_blanks_20 : decode cX3_blanks 20 = .ok (.bipush 32, 2) := dk_16 32 (dk_at dksX3_blanks_0 20 rfl rfl)
theorem dX3_blanks_22 : decode cX3_blanks 22 = .ok (.if_icmp .ne 16, 3) := dk_160 0 16 (dk_at dksX3_blanks_1 0 rfl rfl)
theorem dX3_blanks_25 : decode cX3_blanks 25 = .ok (.aload_n 0, 1) := dk_42 (dk_at dksX3_blanks_1 3 rfl rfl)
theorem dX3_blanks_26 : decode cX3_blanks 26 = .ok (.dup, 1) := dk_89 (dk_at dksX3_blanks_1 4 rfl rfl)
theorem dX3_blanks_27 : decode cX3_blanks 27 = .ok (.getfield 88, 3) := dk_180 0 88 (dk_at dksX3_blanks_1 5 rfl rfl)
theorem dX3_blanks_30 : decode cX3_blanks 30 = .ok (.iconst 1, 1) := dk_4 (dk_at dksX3_blanks_1 8 rfl rfl)
theorem dX3_blanks_31 : decode cX3_blanks 31 = .ok (.iadd, 1) := dk_96 (dk_at dksX3_blanks_1 9 rfl rfl)
theorem dX3_blanks_32 : decode cX3_blanks 32 = .ok (.putfield 88, 3) := dk_181 0 88 (dk_at dksX3_blanks_1 10 rfl rfl)
theorem dX3_blanks_35 : decode cX3_blanks 35 = .ok (.goto (-35), 3) := dk_167 255 221 (dk_at dksX3_blanks_1 13 rfl rfl)
theorem dX3_blanks_38 : decode cX3_blanks 38 = .ok (.return_, 1) := dk_177 (dk_at dksX3_blanks_1 16 rfl rfl)
abbrev cX3_readsItem : ByteArray := prog_7_method_16_code
def yX3_readsItem : MethodName := ⟨RX3, "readsItem", "()Z"⟩
def dkwX3_readsItem_4 : List UInt8 := [42, 182, 0, 136, 172, 42, 27, 182, 0, 139, 172, 42, 182, 0, 117, 172]
abbrev dktX3_readsItem_4 : List UInt8 := dkwX3_readsItem_4 ++ []
def dkwX3_readsItem_3 : List UInt8 := [171, 0, 0, 0, 60, 0, 0, 0, 5, 0, 0, 0, 99, 0, 0, 0, 54, 0, 0, 0, 100, 0, 0, 0, 54, 0, 0, 0, 103, 0, 0, 0, 54, 0, 0, 0, 115, 0, 0, 0, 54, 0, 0, 0, 116, 0, 0, 0, 49]
abbrev dktX3_readsItem_3 : List UInt8 := dkwX3_readsItem_3 ++ dktX3_readsItem_4
def dkwX3_readsItem_2 : List UInt8 := [182, 0, 117, 172, 27]
abbrev dktX3_readsItem_2 : List UInt8 := dkwX3_readsItem_2 ++ dktX3_readsItem_3
def dkwX3_readsItem_1 : List UInt8 := [182, 0, 117, 172, 42, 4, 181, 0, 120, 42, 3, 182, 0, 130, 172, 42, 180, 0, 120, 154, 0, 8, 42]
abbrev dktX3_readsItem_1 : List UInt8 := dkwX3_readsItem_1 ++ dktX3_readsItem_2
def dkwX3_readsItem_0 : List UInt8 := [42, 182, 0, 114, 42, 180, 0, 97, 60, 27, 16, 114, 160, 0, 26, 42, 180, 0, 120, 158, 0, 8, 42]
abbrev dktX3_readsItem_0 : List UInt8 := dkwX3_readsItem_0 ++ dktX3_readsItem_1
theorem dksX3_readsItem_0 : cX3_readsItem.data.toList.drop 0 = dktX3_readsItem_0 := by decide +kernel
theorem dksX3_readsItem_1 : cX3_readsItem.data.toList.drop 23 = dktX3_readsItem_1 := dk_seg dksX3_readsItem_0 23 rfl rfl
theorem dksX3_readsItem_2 : cX3_readsItem.data.toList.drop 46 = dktX3_readsItem_2 := dk_seg dksX3_readsItem_1 23 rfl rfl
theorem dksX3_readsItem_3 : cX3_readsItem.data.toList.drop 51 = dktX3_readsItem_3 := dk_seg dksX3_readsItem_2 5 rfl rfl
theorem dksX3_readsItem_4 : cX3_readsItem.data.toList.drop 100 = dktX3_readsItem_4 := dk_seg dksX3_readsItem_3 49 rfl rfl
theorem dX3_readsItem_0 : decode cX3_readsItem 0 = .ok (.aload_n 0, 1) := dk_42 (dk_at dksX3_readsItem_0 0 rfl rfl)
theorem dX3_readsItem_1 : decode cX3_readsItem 1 = .ok (.invokevirtual 114, 3) := dk_182 0 114 (dk_at dksX3_readsItem_0 1 rfl rfl)
theorem dX3_readsItem_4 : decode cX3_readsItem 4 = .ok (.aload_n 0, 1) := dk_42 (dk_at dksX3_readsItem_0 4 rfl rfl)
theorem dX3_readsItem_5 : decode cX3_readsItem 5 = .ok (.getfield 97, 3) := dk_180 0 97 (dk_at dksX3_readsItem_0 5 rfl rfl)
theorem dX3_readsItem_8 : decode cX3_readsItem 8 = .ok (.istore_n 1, 1) := dk_60 (dk_at dksX3_readsItem_0 8 rfl rfl)
theorem dX3_readsItem_9 : decode cX3_readsItem 9 = .ok (.iload_n 1, 1) := dk_27 (dk_at dksX3_readsItem_0 9 rfl rfl)
theorem dX3_readsItem_10 : decode cX3_readsItem 10 = .ok (.bipush 114, 2) := dk_16 114 (dk_at dksX3_readsItem_0 10 rfl rfl)
theorem dX3_readsItem_12 : decode cX3_readsItem 12 = .ok (.if_icmp .ne 26, 3) := dk_160 0 26 (dk_at dksX3_readsItem_0 12 rfl rfl)
theorem dX3_readsItem_15 : decode cX3_readsItem 15 = .ok (.aload_n 0, 1) := dk_42 (dk_at dksX3_readsItem_0 15 rfl rfl)
theorem dX3_readsItem_16 : decode cX3_readsItem 16 = .ok (.getfield 120, 3) := dk_180 0 120 (dk_at dksX3_readsItem_0 16 rfl rfl)
theorem dX3_readsItem_19 : decode cX3_readsItem 19 = .ok (.ifCond .le 8, 3) := dk_158 0 8 (dk_at dksX3_readsItem_0 19 rfl rfl)
theorem dX3_readsItem_22 : decode cX3_readsItem 22 = .ok (.aload_n 0, 1) := dk_42 (dk_at dksX3_readsItem_0 22 rfl rfl)
theorem dX3_readsItem_23 : decode cX3_readsItem 23 = .ok (.invokevirtual 117, 3) := dk_182 0 117 (dk_at dksX3_readsItem_1 0 rfl rfl)
theorem dX3_readsItem_26 : decode cX3_readsItem 26 = .ok (.ireturn, 1) := dk_172 (dk_at dksX3_readsItem_1 3 rfl rfl)
theorem dX3_readsItem_27 : decode cX3_readsItem 27 = .ok (.aload_n 0, 1) := dk_42 (dk_at dksX3_readsItem_1 4 rfl rfl)
theorem dX3_readsItem_28 : decode cX3_readsItem 28 = .ok (.iconst 1, 1) := dk_4 (dk_at dksX3_readsItem_1 5 rfl rfl)
theorem dX3_readsItem_29 : decode cX3_readsItem 29 = .ok (.putfield 120, 3) := dk_181 0 120 (dk_at dksX3_readsItem_1 6 rfl rfl)
theorem dX3_readsItem_32 : decode cX3_readsItem 32 = .ok (.aload_n 0, 1) := dk_42 (dk_at dksX3_readsItem_1 9 rfl rfl)
theorem dX3_readsItem_33 : decode cX3_readsItem 33 = .ok (.iconst 0, 1) := dk_3 (dk_at dksX3_readsItem_1 10 rfl rfl)
theorem dX3_readsItem_34 : decode cX3_readsItem 34 = .ok (.invokevirtual 130, 3) := dk_182 0 130 (dk_at dksX3_readsItem_1 11 rfl rfl)
theorem dX3_readsItem_37 : decode cX3_readsItem 37 = .ok (.ireturn, 1) := dk_172 (dk_at dksX3_readsItem_1 14 rfl rfl)
theorem dX3_readsItem_38 : decode cX3_readsItem 38 = .ok (.aload_n 0, 1) := dk_42 (dk_at dksX3_readsItem_1 15 rfl rfl)
theorem dX3_readsItem_39 : decode cX3_readsItem 39 = .ok (.getfield 120, 3) := dk_180 0 120 (dk_at dksX3_readsItem_1 16 rfl rfl)
theorem dX3_readsItem_42 : decode cX3_readsItem 42 = .ok (.ifCond .ne 8, 3) := dk_154 0 8 (dk_at dksX3_readsItem_1 19 rfl rfl)
theorem dX3_readsItem_45 : decode cX3_readsItem 45 = .ok (.aload_n 0, 1) := dk_42 (dk_at dksX3_readsItem_1 22 rfl rfl)
theorem dX3_readsItem_46 : decode cX3_readsItem 46 = .ok (.invokevirtual 117, 3) := dk_182 0 117 (dk_at dksX3_readsItem_2 0 rfl rfl)
theorem dX3_readsItem_49 : decode cX3_readsItem 49 = .ok (.ireturn, 1) := dk_172 (dk_at dksX3_readsItem_2 3 rfl rfl)
theorem dX3_readsItem_50 : decode cX3_readsItem 50 = .ok (.iload_n 1, 1) := dk_27 (dk_at dksX3_readsItem_2 4 rfl rfl)
theorem dX3_readsItem_51 : decode cX3_readsItem 51 = .ok (.lookupswitch 60 #[(99, 54), (100, 54), (103, 54), (115, 54), (116, 49)], 49) := by decide +kernel
theorem dX3_readsItem_100 : decode cX3_readsItem 100 = .ok (.aload_n 0, 1) := dk_42 (dk_at dksX3_readsItem_4 0 rfl rfl)
theorem dX3_readsItem_101 : decode cX3_readsItem 101 = .ok (.invokevirtual 136, 3) := dk_182 0 136 (dk_at dksX3_readsItem_4 1 rfl rfl)
theorem dX3_readsItem_104 : decode cX3_readsItem 104 = .ok (.ireturn, 1) := dk_172 (dk_at dksX3_readsItem_4 4 rfl rfl)
theorem dX3_readsItem_105 : decode cX3_readsItem 105 = .ok (.aload_n 0, 1) := dk_42 (dk_at dksX3_readsItem_4 5 rfl rfl)
theorem dX3_readsItem_106 : decode cX3_readsItem 106 = .ok (.iload_n 1, 1) := dk_27 (dk_at dksX3_readsItem_4 6 rfl rfl)
theorem dX3_readsItem_107 : decode cX3_readsItem 107 = .ok (.invokevirtual 139, 3) := dk_182 0 139 (dk_at dksX3_readsItem_4 7 rfl rfl)
theorem dX3_readsItem_110 : decode cX3_readsItem 110 = .ok (.ireturn, 1) := dk_172 (dk_at dksX3_readsItem_4 10 rfl rfl)
theorem dX3_readsItem_111 : decode cX3_readsItem 111 = .ok (.aload_n 0, 1) := dk_42 (dk_at dksX3_readsItem_4 11 rfl rfl)
theorem dX3_readsItem_112 : decode cX3_readsItem 112 = .ok (.invokevirtual 117, 3) := dk_182 0 117 (dk_at dksX3_readsItem_4 12 rfl rfl)
theorem dX3_readsItem_115 : decode cX3_readsItem 115 = .ok (.ireturn, 1) := dk_172 (dk_at dksX3_readsItem_4 15 rfl rfl)
abbrev cX3_next : ByteArray := prog_7_method_8_code
def yX3_next : MethodName := ⟨RX3, "next", "()V"⟩
def dkwX3_next_8 : List UInt8 := [42, 89, 180, 0, 88, 4, 96, 181, 0, 88, 177]
abbrev dktX3_next_8 : List UInt8 := dkwX3_next_8 ++ []
def dkwX3_next_7 : List UInt8 := [46, 184, 0, 107, 153, 0, 15, 42, 180, 0, 7, 42, 180, 0, 88, 46, 167, 0, 5, 16, 254, 181, 0, 97]
abbrev dktX3_next_7 : List UInt8 := dkwX3_next_7 ++ dktX3_next_8
def dkwX3_next_6 : List UInt8 := [164, 0, 8, 16, 254, 167, 0, 4, 3, 181, 0, 97, 167, 0, 46, 42, 42, 180, 0, 7, 42, 180, 0, 88]
abbrev dktX3_next_6 : List UInt8 := dkwX3_next_6 ++ dktX3_next_7
def dkwX3_next_5 : List UInt8 := [180, 0, 7, 42, 180, 0, 94, 46, 16, 48, 160, 0, 21, 42, 180, 0, 88, 42, 180, 0, 94, 100, 4]
abbrev dktX3_next_5 : List UInt8 := dkwX3_next_5 ++ dktX3_next_6
def dkwX3_next_4 : List UInt8 := [180, 0, 88, 4, 96, 181, 0, 88, 167, 255, 199, 42, 42, 180, 0, 104, 16, 99, 163, 0, 30, 42]
abbrev dktX3_next_4 : List UInt8 := dkwX3_next_4 ++ dktX3_next_5
def dkwX3_next_3 : List UInt8 := [180, 0, 104, 104, 42, 180, 0, 7, 42, 180, 0, 88, 46, 96, 16, 48, 100, 181, 0, 104, 42, 89]
abbrev dktX3_next_3 : List UInt8 := dkwX3_next_3 ++ dktX3_next_4
def dkwX3_next_2 : List UInt8 := [153, 0, 56, 42, 42, 180, 0, 104, 16, 99, 164, 0, 10, 42, 180, 0, 104, 167, 0, 23, 16, 10, 42]
abbrev dktX3_next_2 : List UInt8 := dkwX3_next_2 ++ dktX3_next_3
def dkwX3_next_1 : List UInt8 := [2, 181, 0, 97, 167, 0, 167, 42, 182, 0, 100, 153, 0, 117, 42, 3, 181, 0, 104, 42, 182, 0, 100]
abbrev dktX3_next_1 : List UInt8 := dkwX3_next_1 ++ dktX3_next_2
def dkwX3_next_0 : List UInt8 := [42, 182, 0, 91, 42, 42, 180, 0, 88, 181, 0, 94, 42, 180, 0, 88, 42, 180, 0, 84, 160, 0, 11, 42]
abbrev dktX3_next_0 : List UInt8 := dkwX3_next_0 ++ dktX3_next_1
theorem dksX3_next_0 : cX3_next.data.toList.drop 0 = dktX3_next_0 := by decide +kernel
theorem dksX3_next_1 : cX3_next.data.toList.drop 24 = dktX3_next_1 := dk_seg dksX3_next_0 24 rfl rfl
theorem dksX3_next_2 : cX3_next.data.toList.drop 47 = dktX3_next_2 := dk_seg dksX3_next_1 23 rfl rfl
theorem dksX3_next_3 : cX3_next.data.toList.drop 70 = dktX3_next_3 := dk_seg dksX3_next_2 23 rfl rfl
theorem dksX3_next_4 : cX3_next.data.toList.drop 92 = dktX3_next_4 := dk_seg dksX3_next_3 22 rfl rfl
theorem dksX3_next_5 : cX3_next.data.toList.drop 114 = dktX3_next_5 := dk_seg dksX3_next_4 22 rfl rfl
theorem dksX3_next_6 : cX3_next.data.toList.drop 137 = dktX3_next_6 := dk_seg dksX3_next_5 23 rfl rfl
theorem dksX3_next_7 : cX3_next.data.toList.drop 161 = dktX3_next_7 := dk_seg dksX3_next_6 24 rfl rfl
theorem dksX3_next_8 : cX3_next.data.toList.drop 185 = dktX3_next_8 := dk_seg dksX3_next_7 24 rfl rfl
theorem dX3_next_0 : decode cX3_next 0 = .ok (.aload_n 0, 1) := dk_42 (dk_at dksX3_next_0 0 rfl rfl)
theorem dX3_next_1 : decode cX3_next 1 = .ok (.invokevirtual 91, 3) := dk_182 0 91 (dk_at dksX3_next_0 1 rfl rfl)
theorem dX3_next_4 : decode cX3_next 4 = .ok (.aload_n 0, 1) := dk_42 (dk_at dksX3_next_0 4 rfl rfl)
theorem dX3_next_5 : decode cX3_next 5 = .ok (.aload_n 0, 1) := dk_42 (dk_at dksX3_next_0 5 rfl rfl)
theorem dX3_next_6 : decode cX3_next 6 = .ok (.getfield 88, 3) := dk_180 0 88 (dk_at dksX3_next_0 6 rfl rfl)
theorem dX3_next_9 : decode cX3_next 9 = .ok (.putfield 94, 3) := dk_181 0 94 (dk_at dksX3_next_0 9 rfl rfl)
theorem dX3_next_12 : decode cX3_next 12 = .ok (.aload_n 0, 1) := dk_42 (dk_at dksX3_next_0 12 rfl rfl)
theorem dX3_next_13 : decode cX3_next 13 = .ok (.getfield 88, 3) := dk_180 0 88 (dk_at dksX3_next_0 13 rfl rfl)
theorem dX3_next_16 : decode cX3_next 16 = .ok (.aload_n 0, 1) := dk_42 (dk_at dksX3_next_0 16 rfl rfl)
theorem dX3_next_17 : decode cX3_next 17 = .ok (.getfield 84, 3) := dk_180 0 84 (dk_at dksX3_next_0 17 rfl rfl)
theorem dX3_next_20 : decode cX3_next 20 = .ok (.if_icmp .ne 11, 3) := dk_160 0 11 (dk_at dksX3_next_0 20 rfl rfl)
theorem dX3_next_23 : decode cX3_next 23 = .ok (.aload_n 0, 1) := dk_42 (dk_at dksX3_next_0 23 rfl rfl)
theorem dX3_next_24 : decode cX3_next 24 = .ok (.iconst (-1), 1) := dk_2 (dk_at dksX3_next_1 0 rfl rfl)
theorem dX3_next_25 : decode cX3_next 25 = .ok (.putfield 97, 3) := dk_181 0 97 (dk_at dksX3_next_1 1 rfl rfl)
theorem dX3_next_28 : decode cX3_next 28 = .ok (.goto 167, 3) := dk_167 0 167 (dk_at dksX3_next_1 4 rfl rfl)
theorem dX3_next_31 : decode cX3_next 31 = .ok (.aload_n 0, 1) := dk_42 (dk_at dksX3_next_1 7 rfl rfl)
theorem dX3_next_32 : decode cX3_next 32 = .ok (.invokevirtual 100, 3) := dk_182 0 100 (dk_at dksX3_next_1 8 rfl rfl)
theorem dX3_next_35 : decode cX3_next 35 = .ok (.ifCond .eq 117, 3) := dk_153 0 117 (dk_at dksX3_next_1 11 rfl rfl)
theorem dX3_next_38 : decode cX3_next 38 = .ok (.aload_n 0, 1) := dk_42 (dk_at dksX3_next_1 14 rfl rfl)
theorem dX3_next_39 : decode cX3_next 39 = .ok (.iconst 0, 1) := dk_3 (dk_at dksX3_next_1 15 rfl rfl)
theorem dX3_next_40 : decode cX3_next 40 = .ok (.putfield 104, 3) := dk_181 0 104 (dk_at dksX3_next_1 16 rfl rfl)
theorem dX3_next_43 : decode cX3_next 43 = .ok (.aload_n 0, 1) := dk_42 (dk_at dksX3_next_1 19 rfl rfl)
theorem dX3_next_44 : decode cX3_next 44 = .ok (.invokevirtual 100, 3) := dk_182 0 100 (dk_at dksX3_next_1 20 rfl rfl)
theorem dX3_next_47 : decode cX3_next 47 = .ok (.ifCond .eq 56, 3) := dk_153 0 56 (dk_at dksX3_next_2 0 rfl rfl)
theorem dX3_next_50 : decode cX3_next 50 = .ok (.aload_n 0, 1) := dk_42 (dk_at dksX3_next_2 3 rfl rfl)
theorem dX3_next_51 : decode cX3_next 51 = .ok (.aload_n 0, 1) := dk_42 (dk_at dksX3_next_2 4 rfl rfl)
theorem dX3_next_52 : decode cX3_next 52 = .ok (.getfield 104, 3) := dk_180 0 104 (dk_at dksX3_next_2 5 rfl rfl)
theorem dX3_next_55 : decode cX3_next 55 = .ok (.bipush 99, 2) := dk_16 99 (dk_at dksX3_next_2 8 rfl rfl)
theorem dX3_next_57 : decode cX3_next 57 = .ok (.if_icmp .le 10, 3) := dk_164 0 10 (dk_at dksX3_next_2 10 rfl rfl)
theorem dX3_next_60 : decode cX3_next 60 = .ok (.aload_n 0, 1) := dk_42 (dk_at dksX3_next_2 13 rfl rfl)
theorem dX3_next_61 : decode cX3_next 61 = .ok (.getfield 104, 3) := dk_180 0 104 (dk_at dksX3_next_2 14 rfl rfl)
theorem dX3_next_64 : decode cX3_next 64 = .ok (.goto 23, 3) := dk_167 0 23 (dk_at dksX3_next_2 17 rfl rfl)
theorem dX3_next_67 : decode cX3_next 67 = .ok (.bipush 10, 2) := dk_16 10 (dk_at dksX3_next_2 20 rfl rfl)
theorem dX3_next_69 : decode cX3_next 69 = .ok (.aload_n 0, 1) := dk_42 (dk_at dksX3_next_2 22 rfl rfl)
theorem dX3_next_70 : decode cX3_next 70 = .ok (.getfield 104, 3) := dk_180 0 104 (dk_at dksX3_next_3 0 rfl rfl)
theorem dX3_next_73 : decode cX3_next 73 = .ok (.imul, 1) := dk_104 (dk_at dksX3_next_3 3 rfl rfl)
theorem dX3_next_74 : decode cX3_next 74 = .ok (.aload_n 0, 1) := dk_42 (dk_at dksX3_next_3 4 rfl rfl)
theorem dX3_next_75 : decode cX3_next 75 = .ok (.getfield 7, 3) := dk_180 0 7 (dk_at dksX3_next_3 5 rfl rfl)
theorem dX3_next_78 : decode cX3_next 78 = .ok (.aload_n 0, 1) := dk_42 (dk_at dksX3_next_3 8 rfl rfl)
theorem dX3_next_79 : decode cX3_next 79 = .ok (.getfield 88, 3) := dk_180 0 88 (dk_at dksX3_next_3 9 rfl rfl)
theorem dX3_next_82 : decode cX3_next 82 = .ok (.iaload, 1) := dk_46 (dk_at dksX3_next_3 12 rfl rfl)
theorem dX3_next_83 : decode cX3_next 83 = .ok (.iadd, 1) := dk_96 (dk_at dksX3_next_3 13 rfl rfl)
theorem dX3_next_84 : decode cX3_next 84 = .ok (.bipush 48, 2) := dk_16 48 (dk_at dksX3_next_3 14 rfl rfl)
theorem dX3_next_86 : decode cX3_next 86 = .ok (.isub, 1) := dk_100 (dk_at dksX3_next_3 16 rfl rfl)
theorem dX3_next_87 : decode cX3_next 87 = .ok (.putfield 104, 3) := dk_181 0 104 (dk_at dksX3_next_3 17 rfl rfl)
theorem dX3_next_90 : decode cX3_next 90 = .ok (.aload_n 0, 1) := dk_42 (dk_at dksX3_next_3 20 rfl rfl)
theorem dX3_next_91 : decode cX3_next 91 = .ok (.dup, 1) := dk_89 (dk_at dksX3_next_3 21 rfl rfl)
theorem dX3_next_92 : decode cX3_next 92 = .ok (.getfield 88, 3) := dk_180 0 88 (dk_at dksX3_next_4 0 rfl rfl)
theorem dX3_next_95 : decode cX3_next 95 = .ok (.iconst 1, 1) := dk_4 (dk_at dksX3_next_4 3 rfl rfl)
theorem dX3_next_96 : decode cX3_next 96 = .ok (.iadd, 1) := dk_96 (dk_at dksX3_next_4 4 rfl rfl)
theorem dX3_next_97 : decode cX3_next 97 = .ok (.putfield 88, 3) := dk_181 0 88 (dk_at dksX3_next_4 5 rfl rfl)
theorem dX3_next_100 : decode cX3_next 100 = .ok (.goto (-57), 3) := dk_167 255 199 (dk_at dksX3_next_4 8 rfl rfl)
theorem dX3_next_103 : decode cX3_next 103 = .ok (.aload_n 0, 1) := dk_42 (dk_at dksX3_next_4 11 rfl rfl)
theorem dX3_next_104 : decode cX3_next 104 = .ok (.aload_n 0, 1) := dk_42 (dk_at dksX3_next_4 12 rfl rfl)
theorem dX3_next_105 : decode cX3_next 105 = .ok (.getfield 104, 3) := dk_180 0 104 (dk_at dksX3_next_4 13 rfl rfl)
theorem dX3_next_108 : decode cX3_next 108 = .ok (.bipush 99, 2) := dk_16 99 (dk_at dksX3_next_4 16 rfl rfl)
theorem dX3_next_110 : decode cX3_next 110 = .ok (.if_icmp .gt 30, 3) := dk_163 0 30 (dk_at dksX3_next_4 18 rfl rfl)
theorem dX3_next_113 : decode cX3_next 113 = .ok (.aload_n 0, 1) := dk_42 (dk_at dksX3_next_4 21 rfl rfl)
theorem dX3_next_114 : decode cX3_next 114 = .ok (.getfield 7, 3) := dk_180 0 7 (dk_at dksX3_next_5 0 rfl rfl)
theorem dX3_next_117 : decode cX3_next 117 = .ok (.aload_n 0, 1) := dk_42 (dk_at dksX3_next_5 3 rfl rfl)
theorem dX3_next_118 : decode cX3_next 118 = .ok (.getfield 94, 3) := dk_180 0 94 (dk_at dksX3_next_5 4 rfl rfl)
theorem dX3_next_121 : decode cX3_next 121 = .ok (.iaload, 1) := dk_46 (dk_at dksX3_next_5 7 rfl rfl)
theorem dX3_next_122 : decode cX3_next 122 = .ok (.bipush 48, 2) := dk_16 48 (dk_at dksX3_next_5 8 rfl rfl)
theorem dX3_next_124 : decode cX3_next 124 = .ok (.if_icmp .ne 21, 3) := dk_160 0 21 (dk_at dksX3_next_5 10 rfl rfl)
theorem dX3_next_127 : decode cX3_next 127 = .ok (.aload_n 0, 1) := dk_42 (dk_at dksX3_next_5 13 rfl rfl)
theorem dX3_next_128 : decode cX3_next 128 = .ok (.getfield 88, 3) := dk_180 0 88 (dk_at dksX3_next_5 14 rfl rfl)
theorem dX3_next_131 : decode cX3_next 131 = .ok (.aload_n 0, 1) := dk_42 (dk_at dksX3_next_5 17 rfl rfl)
theorem dX3_next_132 : decode cX3_next 132 = .ok (.getfield 94, 3) := dk_180 0 94 (dk_at dksX3_next_5 18 rfl rfl)
theorem dX3_next_135 : decode cX3_next 135 = .ok (.isub, 1) := dk_100 (dk_at dksX3_next_5 21 rfl rfl)
theorem dX3_next_136 : decode cX3_next 136 = .ok (.iconst 1, 1) := dk_4 (dk_at dksX3_next_5 22 rfl rfl)
theorem dX3_next_137 : decode cX3_next 137 = .ok (.if_icmp .le 8, 3) := dk_164 0 8 (dk_at dksX3_next_6 0 rfl rfl)
theorem dX3_next_140 : decode cX3_next 140 = .ok (.bipush (-2), 2) := dk_16 254 (dk_at dksX3_next_6 3 rfl rfl)
theorem dX3_next_142 : decode cX3_next 142 = .ok (.goto 4, 3) := dk_167 0 4 (dk_at dksX3_next_6 5 rfl rfl)
theorem dX3_next_145 : decode cX3_next 145 = .ok (.iconst 0, 1) := dk_3 (dk_at dksX3_next_6 8 rfl rfl)
theorem dX3_next_146 : decode cX3_next 146 = .ok (.putfield 97, 3) := dk_181 0 97 (dk_at dksX3_next_6 9 rfl rfl)
theorem dX3_next_149 : decode cX3_next 149 = .ok (.goto 46, 3) := dk_167 0 46 (dk_at dksX3_next_6 12 rfl rfl)
theorem dX3_next_152 : decode cX3_next 152 = .ok (.aload_n 0, 1) := dk_42 (dk_at dksX3_next_6 15 rfl rfl)
theorem dX3_next_153 : decode cX3_next 153 = .ok (.aload_n 0, 1) := dk_42 (dk_at dksX3_next_6 16 rfl rfl)
theorem dX3_next_154 : decode cX3_next 154 = .ok (.getfield 7, 3) := dk_180 0 7 (dk_at dksX3_next_6 17 rfl rfl)
theorem dX3_next_157 : decode cX3_next 157 = .ok (.aload_n 0, 1) := dk_42 (dk_at dksX3_next_6 20 rfl rfl)
theorem dX3_next_158 : decode cX3_next 158 = .ok (.getfield 88, 3) := dk_180 0 88 (dk_at dksX3_next_6 21 rfl rfl)
theorem dX3_next_161 : decode cX3_next 161 = .ok (.iaload, 1) := dk_46 (dk_at dksX3_next_7 0 rfl rfl)
theorem dX3_next_162 : decode cX3_next 162 = .ok (.invokestatic 107, 3) := dk_184 0 107 (dk_at dksX3_next_7 1 rfl rfl)
theorem dX3_next_165 : decode cX3_next 165 = .ok (.ifCond .eq 15, 3) := dk_153 0 15 (dk_at dksX3_next_7 4 rfl rfl)
theorem dX3_next_168 : decode cX3_next 168 = .ok (.aload_n 0, 1) := dk_42 (dk_at dksX3_next_7 7 rfl rfl)
theorem dX3_next_169 : decode cX3_next 169 = .ok (.getfield 7, 3) := dk_180 0 7 (dk_at dksX3_next_7 8 rfl rfl)
theorem dX3_next_172 : decode cX3_next 172 = .ok (.aload_n 0, 1) := dk_42 (dk_at dksX3_next_7 11 rfl rfl)
theorem dX3_next_173 : decode cX3_next 173 = .ok (.getfield 88, 3) := dk_180 0 88 (dk_at dksX3_next_7 12 rfl rfl)
theorem dX3_next_176 : decode cX3_next 176 = .ok (.iaload, 1) := dk_46 (dk_at dksX3_next_7 15 rfl rfl)
theorem dX3_next_177 : decode cX3_next 177 = .ok (.goto 5, 3) := dk_167 0 5 (dk_at dksX3_next_7 16 rfl rfl)
theorem dX3_next_180 : decode cX3_next 180 = .ok (.bipush (-2), 2) := dk_16 254 (dk_at dksX3_next_7 19 rfl rfl)
theorem dX3_next_182 : decode cX3_next 182 = .ok (.putfield 97, 3) := dk_181 0 97 (dk_at dksX3_next_7 21 rfl rfl)
theorem dX3_next_185 : decode cX3_next 185 = .ok (.aload_n 0, 1) := dk_42 (dk_at dksX3_next_8 0 rfl rfl)
theorem dX3_next_186 : decode cX3_next 186 = .ok (.dup, 1) := dk_89 (dk_at dksX3_next_8 1 rfl rfl)
theorem dX3_next_187 : decode cX3_next 187 = .ok (.getfield 88, 3) := dk_180 0 88 (dk_at dksX3_next_8 2 rfl rfl)
theorem dX3_next_190 : decode cX3_next 190 = .ok (.iconst 1, 1) := dk_4 (dk_at dksX3_next_8 5 rfl rfl)
theorem dX3_next_191 : decode cX3_next 191 = .ok (.iadd, 1) := dk_96 (dk_at dksX3_next_8 6 rfl rfl)
theorem dX3_next_192 : decode cX3_next 192 = .ok (.putfield 88, 3) := dk_181 0 88 (dk_at dksX3_next_8 7 rfl rfl)
theorem dX3_next_195 : decode cX3_next 195 = .ok (.return_, 1) := dk_177 (dk_at dksX3_next_8 10 rfl rfl)
abbrev cX3_isFigure : ByteArray := prog_7_method_5_code
def yX3_isFigure : MethodName := ⟨RX3, "isFigure", "()Z"⟩
def dkwX3_isFigure_1 : List UInt8 := [184, 0, 80, 153, 0, 7, 4, 167, 0, 4, 3, 172]
abbrev dktX3_isFigure_1 : List UInt8 := dkwX3_isFigure_1 ++ []
def dkwX3_isFigure_0 : List UInt8 := [42, 180, 0, 88, 42, 180, 0, 84, 162, 0, 26, 42, 180, 0, 7, 42, 180, 0, 88, 46, 16, 48, 16, 57]
abbrev dktX3_isFigure_0 : List UInt8 := dkwX3_isFigure_0 ++ dktX3_isFigure_1
theorem dksX3_isFigure_0 : cX3_isFigure.data.toList.drop 0 = dktX3_isFigure_0 := by decide +kernel
theorem dksX3_isFigure_1 : cX3_isFigure.data.toList.drop 24 = dktX3_isFigure_1 := dk_seg dksX3_isFigure_0 24 rfl rfl
theorem dX3_isFigure_0 : decode cX3_isFigure 0 = .ok (.aload_n 0, 1) := dk_42 (dk_at dksX3_isFigure_0 0 rfl rfl)
theorem dX3_isFigure_1 : decode cX3_isFigure 1 = .ok (.getfield 88, 3) := dk_180 0 88 (dk_at dksX3_isFigure_0 1 rfl rfl)
theorem dX3_isFigure_4 : decode cX3_isFigure 4 = .ok (.aload_n 0, 1) := dk_42 (dk_at dksX3_isFigure_0 4 rfl rfl)
theorem dX3_isFigure_5 : decode cX3_isFigure 5 = .ok (.getfield 84, 3) := dk_180 0 84 (dk_at dksX3_isFigure_0 5 rfl rfl)
theorem dX3_isFigure_8 : decode cX3_isFigure 8 = .ok (.if_icmp .ge 26, 3) := dk_162 0 26 (dk_at dksX3_isFigure_0 8 rfl rfl)
theorem dX3_isFigure_11 : decode cX3_isFigure 11 = .ok (.aload_n 0, 1) := dk_42 (dk_at dksX3_isFigure_0 11 rfl rfl)
theorem dX3_isFigure_12 : decode cX3_isFigure 12 = .ok (.getfield 7, 3) := dk_180 0 7 (dk_at dksX3_isFigure_0 12 rfl rfl)
theorem dX3_isFigure_15 : decode cX3_isFigure 15 = .ok (.aload_n 0, 1) := dk_42 (dk_at dksX3_isFigure_0 15 rfl rfl)
theorem dX3_isFigure_16 : decode cX3_isFigure 16 = .ok (.getfield 88, 3) := dk_180 0 88 (dk_at dksX3_isFigure_0 16 rfl rfl)
theorem dX3_isFigure_19 : decode cX3_isFigure 19 = .ok (.iaload, 1) := dk_46 (dk_at dksX3_isFigure_0 19 rfl rfl)
theorem dX3_isFigure_20 : decode cX3_isFigure 20 = .ok (.bipush 48, 2) := dk_16 48 (dk_at dksX3_isFigure_0 20 rfl rfl)
theorem dX3_isFigure_22 : decode cX3_isFigure 22 = .ok (.bipush 57, 2) := dk_16 57 (dk_at dksX3_isFigure_0 22 rfl rfl)
theorem dX3_isFigure_24 : decode cX3_isFigure 24 = .ok (.invokestatic 80, 3) := dk_184 0 80 (dk_at dksX3_isFigure_1 0 rfl rfl)
theorem dX3_isFigure_27 : decode cX3_isFigure 27 = .ok (.ifCond .eq 7, 3) := dk_153 0 7 (dk_at dksX3_isFigure_1 3 rfl rfl)
theorem dX3_isFigure_30 : decode cX3_isFigure 30 = .ok (.iconst 1, 1) := dk_4 (dk_at dksX3_isFigure_1 6 rfl rfl)
theorem dX3_isFigure_31 : decode cX3_isFigure 31 = .ok (.goto 4, 3) := dk_167 0 4 (dk_at dksX3_isFigure_1 7 rfl rfl)
theorem dX3_isFigure_34 : decode cX3_isFigure 34 = .ok (.iconst 0, 1) := dk_3 (dk_at dksX3_isFigure_1 10 rfl rfl)
theorem dX3_isFigure_35 : decode cX3_isFigure 35 = .ok (.ireturn, 1) := dk_172 (dk_at dksX3_isFigure_1 11 rfl rfl)
abbrev cX3_isToken : ByteArray := prog_7_method_7_code
def yX3_isToken : MethodName := ⟨RX3, "isToken", "(I)Z"⟩
def dkwX3_isToken_2 : List UInt8 := [4, 172, 3, 172]
abbrev dktX3_isToken_2 : List UInt8 := dkwX3_isToken_2 ++ []
def dkwX3_isToken_1 : List UInt8 := [171, 0, 0, 0, 0, 0, 109, 0, 0, 0, 12, 0, 0, 0, 59, 0, 0, 0, 107, 0, 0, 0, 98, 0, 0, 0, 107, 0, 0, 0, 99, 0, 0, 0, 107, 0, 0, 0, 100, 0, 0, 0, 107, 0, 0, 0, 102, 0, 0, 0, 107, 0, 0, 0, 103, 0, 0, 0, 107, 0, 0, 0, 106, 0, 0, 0, 107, 0, 0, 0, 114, 0, 0, 0, 107, 0, 0, 0, 115, 0, 0, 0, 107, 0, 0, 0, 116, 0, 0, 0, 107, 0, 0, 0, 119, 0, 0, 0, 107, 0, 0, 0, 120, 0, 0, 0, 107]
abbrev dktX3_isToken_1 : List UInt8 := dkwX3_isToken_1 ++ dktX3_isToken_2
def dkwX3_isToken_0 : List UInt8 := [26]
abbrev dktX3_isToken_0 : List UInt8 := dkwX3_isToken_0 ++ dktX3_isToken_1
theorem dksX3_isToken_0 : cX3_isToken.data.toList.drop 0 = dktX3_isToken_0 := by decide +kernel
theorem dksX3_isToken_1 : cX3_isToken.data.toList.drop 1 = dktX3_isToken_1 := dk_seg dksX3_isToken_0 1 rfl rfl
theorem dksX3_isToken_2 : cX3_isToken.data.toList.drop 108 = dktX3_isToken_2 := dk_seg dksX3_isToken_1 107 rfl rfl
theorem dX3_isToken_0 : decode cX3_isToken 0 = .ok (.iload_n 0, 1) := dk_26 (dk_at dksX3_isToken_0 0 rfl rfl)
theorem dX3_isToken_1 : decode cX3_isToken 1 = .ok (.lookupswitch 109 #[(59, 107), (98, 107), (99, 107), (100, 107), (102, 107), (103, 107), (106, 107), (114, 107), (115, 107), (116, 107), (119, 107), (120, 107)], 107) := by decide +kernel
theorem dX3_isToken_108 : decode cX3_isToken 108 = .ok (.iconst 1, 1) := dk_4 (dk_at dksX3_isToken_2 0 rfl rfl)
theorem dX3_isToken_109 : decode cX3_isToken 109 = .ok (.ireturn, 1) := dk_172 (dk_at dksX3_isToken_2 1 rfl rfl)
theorem dX3_isToken_110 : decode cX3_isToken 110 = .ok (.iconst 0, 1) := dk_3 (dk_at dksX3_isToken_2 2 rfl rfl)
theorem dX3_isToken_111 : decode cX3_isToken 111 = .ok (.ireturn, 1) := dk_172 (dk_at dksX3_isToken_2 3 rfl rfl)
abbrev cX3_fails : ByteArray := prog_7_method_9_code
def yX3_fails : MethodName := ⟨RX3, "fails", "()Z"⟩
def dkwX3_fails_0 : List UInt8 := [42, 42, 180, 0, 94, 181, 0, 111, 3, 172]
abbrev dktX3_fails_0 : List UInt8 := dkwX3_fails_0 ++ []
theorem dksX3_fails_0 : cX3_fails.data.toList.drop 0 = dktX3_fails_0 := by decide +kernel
theorem dX3_fails_0 : decode cX3_fails 0 = .ok (.aload_n 0, 1) := dk_42 (dk_at dksX3_fails_0 0 rfl rfl)
theorem dX3_fails_1 : decode cX3_fails 1 = .ok (.aload_n 0, 1) := dk_42 (dk_at dksX3_fails_0 1 rfl rfl)
theorem dX3_fails_2 : decode cX3_fails 2 = .ok (.getfield 94, 3) := dk_180 0 94 (dk_at dksX3_fails_0 2 rfl rfl)
theorem dX3_fails_5 : decode cX3_fails 5 = .ok (.putfield 111, 3) := dk_181 0 111 (dk_at dksX3_fails_0 5 rfl rfl)
theorem dX3_fails_8 : decode cX3_fails 8 = .ok (.iconst 0, 1) := dk_3 (dk_at dksX3_fails_0 8 rfl rfl)
theorem dX3_fails_9 : decode cX3_fails 9 = .ok (.ireturn, 1) := dk_172 (dk_at dksX3_fails_0 9 rfl rfl)
abbrev cX3_readsProgram : ByteArray := prog_7_method_13_code
def yX3_readsProgram : MethodName := ⟨RX3, "readsProgram", "(I)Z"⟩
def dkwX3_readsProgram_7 : List UInt8 := [167, 255, 96, 4, 172]
abbrev dktX3_readsProgram_7 : List UInt8 := dkwX3_readsProgram_7 ++ []
def dkwX3_readsProgram_6 : List UInt8 := [42, 180, 0, 104, 167, 0, 4, 3, 79, 42, 180, 0, 16, 27, 92, 46, 4, 96, 79, 42, 182, 0, 114]
abbrev dktX3_readsProgram_6 : List UInt8 := dkwX3_readsProgram_6 ++ dktX3_readsProgram_7
def dkwX3_readsProgram_5 : List UInt8 := [21, 4, 28, 79, 42, 180, 0, 19, 21, 4, 4, 96, 28, 16, 119, 159, 0, 9, 28, 16, 102, 160, 0, 10]
abbrev dktX3_readsProgram_5 : List UInt8 := dkwX3_readsProgram_5 ++ dktX3_readsProgram_6
def dkwX3_readsProgram_4 : List UInt8 := [154, 0, 5, 3, 172, 16, 12, 27, 104, 5, 42, 180, 0, 16, 27, 46, 104, 96, 54, 4, 42, 180, 0, 19]
abbrev dktX3_readsProgram_4 : List UInt8 := dkwX3_readsProgram_4 ++ dktX3_readsProgram_5
def dkwX3_readsProgram_3 : List UInt8 := [182, 0, 117, 172, 28, 16, 119, 159, 0, 9, 28, 16, 102, 160, 0, 15, 42, 4, 16, 9, 182, 0, 126]
abbrev dktX3_readsProgram_3 : List UInt8 := dkwX3_readsProgram_3 ++ dktX3_readsProgram_4
def dkwX3_readsProgram_2 : List UInt8 := [4, 167, 0, 4, 3, 62, 29, 153, 0, 14, 42, 180, 0, 16, 27, 46, 16, 6, 160, 0, 8, 42]
abbrev dktX3_readsProgram_2 : List UInt8 := dkwX3_readsProgram_2 ++ dktX3_readsProgram_3
def dkwX3_readsProgram_1 : List UInt8 := [28, 16, 98, 159, 0, 21, 28, 16, 106, 159, 0, 15, 28, 16, 120, 159, 0, 9, 28, 16, 102, 160, 0, 7]
abbrev dktX3_readsProgram_1 : List UInt8 := dkwX3_readsProgram_1 ++ dktX3_readsProgram_2
def dkwX3_readsProgram_0 : List UInt8 := [42, 182, 0, 114, 42, 180, 0, 97, 16, 59, 159, 0, 157, 42, 180, 0, 97, 61, 28, 16, 119, 159, 0, 27]
abbrev dktX3_readsProgram_0 : List UInt8 := dkwX3_readsProgram_0 ++ dktX3_readsProgram_1
theorem dksX3_readsProgram_0 : cX3_readsProgram.data.toList.drop 0 = dktX3_readsProgram_0 := by decide +kernel
theorem dksX3_readsProgram_1 : cX3_readsProgram.data.toList.drop 24 = dktX3_readsProgram_1 := dk_seg dksX3_readsProgram_0 24 rfl rfl
theorem dksX3_readsProgram_2 : cX3_readsProgram.data.toList.drop 48 = dktX3_readsProgram_2 := dk_seg dksX3_readsProgram_1 24 rfl rfl
theorem dksX3_readsProgram_3 : cX3_readsProgram.data.toList.drop 70 = dktX3_readsProgram_3 := dk_seg dksX3_readsProgram_2 22 rfl rfl
theorem dksX3_readsProgram_4 : cX3_readsProgram.data.toList.drop 93 = dktX3_readsProgram_4 := dk_seg dksX3_readsProgram_3 23 rfl rfl
theorem dksX3_readsProgram_5 : cX3_readsProgram.data.toList.drop 117 = dktX3_readsProgram_5 := dk_seg dksX3_readsProgram_4 24 rfl rfl
theorem dksX3_readsProgram_6 : cX3_readsProgram.data.toList.drop 141 = dktX3_readsProgram_6 := dk_seg dksX3_readsProgram_5 24 rfl rfl
theorem dksX3_readsProgram_7 : cX3_readsProgram.data.toList.drop 164 = dktX3_readsProgram_7 := dk_seg dksX3_readsProgram_6 23 rfl rfl
theorem dX3_readsProgram_0 : decode cX3_readsProgram 0 = .ok (.aload_n 0, 1) := dk_42 (dk_at dksX3_readsProgram_0 0 rfl rfl)
theorem dX3_readsProgram_1 : decode cX3_readsProgram 1 = .ok (.invokevirtual 114, 3) := dk_182 0 114 (dk_at dksX3_readsProgram_0 1 rfl rfl)
theorem dX3_readsProgram_4 : decode cX3_readsProgram 4 = .ok (.aload_n 0, 1) := dk_42 (dk_at dksX3_readsProgram_0 4 rfl rfl)
theorem dX3_readsProgram_5 : decode cX3_readsProgram 5 = .ok (.getfield 97, 3) := dk_180 0 97 (dk_at dksX3_readsProgram_0 5 rfl rfl)
theorem dX3_readsProgram_8 : decode cX3_readsProgram 8 = .ok (.bipush 59, 2) := dk_16 59 (dk_at dksX3_readsProgram_0 8 rfl rfl)
theorem dX3_readsProgram_10 : decode cX3_readsProgram 10 = .ok (.if_icmp .eq 157, 3) := dk_159 0 157 (dk_at dksX3_readsProgram_0 10 rfl rfl)
theorem dX3_readsProgram_13 : decode cX3_readsProgram 13 = .ok (.aload_n 0, 1) := dk_42 (dk_at dksX3_readsProgram_0 13 rfl rfl)
theorem dX3_readsProgram_14 : decode cX3_readsProgram 14 = .ok (.getfield 97, 3) := dk_180 0 97 (dk_at dksX3_readsProgram_0 14 rfl rfl)
theorem dX3_readsProgram_17 : decode cX3_readsProgram 17 = .ok (.istore_n 2, 1) := dk_61 (dk_at dksX3_readsProgram_0 17 rfl rfl)
theorem dX3_readsProgram_18 : decode cX3_readsProgram 18 = .ok (.iload_n 2, 1) := dk_28 (dk_at dksX3_readsProgram_0 18 rfl rfl)
theorem dX3_readsProgram_19 : decode cX3_readsProgram 19 = .ok (.bipush 119, 2) := dk_16 119 (dk_at dksX3_readsProgram_0 19 rfl rfl)
theorem dX3_readsProgram_21 : decode cX3_readsProgram 21 = .ok (.if_icmp .eq 27, 3) := dk_159 0 27 (dk_at dksX3_readsProgram_0 21 rfl rfl)
theorem dX3_readsProgram_24 : decode cX3_readsProgram 24 = .ok (.iload_n 2, 1) := dk_28 (dk_at dksX3_readsProgram_1 0 rfl rfl)
theorem dX3_readsProgram_25 : decode cX3_readsProgram 25 = .ok (.bipush 98, 2) := dk_16 98 (dk_at dksX3_readsProgram_1 1 rfl rfl)
theorem dX3_readsProgram_27 : decode cX3_readsProgram 27 = .ok (.if_icmp .eq 21, 3) := dk_159 0 21 (dk_at dksX3_readsProgram_1 3 rfl rfl)
theorem dX3_readsProgram_30 : decode cX3_readsProgram 30 = .ok (.iload_n 2, 1) := dk_28 (dk_at dksX3_readsProgram_1 6 rfl rfl)
theorem dX3_readsProgram_31 : decode cX3_readsProgram 31 = .ok (.bipush 106, 2) := dk_16 106 (dk_at dksX3_readsProgram_1 7 rfl rfl)
theorem dX3_readsProgram_33 : decode cX3_readsProgram 33 = .ok (.if_icmp .eq 15, 3) := dk_159 0 15 (dk_at dksX3_readsProgram_1 9 rfl rfl)
theorem dX3_readsProgram_36 : decode cX3_readsProgram 36 = .ok (.iload_n 2, 1) := dk_28 (dk_at dksX3_readsProgram_1 12 rfl rfl)
theorem dX3_readsProgram_37 : decode cX3_readsProgram 37 = .ok (.bipush 120, 2) := dk_16 120 (dk_at dksX3_readsProgram_1 13 rfl rfl)
theorem dX3_readsProgram_39 : decode cX3_readsProgram 39 = .ok (.if_icmp .eq 9, 3) := dk_159 0 9 (dk_at dksX3_readsProgram_1 15 rfl rfl)
theorem dX3_readsProgram_42 : decode cX3_readsProgram 42 = .ok (.iload_n 2, 1) := dk_28 (dk_at dksX3_readsProgram_1 18 rfl rfl)
theorem dX3_readsProgram_43 : decode cX3_readsProgram 43 = .ok (.bipush 102, 2) := dk_16 102 (dk_at dksX3_readsProgram_1 19 rfl rfl)
theorem dX3_readsProgram_45 : decode cX3_readsProgram 45 = .ok (.if_icmp .ne 7, 3) := dk_160 0 7 (dk_at dksX3_readsProgram_1 21 rfl rfl)
theorem dX3_readsProgram_48 : decode cX3_readsProgram 48 = .ok (.iconst 1, 1) := dk_4 (dk_at dksX3_readsProgram_2 0 rfl rfl)
theorem dX3_readsProgram_49 : decode cX3_readsProgram 49 = .ok (.goto 4, 3) := dk_167 0 4 (dk_at dksX3_readsProgram_2 1 rfl rfl)
theorem dX3_readsProgram_52 : decode cX3_readsProgram 52 = .ok (.iconst 0, 1) := dk_3 (dk_at dksX3_readsProgram_2 4 rfl rfl)
theorem dX3_readsProgram_53 : decode cX3_readsProgram 53 = .ok (.istore_n 3, 1) := dk_62 (dk_at dksX3_readsProgram_2 5 rfl rfl)
theorem dX3_readsProgram_54 : decode cX3_readsProgram 54 = .ok (.iload_n 3, 1) := dk_29 (dk_at dksX3_readsProgram_2 6 rfl rfl)
theorem dX3_readsProgram_55 : decode cX3_readsProgram 55 = .ok (.ifCond .eq 14, 3) := dk_153 0 14 (dk_at dksX3_readsProgram_2 7 rfl rfl)
theorem dX3_readsProgram_58 : decode cX3_readsProgram 58 = .ok (.aload_n 0, 1) := dk_42 (dk_at dksX3_readsProgram_2 10 rfl rfl)
theorem dX3_readsProgram_59 : decode cX3_readsProgram 59 = .ok (.getfield 16, 3) := dk_180 0 16 (dk_at dksX3_readsProgram_2 11 rfl rfl)
theorem dX3_readsProgram_62 : decode cX3_readsProgram 62 = .ok (.iload_n 1, 1) := dk_27 (dk_at dksX3_readsProgram_2 14 rfl rfl)
theorem dX3_readsProgram_63 : decode cX3_readsProgram 63 = .ok (.iaload, 1) := dk_46 (dk_at dksX3_readsProgram_2 15 rfl rfl)
theorem dX3_readsProgram_64 : decode cX3_readsProgram 64 = .ok (.bipush 6, 2) := dk_16 6 (dk_at dksX3_readsProgram_2 16 rfl rfl)
theorem dX3_readsProgram_66 : decode cX3_readsProgram 66 = .ok (.if_icmp .ne 8, 3) := dk_160 0 8 (dk_at dksX3_readsProgram_2 18 rfl rfl)
theorem dX3_readsProgram_69 : decode cX3_readsProgram 69 = .ok (.aload_n 0, 1) := dk_42 (dk_at dksX3_readsProgram_2 21 rfl rfl)
theorem dX3_readsProgram_70 : decode cX3_readsProgram 70 = .ok (.invokevirtual 117, 3) := dk_182 0 117 (dk_at dksX3_readsProgram_3 0 rfl rfl)
theorem dX3_readsProgram_73 : decode cX3_readsProgram 73 = .ok (.ireturn, 1) := dk_172 (dk_at dksX3_readsProgram_3 3 rfl rfl)
theorem dX3_readsProgram_74 : decode cX3_readsProgram 74 = .ok (.iload_n 2, 1) := dk_28 (dk_at dksX3_readsProgram_3 4 rfl rfl)
theorem dX3_readsProgram_75 : decode cX3_readsProgram 75 = .ok (.bipush 119, 2) := dk_16 119 (dk_at dksX3_readsProgram_3 5 rfl rfl)
theorem dX3_readsProgram_77 : decode cX3_readsProgram 77 = .ok (.if_icmp .eq 9, 3) := dk_159 0 9 (dk_at dksX3_readsProgram_3 7 rfl rfl)
theorem dX3_readsProgram_80 : decode cX3_readsProgram 80 = .ok (.iload_n 2, 1) := dk_28 (dk_at dksX3_readsProgram_3 10 rfl rfl)
theorem dX3_readsProgram_81 : decode cX3_readsProgram 81 = .ok (.bipush 102, 2) := dk_16 102 (dk_at dksX3_readsProgram_3 11 rfl rfl)
theorem dX3_readsProgram_83 : decode cX3_readsProgram 83 = .ok (.if_icmp .ne 15, 3) := dk_160 0 15 (dk_at dksX3_readsProgram_3 13 rfl rfl)
theorem dX3_readsProgram_86 : decode cX3_readsProgram 86 = .ok (.aload_n 0, 1) := dk_42 (dk_at dksX3_readsProgram_3 16 rfl rfl)
theorem dX3_readsProgram_87 : decode cX3_readsProgram 87 = .ok (.iconst 1, 1) := dk_4 (dk_at dksX3_readsProgram_3 17 rfl rfl)
theorem dX3_readsProgram_88 : decode cX3_readsProgram 88 = .ok (.bipush 9, 2) := dk_16 9 (dk_at dksX3_readsProgram_3 18 rfl rfl)
theorem dX3_readsProgram_90 : decode cX3_readsProgram 90 = .ok (.invokevirtual 126, 3) := dk_182 0 126 (dk_at dksX3_readsProgram_3 20 rfl rfl)
theorem dX3_readsProgram_93 : decode cX3_readsProgram 93 = .ok (.ifCond .ne 5, 3) := dk_154 0 5 (dk_at dksX3_readsProgram_4 0 rfl rfl)
theorem dX3_readsProgram_96 : decode cX3_readsProgram 96 = .ok (.iconst 0, 1) := dk_3 (dk_at dksX3_readsProgram_4 3 rfl rfl)
theorem dX3_readsProgram_97 : decode cX3_readsProgram 97 = .ok (.ireturn, 1) := dk_172 (dk_at dksX3_readsProgram_4 4 rfl rfl)
theorem dX3_readsProgram_98 : decode cX3_readsProgram 98 = .ok (.bipush 12, 2) := dk_16 12 (dk_at dksX3_readsProgram_4 5 rfl rfl)
theorem dX3_readsProgram_100 : decode cX3_readsProgram 100 = .ok (.iload_n 1, 1) := dk_27 (dk_at dksX3_readsProgram_4 7 rfl rfl)
theorem dX3_readsProgram_101 : decode cX3_readsProgram 101 = .ok (.imul, 1) := dk_104 (dk_at dksX3_readsProgram_4 8 rfl rfl)
theorem dX3_readsProgram_102 : decode cX3_readsProgram 102 = .ok (.iconst 2, 1) := dk_5 (dk_at dksX3_readsProgram_4 9 rfl rfl)
theorem dX3_readsProgram_103 : decode cX3_readsProgram 103 = .ok (.aload_n 0, 1) := dk_42 (dk_at dksX3_readsProgram_4 10 rfl rfl)
theorem dX3_readsProgram_104 : decode cX3_readsProgram 104 = .ok (.getfield 16, 3) := dk_180 0 16 (dk_at dksX3_readsProgram_4 11 rfl rfl)
theorem dX3_readsProgram_107 : decode cX3_readsProgram 107 = .ok (.iload_n 1, 1) := dk_27 (dk_at dksX3_readsProgram_4 14 rfl rfl)
theorem dX3_readsProgram_108 : decode cX3_readsProgram 108 = .ok (.iaload, 1) := dk_46 (dk_at dksX3_readsProgram_4 15 rfl rfl)
theorem dX3_readsProgram_109 : decode cX3_readsProgram 109 = .ok (.imul, 1) := dk_104 (dk_at dksX3_readsProgram_4 16 rfl rfl)
theorem dX3_readsProgram_110 : decode cX3_readsProgram 110 = .ok (.iadd, 1) := dk_96 (dk_at dksX3_readsProgram_4 17 rfl rfl)
theorem dX3_readsProgram_111 : decode cX3_readsProgram 111 = .ok (.istore 4, 2) := dk_54 4 (dk_at dksX3_readsProgram_4 18 rfl rfl)
theorem dX3_readsProgram_113 : decode cX3_readsProgram 113 = .ok (.aload_n 0, 1) := dk_42 (dk_at dksX3_readsProgram_4 20 rfl rfl)
theorem dX3_readsProgram_114 : decode cX3_readsProgram 114 = .ok (.getfield 19, 3) := dk_180 0 19 (dk_at dksX3_readsProgram_4 21 rfl rfl)
theorem dX3_readsProgram_117 : decode cX3_readsProgram 117 = .ok (.iload 4, 2) := dk_21 4 (dk_at dksX3_readsProgram_5 0 rfl rfl)
theorem dX3_readsProgram_119 : decode cX3_readsProgram 119 = .ok (.iload_n 2, 1) := dk_28 (dk_at dksX3_readsProgram_5 2 rfl rfl)
theorem dX3_readsProgram_120 : decode cX3_readsProgram 120 = .ok (.iastore, 1) := dk_79 (dk_at dksX3_readsProgram_5 3 rfl rfl)
theorem dX3_readsProgram_121 : decode cX3_readsProgram 121 = .ok (.aload_n 0, 1) := dk_42 (dk_at dksX3_readsProgram_5 4 rfl rfl)
theorem dX3_readsProgram_122 : decode cX3_readsProgram 122 = .ok (.getfield 19, 3) := dk_180 0 19 (dk_at dksX3_readsProgram_5 5 rfl rfl)
theorem dX3_readsProgram_125 : decode cX3_readsProgram 125 = .ok (.iload 4, 2) := dk_21 4 (dk_at dksX3_readsProgram_5 8 rfl rfl)
theorem dX3_readsProgram_127 : decode cX3_readsProgram 127 = .ok (.iconst 1, 1) := dk_4 (dk_at dksX3_readsProgram_5 10 rfl rfl)
theorem dX3_readsProgram_128 : decode cX3_readsProgram 128 = .ok (.iadd, 1) := dk_96 (dk_at dksX3_readsProgram_5 11 rfl rfl)
theorem dX3_readsProgram_129 : decode cX3_readsProgram 129 = .ok (.iload_n 2, 1) := dk_28 (dk_at dksX3_readsProgram_5 12 rfl rfl)
theorem dX3_readsProgram_130 : decode cX3_readsProgram 130 = .ok (.bipush 119, 2) := dk_16 119 (dk_at dksX3_readsProgram_5 13 rfl rfl)
theorem dX3_readsProgram_132 : decode cX3_readsProgram 132 = .ok (.if_icmp .eq 9, 3) := dk_159 0 9 (dk_at dksX3_readsProgram_5 15 rfl rfl)
theorem dX3_readsProgram_135 : decode cX3_readsProgram 135 = .ok (.iload_n 2, 1) := dk_28 (dk_at dksX3_readsProgram_5 18 rfl rfl)
theorem dX3_readsProgram_136 : decode cX3_readsProgram 136 = .ok (.bipush 102, 2) := dk_16 102 (dk_at dksX3_readsProgram_5 19 rfl rfl)
theorem dX3_readsProgram_138 : decode cX3_readsProgram 138 = .ok (.if_icmp .ne 10, 3) := dk_160 0 10 (dk_at dksX3_readsProgram_5 21 rfl rfl)
theorem dX3_readsProgram_141 : decode cX3_readsProgram 141 = .ok (.aload_n 0, 1) := dk_42 (dk_at dksX3_readsProgram_6 0 rfl rfl)
theorem dX3_readsProgram_142 : decode cX3_readsProgram 142 = .ok (.getfield 104, 3) := dk_180 0 104 (dk_at dksX3_readsProgram_6 1 rfl rfl)
theorem dX3_readsProgram_145 : decode cX3_readsProgram 145 = .ok (.goto 4, 3) := dk_167 0 4 (dk_at dksX3_readsProgram_6 4 rfl rfl)
theorem dX3_readsProgram_148 : decode cX3_readsProgram 148 = .ok (.iconst 0, 1) := dk_3 (dk_at dksX3_readsProgram_6 7 rfl rfl)
theorem dX3_readsProgram_149 : decode cX3_readsProgram 149 = .ok (.iastore, 1) := dk_79 (dk_at dksX3_readsProgram_6 8 rfl rfl)
theorem dX3_readsProgram_150 : decode cX3_readsProgram 150 = .ok (.aload_n 0, 1) := dk_42 (dk_at dksX3_readsProgram_6 9 rfl rfl)
theorem dX3_readsProgram_151 : decode cX3_readsProgram 151 = .ok (.getfield 16, 3) := dk_180 0 16 (dk_at dksX3_readsProgram_6 10 rfl rfl)
theorem dX3_readsProgram_154 : decode cX3_readsProgram 154 = .ok (.iload_n 1, 1) := dk_27 (dk_at dksX3_readsProgram_6 13 rfl rfl)
theorem dX3_readsProgram_155 : decode cX3_readsProgram 155 = .ok (.dup2, 1) := dk_92 (dk_at dksX3_readsProgram_6 14 rfl rfl)
theorem dX3_readsProgram_156 : decode cX3_readsProgram 156 = .ok (.iaload, 1) := dk_46 (dk_at dksX3_readsProgram_6 15 rfl rfl)
theorem dX3_readsProgram_157 : decode cX3_readsProgram 157 = .ok (.iconst 1, 1) := dk_4 (dk_at dksX3_readsProgram_6 16 rfl rfl)
theorem dX3_readsProgram_158 : decode cX3_readsProgram 158 = .ok (.iadd, 1) := dk_96 (dk_at dksX3_readsProgram_6 17 rfl rfl)
theorem dX3_readsProgram_159 : decode cX3_readsProgram 159 = .ok (.iastore, 1) := dk_79 (dk_at dksX3_readsProgram_6 18 rfl rfl)
theorem dX3_readsProgram_160 : decode cX3_readsProgram 160 = .ok (.aload_n 0, 1) := dk_42 (dk_at dksX3_readsProgram_6 19 rfl rfl)
theorem dX3_readsProgram_161 : decode cX3_readsProgram 161 = .ok (.invokevirtual 114, 3) := dk_182 0 114 (dk_at dksX3_readsProgram_6 20 rfl rfl)
theorem dX3_readsProgram_164 : decode cX3_readsProgram 164 = .ok (.goto (-160), 3) := dk_167 255 96 (dk_at dksX3_readsProgram_7 0 rfl rfl)
theorem dX3_readsProgram_167 : decode cX3_readsProgram 167 = .ok (.iconst 1, 1) := dk_4 (dk_at dksX3_readsProgram_7 3 rfl rfl)
theorem dX3_readsProgram_168 : decode cX3_readsProgram 168 = .ok (.ireturn, 1) := dk_172 (dk_at dksX3_readsProgram_7 4 rfl rfl)
abbrev cX3_number : ByteArray := prog_7_method_10_code
def yX3_number : MethodName := ⟨RX3, "number", "(II)Z"⟩
def dkwX3_number_1 : List UInt8 := [182, 0, 117, 153, 0, 7, 4, 167, 0, 4, 3, 172]
abbrev dktX3_number_1 : List UInt8 := dkwX3_number_1 ++ []
def dkwX3_number_0 : List UInt8 := [42, 182, 0, 114, 42, 180, 0, 97, 154, 0, 15, 42, 180, 0, 104, 27, 28, 184, 0, 80, 154, 0, 10, 42]
abbrev dktX3_number_0 : List UInt8 := dkwX3_number_0 ++ dktX3_number_1
theorem dksX3_number_0 : cX3_number.data.toList.drop 0 = dktX3_number_0 := by decide +kernel
theorem dksX3_number_1 : cX3_number.data.toList.drop 24 = dktX3_number_1 := dk_seg dksX3_number_0 24 rfl rfl
theorem dX3_number_0 : decode cX3_number 0 = .ok (.aload_n 0, 1) := dk_42 (dk_at dksX3_number_0 0 rfl rfl)
theorem dX3_number_1 : decode cX3_number 1 = .ok (.invokevirtual 114, 3) := dk_182 0 114 (dk_at dksX3_number_0 1 rfl rfl)
theorem dX3_number_4 : decode cX3_number 4 = .ok (.aload_n 0, 1) := dk_42 (dk_at dksX3_number_0 4 rfl rfl)
theorem dX3_number_5 : decode cX3_number 5 = .ok (.getfield 97, 3) := dk_180 0 97 (dk_at dksX3_number_0 5 rfl rfl)
theorem dX3_number_8 : decode cX3_number 8 = .ok (.ifCond .ne 15, 3) := dk_154 0 15 (dk_at dksX3_number_0 8 rfl rfl)
theorem dX3_number_11 : decode cX3_number 11 = .ok (.aload_n 0, 1) := dk_42 (dk_at dksX3_number_0 11 rfl rfl)
theorem dX3_number_12 : decode cX3_number 12 = .ok (.getfield 104, 3) := dk_180 0 104 (dk_at dksX3_number_0 12 rfl rfl)
theorem dX3_number_15 : decode cX3_number 15 = .ok (.iload_n 1, 1) := dk_27 (dk_at dksX3_number_0 15 rfl rfl)
theorem dX3_number_16 : decode cX3_number 16 = .ok (.iload_n 2, 1) := dk_28 (dk_at dksX3_number_0 16 rfl rfl)
theorem dX3_number_17 : decode cX3_number 17 = .ok (.invokestatic 80, 3) := dk_184 0 80 (dk_at dksX3_number_0 17 rfl rfl)
theorem dX3_number_20 : decode cX3_number 20 = .ok (.ifCond .ne 10, 3) := dk_154 0 10 (dk_at dksX3_number_0 20 rfl rfl)
theorem dX3_number_23 : decode cX3_number 23 = .ok (.aload_n 0, 1) := dk_42 (dk_at dksX3_number_0 23 rfl rfl)
theorem dX3_number_24 : decode cX3_number 24 = .ok (.invokevirtual 117, 3) := dk_182 0 117 (dk_at dksX3_number_1 0 rfl rfl)
theorem dX3_number_27 : decode cX3_number 27 = .ok (.ifCond .eq 7, 3) := dk_153 0 7 (dk_at dksX3_number_1 3 rfl rfl)
theorem dX3_number_30 : decode cX3_number 30 = .ok (.iconst 1, 1) := dk_4 (dk_at dksX3_number_1 6 rfl rfl)
theorem dX3_number_31 : decode cX3_number 31 = .ok (.goto 4, 3) := dk_167 0 4 (dk_at dksX3_number_1 7 rfl rfl)
theorem dX3_number_34 : decode cX3_number 34 = .ok (.iconst 0, 1) := dk_3 (dk_at dksX3_number_1 10 rfl rfl)
theorem dX3_number_35 : decode cX3_number 35 = .ok (.ireturn, 1) := dk_172 (dk_at dksX3_number_1 11 rfl rfl)
abbrev cX3_readsTask : ByteArray := prog_7_method_14_code
def yX3_readsTask : MethodName := ⟨RX3, "readsTask", "()Z"⟩
def dkwX3_readsTask_2 : List UInt8 := [180, 0, 120, 4, 96, 181, 0, 120, 42, 42, 180, 0, 120, 4, 100, 182, 0, 130, 172]
abbrev dktX3_readsTask_2 : List UInt8 := dkwX3_readsTask_2 ++ []
def dkwX3_readsTask_1 : List UInt8 := [182, 0, 126, 154, 0, 5, 3, 172, 42, 180, 0, 13, 42, 180, 0, 120, 42, 180, 0, 104, 79, 42, 89]
abbrev dktX3_readsTask_1 : List UInt8 := dkwX3_readsTask_1 ++ dktX3_readsTask_2
def dkwX3_readsTask_0 : List UInt8 := [42, 180, 0, 120, 16, 8, 160, 0, 8, 42, 182, 0, 117, 172, 42, 3, 42, 180, 0, 120, 4, 100]
abbrev dktX3_readsTask_0 : List UInt8 := dkwX3_readsTask_0 ++ dktX3_readsTask_1
theorem dksX3_readsTask_0 : cX3_readsTask.data.toList.drop 0 = dktX3_readsTask_0 := by decide +kernel
theorem dksX3_readsTask_1 : cX3_readsTask.data.toList.drop 22 = dktX3_readsTask_1 := dk_seg dksX3_readsTask_0 22 rfl rfl
theorem dksX3_readsTask_2 : cX3_readsTask.data.toList.drop 45 = dktX3_readsTask_2 := dk_seg dksX3_readsTask_1 23 rfl rfl
theorem dX3_readsTask_0 : decode cX3_readsTask 0 = .ok (.aload_n 0, 1) := dk_42 (dk_at dksX3_readsTask_0 0 rfl rfl)
theorem dX3_readsTask_1 : decode cX3_readsTask 1 = .ok (.getfield 120, 3) := dk_180 0 120 (dk_at dksX3_readsTask_0 1 rfl rfl)
theorem dX3_readsTask_4 : decode cX3_readsTask 4 = .ok (.bipush 8, 2) := dk_16 8 (dk_at dksX3_readsTask_0 4 rfl rfl)
theorem dX3_readsTask_6 : decode cX3_readsTask 6 = .ok (.if_icmp .ne 8, 3) := dk_160 0 8 (dk_at dksX3_readsTask_0 6 rfl rfl)
theorem dX3_readsTask_9 : decode cX3_readsTask 9 = .ok (.aload_n 0, 1) := dk_42 (dk_at dksX3_readsTask_0 9 rfl rfl)
theorem dX3_readsTask_10 : decode cX3_readsTask 10 = .ok (.invokevirtual 117, 3) := dk_182 0 117 (dk_at dksX3_readsTask_0 10 rfl rfl)
theorem dX3_readsTask_13 : decode cX3_readsTask 13 = .ok (.ireturn, 1) := dk_172 (dk_at dksX3_readsTask_0 13 rfl rfl)
theorem dX3_readsTask_14 : decode cX3_readsTask 14 = .ok (.aload_n 0, 1) := dk_42 (dk_at dksX3_readsTask_0 14 rfl rfl)
theorem dX3_readsTask_15 : decode cX3_readsTask 15 = .ok (.iconst 0, 1) := dk_3 (dk_at dksX3_readsTask_0 15 rfl rfl)
theorem dX3_readsTask_16 : decode cX3_readsTask 16 = .ok (.aload_n 0, 1) := dk_42 (dk_at dksX3_readsTask_0 16 rfl rfl)
theorem dX3_readsTask_17 : decode cX3_readsTask 17 = .ok (.getfield 120, 3) := dk_180 0 120 (dk_at dksX3_readsTask_0 17 rfl rfl)
theorem dX3_readsTask_20 : decode cX3_readsTask 20 = .ok (.iconst 1, 1) := dk_4 (dk_at dksX3_readsTask_0 20 rfl rfl)
theorem dX3_readsTask_21 : decode cX3_readsTask 21 = .ok (.isub, 1) := dk_100 (dk_at dksX3_readsTask_0 21 rfl rfl)
theorem dX3_readsTask_22 : decode cX3_readsTask 22 = .ok (.invokevirtual 126, 3) := dk_182 0 126 (dk_at dksX3_readsTask_1 0 rfl rfl)
theorem dX3_readsTask_25 : decode cX3_readsTask 25 = .ok (.ifCond .ne 5, 3) := dk_154 0 5 (dk_at dksX3_readsTask_1 3 rfl rfl)
theorem dX3_readsTask_28 : decode cX3_readsTask 28 = .ok (.iconst 0, 1) := dk_3 (dk_at dksX3_readsTask_1 6 rfl rfl)
theorem dX3_readsTask_29 : decode cX3_readsTask 29 = .ok (.ireturn, 1) := dk_172 (dk_at dksX3_readsTask_1 7 rfl rfl)
theorem dX3_readsTask_30 : decode cX3_readsTask 30 = .ok (.aload_n 0, 1) := dk_42 (dk_at dksX3_readsTask_1 8 rfl rfl)
theorem dX3_readsTask_31 : decode cX3_readsTask 31 = .ok (.getfield 13, 3) := dk_180 0 13 (dk_at dksX3_readsTask_1 9 rfl rfl)
theorem dX3_readsTask_34 : decode cX3_readsTask 34 = .ok (.aload_n 0, 1) := dk_42 (dk_at dksX3_readsTask_1 12 rfl rfl)
theorem dX3_readsTask_35 : decode cX3_readsTask 35 = .ok (.getfield 120, 3) := dk_180 0 120 (dk_at dksX3_readsTask_1 13 rfl rfl)
theorem dX3_readsTask_38 : decode cX3_readsTask 38 = .ok (.aload_n 0, 1) := dk_42 (dk_at dksX3_readsTask_1 16 rfl rfl)
theorem dX3_readsTask_39 : decode cX3_readsTask 39 = .ok (.getfield 104, 3) := dk_180 0 104 (dk_at dksX3_readsTask_1 17 rfl rfl)
theorem dX3_readsTask_42 : decode cX3_readsTask 42 = .ok (.iastore, 1) := dk_79 (dk_at dksX3_readsTask_1 20 rfl rfl)
theorem dX3_readsTask_43 : decode cX3_readsTask 43 = .ok (.aload_n 0, 1) := dk_42 (dk_at dksX3_readsTask_1 21 rfl rfl)
theorem dX3_readsTask_44 : decode cX3_readsTask 44 = .ok (.dup, 1) := dk_89 (dk_at dksX3_readsTask_1 22 rfl rfl)
theorem dX3_readsTask_45 : decode cX3_readsTask 45 = .ok (.getfield 120, 3) := dk_180 0 120 (dk_at dksX3_readsTask_2 0 rfl rfl)
theorem dX3_readsTask_48 : decode cX3_readsTask 48 = .ok (.iconst 1, 1) := dk_4 (dk_at dksX3_readsTask_2 3 rfl rfl)
theorem dX3_readsTask_49 : decode cX3_readsTask 49 = .ok (.iadd, 1) := dk_96 (dk_at dksX3_readsTask_2 4 rfl rfl)
theorem dX3_readsTask_50 : decode cX3_readsTask 50 = .ok (.putfield 120, 3) := dk_181 0 120 (dk_at dksX3_readsTask_2 5 rfl rfl)
theorem dX3_readsTask_53 : decode cX3_readsTask 53 = .ok (.aload_n 0, 1) := dk_42 (dk_at dksX3_readsTask_2 8 rfl rfl)
theorem dX3_readsTask_54 : decode cX3_readsTask 54 = .ok (.aload_n 0, 1) := dk_42 (dk_at dksX3_readsTask_2 9 rfl rfl)
theorem dX3_readsTask_55 : decode cX3_readsTask 55 = .ok (.getfield 120, 3) := dk_180 0 120 (dk_at dksX3_readsTask_2 10 rfl rfl)
theorem dX3_readsTask_58 : decode cX3_readsTask 58 = .ok (.iconst 1, 1) := dk_4 (dk_at dksX3_readsTask_2 13 rfl rfl)
theorem dX3_readsTask_59 : decode cX3_readsTask 59 = .ok (.isub, 1) := dk_100 (dk_at dksX3_readsTask_2 14 rfl rfl)
theorem dX3_readsTask_60 : decode cX3_readsTask 60 = .ok (.invokevirtual 130, 3) := dk_182 0 130 (dk_at dksX3_readsTask_2 15 rfl rfl)
theorem dX3_readsTask_63 : decode cX3_readsTask 63 = .ok (.ireturn, 1) := dk_172 (dk_at dksX3_readsTask_2 18 rfl rfl)
abbrev cX3_readsOf : ByteArray := prog_7_method_15_code
def yX3_readsOf : MethodName := ⟨RX3, "readsOf", "(I)Z"⟩
def dkwX3_readsOf_7 : List UInt8 := [160, 0, 10, 42, 180, 0, 104, 167, 0, 9, 42, 180, 0, 28, 28, 46, 79, 42, 182, 0, 133, 172]
abbrev dktX3_readsOf_7 : List UInt8 := dkwX3_readsOf_7 ++ []
def dkwX3_readsOf_6 : List UInt8 := [42, 180, 0, 104, 167, 0, 9, 42, 180, 0, 25, 28, 46, 79, 42, 180, 0, 28, 28, 27, 16, 99]
abbrev dktX3_readsOf_6 : List UInt8 := dkwX3_readsOf_6 ++ dktX3_readsOf_7
def dkwX3_readsOf_5 : List UInt8 := [180, 0, 104, 167, 0, 9, 42, 180, 0, 22, 28, 46, 79, 42, 180, 0, 25, 28, 27, 16, 115, 160, 0, 10]
abbrev dktX3_readsOf_5 : List UInt8 := dkwX3_readsOf_5 ++ dktX3_readsOf_6
def dkwX3_readsOf_4 : List UInt8 := [167, 0, 4, 8, 182, 0, 126, 154, 0, 5, 3, 172, 42, 180, 0, 22, 28, 27, 16, 100, 160, 0, 10, 42]
abbrev dktX3_readsOf_4 : List UInt8 := dkwX3_readsOf_4 ++ dktX3_readsOf_5
def dkwX3_readsOf_3 : List UInt8 := [167, 0, 4, 3, 27, 16, 100, 160, 0, 8, 16, 60, 167, 0, 15, 27, 16, 115, 160, 0, 8, 16, 6]
abbrev dktX3_readsOf_3 : List UInt8 := dkwX3_readsOf_3 ++ dktX3_readsOf_4
def dkwX3_readsOf_2 : List UInt8 := [180, 0, 123, 4, 28, 120, 128, 181, 0, 123, 42, 182, 0, 133, 172, 42, 27, 16, 100, 160, 0, 7, 4]
abbrev dktX3_readsOf_2 : List UInt8 := dkwX3_readsOf_2 ++ dktX3_readsOf_3
def dkwX3_readsOf_1 : List UInt8 := [160, 0, 37, 42, 180, 0, 123, 28, 122, 4, 126, 4, 160, 0, 8, 42, 182, 0, 117, 172, 42, 89]
abbrev dktX3_readsOf_1 : List UInt8 := dkwX3_readsOf_1 ++ dktX3_readsOf_2
def dkwX3_readsOf_0 : List UInt8 := [42, 3, 42, 180, 0, 120, 4, 100, 182, 0, 126, 154, 0, 5, 3, 172, 42, 180, 0, 104, 61, 27, 16, 103]
abbrev dktX3_readsOf_0 : List UInt8 := dkwX3_readsOf_0 ++ dktX3_readsOf_1
theorem dksX3_readsOf_0 : cX3_readsOf.data.toList.drop 0 = dktX3_readsOf_0 := by decide +kernel
theorem dksX3_readsOf_1 : cX3_readsOf.data.toList.drop 24 = dktX3_readsOf_1 := dk_seg dksX3_readsOf_0 24 rfl rfl
theorem dksX3_readsOf_2 : cX3_readsOf.data.toList.drop 46 = dktX3_readsOf_2 := dk_seg dksX3_readsOf_1 22 rfl rfl
theorem dksX3_readsOf_3 : cX3_readsOf.data.toList.drop 69 = dktX3_readsOf_3 := dk_seg dksX3_readsOf_2 23 rfl rfl
theorem dksX3_readsOf_4 : cX3_readsOf.data.toList.drop 92 = dktX3_readsOf_4 := dk_seg dksX3_readsOf_3 23 rfl rfl
theorem dksX3_readsOf_5 : cX3_readsOf.data.toList.drop 116 = dktX3_readsOf_5 := dk_seg dksX3_readsOf_4 24 rfl rfl
theorem dksX3_readsOf_6 : cX3_readsOf.data.toList.drop 140 = dktX3_readsOf_6 := dk_seg dksX3_readsOf_5 24 rfl rfl
theorem dksX3_readsOf_7 : cX3_readsOf.data.toList.drop 162 = dktX3_readsOf_7 := dk_seg dksX3_readsOf_6 22 rfl rfl
theorem dX3_readsOf_0 : decode cX3_readsOf 0 = .ok (.aload_n 0, 1) := dk_42 (dk_at dksX3_readsOf_0 0 rfl rfl)
theorem dX3_readsOf_1 : decode cX3_readsOf 1 = .ok (.iconst 0, 1) := dk_3 (dk_at dksX3_readsOf_0 1 rfl rfl)
theorem dX3_readsOf_2 : decode cX3_readsOf 2 = .ok (.aload_n 0, 1) := dk_42 (dk_at dksX3_readsOf_0 2 rfl rfl)
theorem dX3_readsOf_3 : decode cX3_readsOf 3 = .ok (.getfield 120, 3) := dk_180 0 120 (dk_at dksX3_readsOf_0 3 rfl rfl)
theorem dX3_readsOf_6 : decode cX3_readsOf 6 = .ok (.iconst 1, 1) := dk_4 (dk_at dksX3_readsOf_0 6 rfl rfl)
theorem dX3_readsOf_7 : decode cX3_readsOf 7 = .ok (.isub, 1) := dk_100 (dk_at dksX3_readsOf_0 7 rfl rfl)
theorem dX3_readsOf_8 : decode cX3_readsOf 8 = .ok (.invokevirtual 126, 3) := dk_182 0 126 (dk_at dksX3_readsOf_0 8 rfl rfl)
theorem dX3_readsOf_11 : decode cX3_readsOf 11 = .ok (.ifCond .ne 5, 3) := dk_154 0 5 (dk_at dksX3_readsOf_0 11 rfl rfl)
theorem dX3_readsOf_14 : decode cX3_readsOf 14 = .ok (.iconst 0, 1) := dk_3 (dk_at dksX3_readsOf_0 14 rfl rfl)
theorem dX3_readsOf_15 : decode cX3_readsOf 15 = .ok (.ireturn, 1) := dk_172 (dk_at dksX3_readsOf_0 15 rfl rfl)
theorem dX3_readsOf_16 : decode cX3_readsOf 16 = .ok (.aload_n 0, 1) := dk_42 (dk_at dksX3_readsOf_0 16 rfl rfl)
theorem dX3_readsOf_17 : decode cX3_readsOf 17 = .ok (.getfield 104, 3) := dk_180 0 104 (dk_at dksX3_readsOf_0 17 rfl rfl)
theorem dX3_readsOf_20 : decode cX3_readsOf 20 = .ok (.istore_n 2, 1) := dk_61 (dk_at dksX3_readsOf_0 20 rfl rfl)
theorem dX3_readsOf_21 : decode cX3_readsOf 21 = .ok (.iload_n 1, 1) := dk_27 (dk_at dksX3_readsOf_0 21 rfl rfl)
theorem dX3_readsOf_22 : decode cX3_readsOf 22 = .ok (.bipush 103, 2) := dk_16 103 (dk_at dksX3_readsOf_0 22 rfl rfl)
theorem dX3_readsOf_24 : decode cX3_readsOf 24 = .ok (.if_icmp .ne 37, 3) := dk_160 0 37 (dk_at dksX3_readsOf_1 0 rfl rfl)
theorem dX3_readsOf_27 : decode cX3_readsOf 27 = .ok (.aload_n 0, 1) := dk_42 (dk_at dksX3_readsOf_1 3 rfl rfl)
theorem dX3_readsOf_28 : decode cX3_readsOf 28 = .ok (.getfield 123, 3) := dk_180 0 123 (dk_at dksX3_readsOf_1 4 rfl rfl)
theorem dX3_readsOf_31 : decode cX3_readsOf 31 = .ok (.iload_n 2, 1) := dk_28 (dk_at dksX3_readsOf_1 7 rfl rfl)
theorem dX3_readsOf_32 : decode cX3_readsOf 32 = .ok (.ishr, 1) := dk_122 (dk_at dksX3_readsOf_1 8 rfl rfl)
theorem dX3_readsOf_33 : decode cX3_readsOf 33 = .ok (.iconst 1, 1) := dk_4 (dk_at dksX3_readsOf_1 9 rfl rfl)
theorem dX3_readsOf_34 : decode cX3_readsOf 34 = .ok (.iand, 1) := dk_126 (dk_at dksX3_readsOf_1 10 rfl rfl)
theorem dX3_readsOf_35 : decode cX3_readsOf 35 = .ok (.iconst 1, 1) := dk_4 (dk_at dksX3_readsOf_1 11 rfl rfl)
theorem dX3_readsOf_36 : decode cX3_readsOf 36 = .ok (.if_icmp .ne 8, 3) := dk_160 0 8 (dk_at dksX3_readsOf_1 12 rfl rfl)
theorem dX3_readsOf_39 : decode cX3_readsOf 39 = .ok (.aload_n 0, 1) := dk_42 (dk_at dksX3_readsOf_1 15 rfl rfl)
theorem dX3_readsOf_40 : decode cX3_readsOf 40 = .ok (.invokevirtual 117, 3) := dk_182 0 117 (dk_at dksX3_readsOf_1 16 rfl rfl)
theorem dX3_readsOf_43 : decode cX3_readsOf 43 = .ok (.ireturn, 1) := dk_172 (dk_at dksX3_readsOf_1 19 rfl rfl)
theorem dX3_readsOf_44 : decode cX3_readsOf 44 = .ok (.aload_n 0, 1) := dk_42 (dk_at dksX3_readsOf_1 20 rfl rfl)
theorem dX3_readsOf_45 : decode cX3_readsOf 45 = .ok (.dup, 1) := dk_89 (dk_at dksX3_readsOf_1 21 rfl rfl)
theorem dX3_readsOf_46 : decode cX3_readsOf 46 = .ok (.getfield 123, 3) := dk_180 0 123 (dk_at dksX3_readsOf_2 0 rfl rfl)
theorem dX3_readsOf_49 : decode cX3_readsOf 49 = .ok (.iconst 1, 1) := dk_4 (dk_at dksX3_readsOf_2 3 rfl rfl)
theorem dX3_readsOf_50 : decode cX3_readsOf 50 = .ok (.iload_n 2, 1) := dk_28 (dk_at dksX3_readsOf_2 4 rfl rfl)
theorem dX3_readsOf_51 : decode cX3_readsOf 51 = .ok (.ishl, 1) := dk_120 (dk_at dksX3_readsOf_2 5 rfl rfl)
theorem dX3_readsOf_52 : decode cX3_readsOf 52 = .ok (.ior, 1) := dk_128 (dk_at dksX3_readsOf_2 6 rfl rfl)
theorem dX3_readsOf_53 : decode cX3_readsOf 53 = .ok (.putfield 123, 3) := dk_181 0 123 (dk_at dksX3_readsOf_2 7 rfl rfl)
theorem dX3_readsOf_56 : decode cX3_readsOf 56 = .ok (.aload_n 0, 1) := dk_42 (dk_at dksX3_readsOf_2 10 rfl rfl)
theorem dX3_readsOf_57 : decode cX3_readsOf 57 = .ok (.invokevirtual 133, 3) := dk_182 0 133 (dk_at dksX3_readsOf_2 11 rfl rfl)
theorem dX3_readsOf_60 : decode cX3_readsOf 60 = .ok (.ireturn, 1) := dk_172 (dk_at dksX3_readsOf_2 14 rfl rfl)
theorem dX3_readsOf_61 : decode cX3_readsOf 61 = .ok (.aload_n 0, 1) := dk_42 (dk_at dksX3_readsOf_2 15 rfl rfl)
theorem dX3_readsOf_62 : decode cX3_readsOf 62 = .ok (.iload_n 1, 1) := dk_27 (dk_at dksX3_readsOf_2 16 rfl rfl)
theorem dX3_readsOf_63 : decode cX3_readsOf 63 = .ok (.bipush 100, 2) := dk_16 100 (dk_at dksX3_readsOf_2 17 rfl rfl)
theorem dX3_readsOf_65 : decode cX3_readsOf 65 = .ok (.if_icmp .ne 7, 3) := dk_160 0 7 (dk_at dksX3_readsOf_2 19 rfl rfl)
theorem dX3_readsOf_68 : decode cX3_readsOf 68 = .ok (.iconst 1, 1) := dk_4 (dk_at dksX3_readsOf_2 22 rfl rfl)
theorem dX3_readsOf_69 : decode cX3_readsOf 69 = .ok (.goto 4, 3) := dk_167 0 4 (dk_at dksX3_readsOf_3 0 rfl rfl)
theorem dX3_readsOf_72 : decode cX3_readsOf 72 = .ok (.iconst 0, 1) := dk_3 (dk_at dksX3_readsOf_3 3 rfl rfl)
theorem dX3_readsOf_73 : decode cX3_readsOf 73 = .ok (.iload_n 1, 1) := dk_27 (dk_at dksX3_readsOf_3 4 rfl rfl)
theorem dX3_readsOf_74 : decode cX3_readsOf 74 = .ok (.bipush 100, 2) := dk_16 100 (dk_at dksX3_readsOf_3 5 rfl rfl)
theorem dX3_readsOf_76 : decode cX3_readsOf 76 = .ok (.if_icmp .ne 8, 3) := dk_160 0 8 (dk_at dksX3_readsOf_3 7 rfl rfl)
theorem dX3_readsOf_79 : decode cX3_readsOf 79 = .ok (.bipush 60, 2) := dk_16 60 (dk_at dksX3_readsOf_3 10 rfl rfl)
theorem dX3_readsOf_81 : decode cX3_readsOf 81 = .ok (.goto 15, 3) := dk_167 0 15 (dk_at dksX3_readsOf_3 12 rfl rfl)
theorem dX3_readsOf_84 : decode cX3_readsOf 84 = .ok (.iload_n 1, 1) := dk_27 (dk_at dksX3_readsOf_3 15 rfl rfl)
theorem dX3_readsOf_85 : decode cX3_readsOf 85 = .ok (.bipush 115, 2) := dk_16 115 (dk_at dksX3_readsOf_3 16 rfl rfl)
theorem dX3_readsOf_87 : decode cX3_readsOf 87 = .ok (.if_icmp .ne 8, 3) := dk_160 0 8 (dk_at dksX3_readsOf_3 18 rfl rfl)
theorem dX3_readsOf_90 : decode cX3_readsOf 90 = .ok (.bipush 6, 2) := dk_16 6 (dk_at dksX3_readsOf_3 21 rfl rfl)
theorem dX3_readsOf_92 : decode cX3_readsOf 92 = .ok (.goto 4, 3) := dk_167 0 4 (dk_at dksX3_readsOf_4 0 rfl rfl)
theorem dX3_readsOf_95 : decode cX3_readsOf 95 = .ok (.iconst 5, 1) := dk_8 (dk_at dksX3_readsOf_4 3 rfl rfl)
theorem dX3_readsOf_96 : decode cX3_readsOf 96 = .ok (.invokevirtual 126, 3) := dk_182 0 126 (dk_at dksX3_readsOf_4 4 rfl rfl)
theorem dX3_readsOf_99 : decode cX3_readsOf 99 = .ok (.ifCond .ne 5, 3) := dk_154 0 5 (dk_at dksX3_readsOf_4 7 rfl rfl)
theorem dX3_readsOf_102 : decode cX3_readsOf 102 = .ok (.iconst 0, 1) := dk_3 (dk_at dksX3_readsOf_4 10 rfl rfl)
theorem dX3_readsOf_103 : decode cX3_readsOf 103 = .ok (.ireturn, 1) := dk_172 (dk_at dksX3_readsOf_4 11 rfl rfl)
theorem dX3_readsOf_104 : decode cX3_readsOf 104 = .ok (.aload_n 0, 1) := dk_42 (dk_at dksX3_readsOf_4 12 rfl rfl)
theorem dX3_readsOf_105 : decode cX3_readsOf 105 = .ok (.getfield 22, 3) := dk_180 0 22 (dk_at dksX3_readsOf_4 13 rfl rfl)
theorem dX3_readsOf_108 : decode cX3_readsOf 108 = .ok (.iload_n 2, 1) := dk_28 (dk_at dksX3_readsOf_4 16 rfl rfl)
theorem dX3_readsOf_109 : decode cX3_readsOf 109 = .ok (.iload_n 1, 1) := dk_27 (dk_at dksX3_readsOf_4 17 rfl rfl)
theorem dX3_readsOf_110 : decode cX3_readsOf 110 = .ok (.bipush 100, 2) := dk_16 100 (dk_at dksX3_readsOf_4 18 rfl rfl)
theorem dX3_readsOf_112 : decode cX3_readsOf 112 = .ok (.if_icmp .ne 10, 3) := dk_160 0 10 (dk_at dksX3_readsOf_4 20 rfl rfl)
theorem dX3_readsOf_115 : decode cX3_readsOf 115 = .ok (.aload_n 0, 1) := dk_42 (dk_at dksX3_readsOf_4 23 rfl rfl)
theorem dX3_readsOf_116 : decode cX3_readsOf 116 = .ok (.getfield 104, 3) := dk_180 0 104 (dk_at dksX3_readsOf_5 0 rfl rfl)
theorem dX3_readsOf_119 : decode cX3_readsOf 119 = .ok (.goto 9, 3) := dk_167 0 9 (dk_at dksX3_readsOf_5 3 rfl rfl)
theorem dX3_readsOf_122 : decode cX3_readsOf 122 = .ok (.aload_n 0, 1) := dk_42 (dk_at dksX3_readsOf_5 6 rfl rfl)
theorem dX3_readsOf_123 : decode cX3_readsOf 123 = .ok (.getfield 22, 3) := dk_180 0 22 (dk_at dksX3_readsOf_5 7 rfl rfl)
theorem dX3_readsOf_126 : decode cX3_readsOf 126 = .ok (.iload_n 2, 1) := dk_28 (dk_at dksX3_readsOf_5 10 rfl rfl)
theorem dX3_readsOf_127 : decode cX3_readsOf 127 = .ok (.iaload, 1) := dk_46 (dk_at dksX3_readsOf_5 11 rfl rfl)
theorem dX3_readsOf_128 : decode cX3_readsOf 128 = .ok (.iastore, 1) := dk_79 (dk_at dksX3_readsOf_5 12 rfl rfl)
theorem dX3_readsOf_129 : decode cX3_readsOf 129 = .ok (.aload_n 0, 1) := dk_42 (dk_at dksX3_readsOf_5 13 rfl rfl)
theorem dX3_readsOf_130 : decode cX3_readsOf 130 = .ok (.getfield 25, 3) := dk_180 0 25 (dk_at dksX3_readsOf_5 14 rfl rfl)
theorem dX3_readsOf_133 : decode cX3_readsOf 133 = .ok (.iload_n 2, 1) := dk_28 (dk_at dksX3_readsOf_5 17 rfl rfl)
theorem dX3_readsOf_134 : decode cX3_readsOf 134 = .ok (.iload_n 1, 1) := dk_27 (dk_at dksX3_readsOf_5 18 rfl rfl)
theorem dX3_readsOf_135 : decode cX3_readsOf 135 = .ok (.bipush 115, 2) := dk_16 115 (dk_at dksX3_readsOf_5 19 rfl rfl)
theorem dX3_readsOf_137 : decode cX3_readsOf 137 = .ok (.if_icmp .ne 10, 3) := dk_160 0 10 (dk_at dksX3_readsOf_5 21 rfl rfl)
theorem dX3_readsOf_140 : decode cX3_readsOf 140 = .ok (.aload_n 0, 1) := dk_42 (dk_at dksX3_readsOf_6 0 rfl rfl)
theorem dX3_readsOf_141 : decode cX3_readsOf 141 = .ok (.getfield 104, 3) := dk_180 0 104 (dk_at dksX3_readsOf_6 1 rfl rfl)
theorem dX3_readsOf_144 : decode cX3_readsOf 144 = .ok (.goto 9, 3) := dk_167 0 9 (dk_at dksX3_readsOf_6 4 rfl rfl)
theorem dX3_readsOf_147 : decode cX3_readsOf 147 = .ok (.aload_n 0, 1) := dk_42 (dk_at dksX3_readsOf_6 7 rfl rfl)
theorem dX3_readsOf_148 : decode cX3_readsOf 148 = .ok (.getfield 25, 3) := dk_180 0 25 (dk_at dksX3_readsOf_6 8 rfl rfl)
theorem dX3_readsOf_151 : decode cX3_readsOf 151 = .ok (.iload_n 2, 1) := dk_28 (dk_at dksX3_readsOf_6 11 rfl rfl)
theorem dX3_readsOf_152 : decode cX3_readsOf 152 = .ok (.iaload, 1) := dk_46 (dk_at dksX3_readsOf_6 12 rfl rfl)
theorem dX3_readsOf_153 : decode cX3_readsOf 153 = .ok (.iastore, 1) := dk_79 (dk_at dksX3_readsOf_6 13 rfl rfl)
theorem dX3_readsOf_154 : decode cX3_readsOf 154 = .ok (.aload_n 0, 1) := dk_42 (dk_at dksX3_readsOf_6 14 rfl rfl)
theorem dX3_readsOf_155 : decode cX3_readsOf 155 = .ok (.getfield 28, 3) := dk_180 0 28 (dk_at dksX3_readsOf_6 15 rfl rfl)
theorem dX3_readsOf_158 : decode cX3_readsOf 158 = .ok (.iload_n 2, 1) := dk_28 (dk_at dksX3_readsOf_6 18 rfl rfl)
theorem dX3_readsOf_159 : decode cX3_readsOf 159 = .ok (.iload_n 1, 1) := dk_27 (dk_at dksX3_readsOf_6 19 rfl rfl)
theorem dX3_readsOf_160 : decode cX3_readsOf 160 = .ok (.bipush 99, 2) := dk_16 99 (dk_at dksX3_readsOf_6 20 rfl rfl)
theorem dX3_readsOf_162 : decode cX3_readsOf 162 = .ok (.if_icmp .ne 10, 3) := dk_160 0 10 (dk_at dksX3_readsOf_7 0 rfl rfl)
theorem dX3_readsOf_165 : decode cX3_readsOf 165 = .ok (.aload_n 0, 1) := dk_42 (dk_at dksX3_readsOf_7 3 rfl rfl)
theorem dX3_readsOf_166 : decode cX3_readsOf 166 = .ok (.getfield 104, 3) := dk_180 0 104 (dk_at dksX3_readsOf_7 4 rfl rfl)
theorem dX3_readsOf_169 : decode cX3_readsOf 169 = .ok (.goto 9, 3) := dk_167 0 9 (dk_at dksX3_readsOf_7 7 rfl rfl)
theorem dX3_readsOf_172 : decode cX3_readsOf 172 = .ok (.aload_n 0, 1) := dk_42 (dk_at dksX3_readsOf_7 10 rfl rfl)
theorem dX3_readsOf_173 : decode cX3_readsOf 173 = .ok (.getfield 28, 3) := dk_180 0 28 (dk_at dksX3_readsOf_7 11 rfl rfl)
theorem dX3_readsOf_176 : decode cX3_readsOf 176 = .ok (.iload_n 2, 1) := dk_28 (dk_at dksX3_readsOf_7 14 rfl rfl)
theorem dX3_readsOf_177 : decode cX3_readsOf 177 = .ok (.iaload, 1) := dk_46 (dk_at dksX3_readsOf_7 15 rfl rfl)
theorem dX3_readsOf_178 : decode cX3_readsOf 178 = .ok (.iastore, 1) := dk_79 (dk_at dksX3_readsOf_7 16 rfl rfl)
theorem dX3_readsOf_179 : decode cX3_readsOf 179 = .ok (.aload_n 0, 1) := dk_42 (dk_at dksX3_readsOf_7 17 rfl rfl)
theorem dX3_readsOf_180 : decode cX3_readsOf 180 = .ok (.invokevirtual 133, 3) := dk_182 0 133 (dk_at dksX3_readsOf_7 18 rfl rfl)
theorem dX3_readsOf_183 : decode cX3_readsOf 183 = .ok (.ireturn, 1) := dk_172 (dk_at dksX3_readsOf_7 21 rfl rfl)
abbrev cX3_ends : ByteArray := prog_7_method_11_code
def yX3_ends : MethodName := ⟨RX3, "ends", "()Z"⟩
def dkwX3_ends_1 : List UInt8 := [3, 172]
abbrev dktX3_ends_1 : List UInt8 := dkwX3_ends_1 ++ []
def dkwX3_ends_0 : List UInt8 := [42, 182, 0, 114, 42, 180, 0, 97, 16, 59, 159, 0, 10, 42, 182, 0, 117, 153, 0, 7, 4, 167, 0, 4]
abbrev dktX3_ends_0 : List UInt8 := dkwX3_ends_0 ++ dktX3_ends_1
theorem dksX3_ends_0 : cX3_ends.data.toList.drop 0 = dktX3_ends_0 := by decide +kernel
theorem dksX3_ends_1 : cX3_ends.data.toList.drop 24 = dktX3_ends_1 := dk_seg dksX3_ends_0 24 rfl rfl
theorem dX3_ends_0 : decode cX3_ends 0 = .ok (.aload_n 0, 1) := dk_42 (dk_at dksX3_ends_0 0 rfl rfl)
theorem dX3_ends_1 : decode cX3_ends 1 = .ok (.invokevirtual 114, 3) := dk_182 0 114 (dk_at dksX3_ends_0 1 rfl rfl)
theorem dX3_ends_4 : decode cX3_ends 4 = .ok (.aload_n 0, 1) := dk_42 (dk_at dksX3_ends_0 4 rfl rfl)
theorem dX3_ends_5 : decode cX3_ends 5 = .ok (.getfield 97, 3) := dk_180 0 97 (dk_at dksX3_ends_0 5 rfl rfl)
theorem dX3_ends_8 : decode cX3_ends 8 = .ok (.bipush 59, 2) := dk_16 59 (dk_at dksX3_ends_0 8 rfl rfl)
theorem dX3_ends_10 : decode cX3_ends 10 = .ok (.if_icmp .eq 10, 3) := dk_159 0 10 (dk_at dksX3_ends_0 10 rfl rfl)
theorem dX3_ends_13 : decode cX3_ends 13 = .ok (.aload_n 0, 1) := dk_42 (dk_at dksX3_ends_0 13 rfl rfl)
theorem dX3_ends_14 : decode cX3_ends 14 = .ok (.invokevirtual 117, 3) := dk_182 0 117 (dk_at dksX3_ends_0 14 rfl rfl)
theorem dX3_ends_17 : decode cX3_ends 17 = .ok (.ifCond .eq 7, 3) := dk_153 0 7 (dk_at dksX3_ends_0 17 rfl rfl)
theorem dX3_ends_20 : decode cX3_ends 20 = .ok (.iconst 1, 1) := dk_4 (dk_at dksX3_ends_0 20 rfl rfl)
theorem dX3_ends_21 : decode cX3_ends 21 = .ok (.goto 4, 3) := dk_167 0 4 (dk_at dksX3_ends_0 21 rfl rfl)
theorem dX3_ends_24 : decode cX3_ends 24 = .ok (.iconst 0, 1) := dk_3 (dk_at dksX3_ends_1 0 rfl rfl)
theorem dX3_ends_25 : decode cX3_ends 25 = .ok (.ireturn, 1) := dk_172 (dk_at dksX3_ends_1 1 rfl rfl)
abbrev cX3_ticks : ByteArray := prog_7_method_37_code
def yX3_ticks : MethodName := ⟨RX3, "ticks", "(I)I"⟩
def dkwX3_ticks_3 : List UInt8 := [180, 0, 49, 182, 0, 211, 132, 2, 1, 167, 255, 224, 42, 180, 0, 49, 17, 0, 144, 46, 172]
abbrev dktX3_ticks_3 : List UInt8 := dkwX3_ticks_3 ++ []
def dkwX3_ticks_2 : List UInt8 := [28, 27, 162, 0, 33, 42, 180, 0, 49, 3, 6, 184, 0, 165, 154, 0, 21, 42, 182, 0, 208, 42, 42]
abbrev dktX3_ticks_2 : List UInt8 := dkwX3_ticks_2 ++ dktX3_ticks_3
def dkwX3_ticks_1 : List UInt8 := [16, 254, 172, 42, 180, 0, 49, 17, 0, 144, 46, 27, 96, 17, 3, 231, 164, 0, 6, 16, 253, 172, 3, 61]
abbrev dktX3_ticks_1 : List UInt8 := dkwX3_ticks_1 ++ dktX3_ticks_2
def dkwX3_ticks_0 : List UInt8 := [27, 4, 16, 12, 184, 0, 80, 154, 0, 5, 2, 172, 42, 180, 0, 49, 3, 6, 184, 0, 165, 153, 0, 6]
abbrev dktX3_ticks_0 : List UInt8 := dkwX3_ticks_0 ++ dktX3_ticks_1
theorem dksX3_ticks_0 : cX3_ticks.data.toList.drop 0 = dktX3_ticks_0 := by decide +kernel
theorem dksX3_ticks_1 : cX3_ticks.data.toList.drop 24 = dktX3_ticks_1 := dk_seg dksX3_ticks_0 24 rfl rfl
theorem dksX3_ticks_2 : cX3_ticks.data.toList.drop 48 = dktX3_ticks_2 := dk_seg dksX3_ticks_1 24 rfl rfl
theorem dksX3_ticks_3 : cX3_ticks.data.toList.drop 71 = dktX3_ticks_3 := dk_seg dksX3_ticks_2 23 rfl rfl
theorem dX3_ticks_0 : decode cX3_ticks 0 = .ok (.iload_n 1, 1) := dk_27 (dk_at dksX3_ticks_0 0 rfl rfl)
theorem dX3_ticks_1 : decode cX3_ticks 1 = .ok (.iconst 1, 1) := dk_4 (dk_at dksX3_ticks_0 1 rfl rfl)
theorem dX3_ticks_2 : decode cX3_ticks 2 = .ok (.bipush 12, 2) := dk_16 12 (dk_at dksX3_ticks_0 2 rfl rfl)
theorem dX3_ticks_4 : decode cX3_ticks 4 = .ok (.invokestatic 80, 3) := dk_184 0 80 (dk_at dksX3_ticks_0 4 rfl rfl)
theorem dX3_ticks_7 : decode cX3_ticks 7 = .ok (.ifCond .ne 5, 3) := dk_154 0 5 (dk_at dksX3_ticks_0 7 rfl rfl)
theorem dX3_ticks_10 : decode cX3_ticks 10 = .ok (.iconst (-1), 1) := dk_2 (dk_at dksX3_ticks_0 10 rfl rfl)
theorem dX3_ticks_11 : decode cX3_ticks 11 = .ok (.ireturn, 1) := dk_172 (dk_at dksX3_ticks_0 11 rfl rfl)
theorem dX3_ticks_12 : decode cX3_ticks 12 = .ok (.aload_n 0, 1) := dk_42 (dk_at dksX3_ticks_0 12 rfl rfl)
theorem dX3_ticks_13 : decode cX3_ticks 13 = .ok (.getfield 49, 3) := dk_180 0 49 (dk_at dksX3_ticks_0 13 rfl rfl)
theorem dX3_ticks_16 : decode cX3_ticks 16 = .ok (.iconst 0, 1) := dk_3 (dk_at dksX3_ticks_0 16 rfl rfl)
theorem dX3_ticks_17 : decode cX3_ticks 17 = .ok (.iconst 3, 1) := dk_6 (dk_at dksX3_ticks_0 17 rfl rfl)
theorem dX3_ticks_18 : decode cX3_ticks 18 = .ok (.invokestatic 165, 3) := dk_184 0 165 (dk_at dksX3_ticks_0 18 rfl rfl)
theorem dX3_ticks_21 : decode cX3_ticks 21 = .ok (.ifCond .eq 6, 3) := dk_153 0 6 (dk_at dksX3_ticks_0 21 rfl rfl)
theorem dX3_ticks_24 : decode cX3_ticks 24 = .ok (.bipush (-2), 2) := dk_16 254 (dk_at dksX3_ticks_1 0 rfl rfl)
theorem dX3_ticks_26 : decode cX3_ticks 26 = .ok (.ireturn, 1) := dk_172 (dk_at dksX3_ticks_1 2 rfl rfl)
theorem dX3_ticks_27 : decode cX3_ticks 27 = .ok (.aload_n 0, 1) := dk_42 (dk_at dksX3_ticks_1 3 rfl rfl)
theorem dX3_ticks_28 : decode cX3_ticks 28 = .ok (.getfield 49, 3) := dk_180 0 49 (dk_at dksX3_ticks_1 4 rfl rfl)
theorem dX3_ticks_31 : decode cX3_ticks 31 = .ok (.sipush 144, 3) := dk_17 0 144 (dk_at dksX3_ticks_1 7 rfl rfl)
theorem dX3_ticks_34 : decode cX3_ticks 34 = .ok (.iaload, 1) := dk_46 (dk_at dksX3_ticks_1 10 rfl rfl)
theorem dX3_ticks_35 : decode cX3_ticks 35 = .ok (.iload_n 1, 1) := dk_27 (dk_at dksX3_ticks_1 11 rfl rfl)
theorem dX3_ticks_36 : decode cX3_ticks 36 = .ok (.iadd, 1) := dk_96 (dk_at dksX3_ticks_1 12 rfl rfl)
theorem dX3_ticks_37 : decode cX3_ticks 37 = .ok (.sipush 999, 3) := dk_17 3 231 (dk_at dksX3_ticks_1 13 rfl rfl)
theorem dX3_ticks_40 : decode cX3_ticks 40 = .ok (.if_icmp .le 6, 3) := dk_164 0 6 (dk_at dksX3_ticks_1 16 rfl rfl)
theorem dX3_ticks_43 : decode cX3_ticks 43 = .ok (.bipush (-3), 2) := dk_16 253 (dk_at dksX3_ticks_1 19 rfl rfl)
theorem dX3_ticks_45 : decode cX3_ticks 45 = .ok (.ireturn, 1) := dk_172 (dk_at dksX3_ticks_1 21 rfl rfl)
theorem dX3_ticks_46 : decode cX3_ticks 46 = .ok (.iconst 0, 1) := dk_3 (dk_at dksX3_ticks_1 22 rfl rfl)
theorem dX3_ticks_47 : decode cX3_ticks 47 = .ok (.istore_n 2, 1) := dk_61 (dk_at dksX3_ticks_1 23 rfl rfl)
theorem dX3_ticks_48 : decode cX3_ticks 48 = .ok (.iload_n 2, 1) := dk_28 (dk_at dksX3_ticks_2 0 rfl rfl)
theorem dX3_ticks_49 : decode cX3_ticks 49 = .ok (.iload_n 1, 1) := dk_27 (dk_at dksX3_ticks_2 1 rfl rfl)
theorem dX3_ticks_50 : decode cX3_ticks 50 = .ok (.if_icmp .ge 33, 3) := dk_162 0 33 (dk_at dksX3_ticks_2 2 rfl rfl)
theorem dX3_ticks_53 : decode cX3_ticks 53 = .ok (.aload_n 0, 1) := dk_42 (dk_at dksX3_ticks_2 5 rfl rfl)
theorem dX3_ticks_54 : decode cX3_ticks 54 = .ok (.getfield 49, 3) := dk_180 0 49 (dk_at dksX3_ticks_2 6 rfl rfl)
theorem dX3_ticks_57 : decode cX3_ticks 57 = .ok (.iconst 0, 1) := dk_3 (dk_at dksX3_ticks_2 9 rfl rfl)
theorem dX3_ticks_58 : decode cX3_ticks 58 = .ok (.iconst 3, 1) := dk_6 (dk_at dksX3_ticks_2 10 rfl rfl)
theorem dX3_ticks_59 : decode cX3_ticks 59 = .ok (.invokestatic 165, 3) := dk_184 0 165 (dk_at dksX3_ticks_2 11 rfl rfl)
theorem dX3_ticks_62 : decode cX3_ticks 62 = .ok (.ifCond .ne 21, 3) := dk_154 0 21 (dk_at dksX3_ticks_2 14 rfl rfl)
theorem dX3_ticks_65 : decode cX3_ticks 65 = .ok (.aload_n 0, 1) := dk_42 (dk_at dksX3_ticks_2 17 rfl rfl)
theorem dX3_ticks_66 : decode cX3_ticks 66 = .ok (.invokevirtual 208, 3) := dk_182 0 208 (dk_at dksX3_ticks_2 18 rfl rfl)
theorem dX3_ticks_69 : decode cX3_ticks 69 = .ok (.aload_n 0, 1) := dk_42 (dk_at dksX3_ticks_2 21 rfl rfl)
theorem dX3_ticks_70 : decode cX3_ticks 70 = .ok (.aload_n 0, 1) := dk_42 (dk_at dksX3_ticks_2 22 rfl rfl)
theorem dX3_ticks_71 : decode cX3_ticks 71 = .ok (.getfield 49, 3) := dk_180 0 49 (dk_at dksX3_ticks_3 0 rfl rfl)
theorem dX3_ticks_74 : decode cX3_ticks 74 = .ok (.invokevirtual 211, 3) := dk_182 0 211 (dk_at dksX3_ticks_3 3 rfl rfl)
theorem dX3_ticks_77 : decode cX3_ticks 77 = .ok (.iinc 2 1, 3) := dk_132 2 1 (dk_at dksX3_ticks_3 6 rfl rfl)
theorem dX3_ticks_80 : decode cX3_ticks 80 = .ok (.goto (-32), 3) := dk_167 255 224 (dk_at dksX3_ticks_3 9 rfl rfl)
theorem dX3_ticks_83 : decode cX3_ticks 83 = .ok (.aload_n 0, 1) := dk_42 (dk_at dksX3_ticks_3 12 rfl rfl)
theorem dX3_ticks_84 : decode cX3_ticks 84 = .ok (.getfield 49, 3) := dk_180 0 49 (dk_at dksX3_ticks_3 13 rfl rfl)
theorem dX3_ticks_87 : decode cX3_ticks 87 = .ok (.sipush 144, 3) := dk_17 0 144 (dk_at dksX3_ticks_3 16 rfl rfl)
theorem dX3_ticks_90 : decode cX3_ticks 90 = .ok (.iaload, 1) := dk_46 (dk_at dksX3_ticks_3 19 rfl rfl)
theorem dX3_ticks_91 : decode cX3_ticks 91 = .ok (.ireturn, 1) := dk_172 (dk_at dksX3_ticks_3 20 rfl rfl)
abbrev cX3_isHow : ByteArray := prog_7_method_22_code
def yX3_isHow : MethodName := ⟨RX3, "isHow", "([III)Z"⟩
def dkwX3_isHow_0 : List UInt8 := [42, 16, 18, 27, 104, 3, 96, 46, 28, 160, 0, 7, 4, 167, 0, 4, 3, 172]
abbrev dktX3_isHow_0 : List UInt8 := dkwX3_isHow_0 ++ []
theorem dksX3_isHow_0 : cX3_isHow.data.toList.drop 0 = dktX3_isHow_0 := by decide +kernel
theorem dX3_isHow_0 : decode cX3_isHow 0 = .ok (.aload_n 0, 1) := dk_42 (dk_at dksX3_isHow_0 0 rfl rfl)
theorem dX3_isHow_1 : decode cX3_isHow 1 = .ok (.bipush 18, 2) := dk_16 18 (dk_at dksX3_isHow_0 1 rfl rfl)
theorem dX3_isHow_3 : decode cX3_isHow 3 = .ok (.iload_n 1, 1) := dk_27 (dk_at dksX3_isHow_0 3 rfl rfl)
theorem dX3_isHow_4 : decode cX3_isHow 4 = .ok (.imul, 1) := dk_104 (dk_at dksX3_isHow_0 4 rfl rfl)
theorem dX3_isHow_5 : decode cX3_isHow 5 = .ok (.iconst 0, 1) := dk_3 (dk_at dksX3_isHow_0 5 rfl rfl)
theorem dX3_isHow_6 : decode cX3_isHow 6 = .ok (.iadd, 1) := dk_96 (dk_at dksX3_isHow_0 6 rfl rfl)
theorem dX3_isHow_7 : decode cX3_isHow 7 = .ok (.iaload, 1) := dk_46 (dk_at dksX3_isHow_0 7 rfl rfl)
theorem dX3_isHow_8 : decode cX3_isHow 8 = .ok (.iload_n 2, 1) := dk_28 (dk_at dksX3_isHow_0 8 rfl rfl)
theorem dX3_isHow_9 : decode cX3_isHow 9 = .ok (.if_icmp .ne 7, 3) := dk_160 0 7 (dk_at dksX3_isHow_0 9 rfl rfl)
theorem dX3_isHow_12 : decode cX3_isHow 12 = .ok (.iconst 1, 1) := dk_4 (dk_at dksX3_isHow_0 12 rfl rfl)
theorem dX3_isHow_13 : decode cX3_isHow 13 = .ok (.goto 4, 3) := dk_167 0 4 (dk_at dksX3_isHow_0 13 rfl rfl)
theorem dX3_isHow_16 : decode cX3_isHow 16 = .ok (.iconst 0, 1) := dk_3 (dk_at dksX3_isHow_0 16 rfl rfl)
theorem dX3_isHow_17 : decode cX3_isHow 17 = .ok (.ireturn, 1) := dk_172 (dk_at dksX3_isHow_0 17 rfl rfl)
abbrev cX3_remember : ByteArray := prog_7_method_36_code
def yX3_remember : MethodName := ⟨RX3, "remember", "()V"⟩
def dkwX3_remember_3 : List UInt8 := [181, 0, 152, 177]
abbrev dktX3_remember_3 : List UInt8 := dkwX3_remember_3 ++ []
def dkwX3_remember_2 : List UInt8 := [181, 0, 205, 42, 89, 180, 0, 152, 42, 180, 0, 152, 16, 12, 162, 0, 7, 4, 167, 0, 4, 3, 96]
abbrev dktX3_remember_2 : List UInt8 := dkwX3_remember_2 ++ dktX3_remember_3
def dkwX3_remember_1 : List UInt8 := [180, 0, 49, 27, 46, 79, 132, 1, 1, 167, 255, 225, 42, 42, 180, 0, 205, 4, 96, 16, 12, 112]
abbrev dktX3_remember_1 : List UInt8 := dkwX3_remember_1 ++ dktX3_remember_2
def dkwX3_remember_0 : List UInt8 := [3, 60, 27, 17, 1, 70, 162, 0, 30, 42, 180, 0, 55, 17, 1, 70, 42, 180, 0, 205, 104, 27, 96, 42]
abbrev dktX3_remember_0 : List UInt8 := dkwX3_remember_0 ++ dktX3_remember_1
theorem dksX3_remember_0 : cX3_remember.data.toList.drop 0 = dktX3_remember_0 := by decide +kernel
theorem dksX3_remember_1 : cX3_remember.data.toList.drop 24 = dktX3_remember_1 := dk_seg dksX3_remember_0 24 rfl rfl
theorem dksX3_remember_2 : cX3_remember.data.toList.drop 46 = dktX3_remember_2 := dk_seg dksX3_remember_1 22 rfl rfl
theorem dksX3_remember_3 : cX3_remember.data.toList.drop 69 = dktX3_remember_3 := dk_seg dksX3_remember_2 23 rfl rfl
theorem dX3_remember_0 : decode cX3_remember 0 = .ok (.iconst 0, 1) := dk_3 (dk_at dksX3_remember_0 0 rfl rfl)
theorem dX3_remember_1 : decode cX3_remember 1 = .ok (.istore_n 1, 1) := dk_60 (dk_at dksX3_remember_0 1 rfl rfl)
theorem dX3_remember_2 : decode cX3_remember 2 = .ok (.iload_n 1, 1) := dk_27 (dk_at dksX3_remember_0 2 rfl rfl)
theorem dX3_remember_3 : decode cX3_remember 3 = .ok (.sipush 326, 3) := dk_17 1 70 (dk_at dksX3_remember_0 3 rfl rfl)
theorem dX3_remember_6 : decode cX3_remember 6 = .ok (.if_icmp .ge 30, 3) := dk_162 0 30 (dk_at dksX3_remember_0 6 rfl rfl)
theorem dX3_remember_9 : decode cX3_remember 9 = .ok (.aload_n 0, 1) := dk_42 (dk_at dksX3_remember_0 9 rfl rfl)
theorem dX3_remember_10 : decode cX3_remember 10 = .ok (.getfield 55, 3) := dk_180 0 55 (dk_at dksX3_remember_0 10 rfl rfl)
theorem dX3_remember_13 : decode cX3_remember 13 = .ok (.sipush 326, 3) := dk_17 1 70 (dk_at dksX3_remember_0 13 rfl rfl)
theorem dX3_remember_16 : decode cX3_remember 16 = .ok (.aload_n 0, 1) := dk_42 (dk_at dksX3_remember_0 16 rfl rfl)
theorem dX3_remember_17 : decode cX3_remember 17 = .ok (.getfield 205, 3) := dk_180 0 205 (dk_at dksX3_remember_0 17 rfl rfl)
theorem dX3_remember_20 : decode cX3_remember 20 = .ok (.imul, 1) := dk_104 (dk_at dksX3_remember_0 20 rfl rfl)
theorem dX3_remember_21 : decode cX3_remember 21 = .ok (.iload_n 1, 1) := dk_27 (dk_at dksX3_remember_0 21 rfl rfl)
theorem dX3_remember_22 : decode cX3_remember 22 = .ok (.iadd, 1) := dk_96 (dk_at dksX3_remember_0 22 rfl rfl)
theorem dX3_remember_23 : decode cX3_remember 23 = .ok (.aload_n 0, 1) := dk_42 (dk_at dksX3_remember_0 23 rfl rfl)
theorem dX3_remember_24 : decode cX3_remember 24 = .ok (.getfield 49, 3) := dk_180 0 49 (dk_at dksX3_remember_1 0 rfl rfl)
theorem dX3_remember_27 : decode cX3_remember 27 = .ok (.iload_n 1, 1) := dk_27 (dk_at dksX3_remember_1 3 rfl rfl)
theorem dX3_remember_28 : decode cX3_remember 28 = .ok (.iaload, 1) := dk_46 (dk_at dksX3_remember_1 4 rfl rfl)
theorem dX3_remember_29 : decode cX3_remember 29 = .ok (.iastore, 1) := dk_79 (dk_at dksX3_remember_1 5 rfl rfl)
theorem dX3_remember_30 : decode cX3_remember 30 = .ok (.iinc 1 1, 3) := dk_132 1 1 (dk_at dksX3_remember_1 6 rfl rfl)
theorem dX3_remember_33 : decode cX3_remember 33 = .ok (.goto (-31), 3) := dk_167 255 225 (dk_at dksX3_remember_1 9 rfl rfl)
theorem dX3_remember_36 : decode cX3_remember 36 = .ok (.aload_n 0, 1) := dk_42 (dk_at dksX3_remember_1 12 rfl rfl)
theorem dX3_remember_37 : decode cX3_remember 37 = .ok (.aload_n 0, 1) := dk_42 (dk_at dksX3_remember_1 13 rfl rfl)
theorem dX3_remember_38 : decode cX3_remember 38 = .ok (.getfield 205, 3) := dk_180 0 205 (dk_at dksX3_remember_1 14 rfl rfl)
theorem dX3_remember_41 : decode cX3_remember 41 = .ok (.iconst 1, 1) := dk_4 (dk_at dksX3_remember_1 17 rfl rfl)
theorem dX3_remember_42 : decode cX3_remember 42 = .ok (.iadd, 1) := dk_96 (dk_at dksX3_remember_1 18 rfl rfl)
theorem dX3_remember_43 : decode cX3_remember 43 = .ok (.bipush 12, 2) := dk_16 12 (dk_at dksX3_remember_1 19 rfl rfl)
theorem dX3_remember_45 : decode cX3_remember 45 = .ok (.irem, 1) := dk_112 (dk_at dksX3_remember_1 21 rfl rfl)
theorem dX3_remember_46 : decode cX3_remember 46 = .ok (.putfield 205, 3) := dk_181 0 205 (dk_at dksX3_remember_2 0 rfl rfl)
theorem dX3_remember_49 : decode cX3_remember 49 = .ok (.aload_n 0, 1) := dk_42 (dk_at dksX3_remember_2 3 rfl rfl)
theorem dX3_remember_50 : decode cX3_remember 50 = .ok (.dup, 1) := dk_89 (dk_at dksX3_remember_2 4 rfl rfl)
theorem dX3_remember_51 : decode cX3_remember 51 = .ok (.getfield 152, 3) := dk_180 0 152 (dk_at dksX3_remember_2 5 rfl rfl)
theorem dX3_remember_54 : decode cX3_remember 54 = .ok (.aload_n 0, 1) := dk_42 (dk_at dksX3_remember_2 8 rfl rfl)
theorem dX3_remember_55 : decode cX3_remember 55 = .ok (.getfield 152, 3) := dk_180 0 152 (dk_at dksX3_remember_2 9 rfl rfl)
theorem dX3_remember_58 : decode cX3_remember 58 = .ok (.bipush 12, 2) := dk_16 12 (dk_at dksX3_remember_2 12 rfl rfl)
theorem dX3_remember_60 : decode cX3_remember 60 = .ok (.if_icmp .ge 7, 3) := dk_162 0 7 (dk_at dksX3_remember_2 14 rfl rfl)
theorem dX3_remember_63 : decode cX3_remember 63 = .ok (.iconst 1, 1) := dk_4 (dk_at dksX3_remember_2 17 rfl rfl)
theorem dX3_remember_64 : decode cX3_remember 64 = .ok (.goto 4, 3) := dk_167 0 4 (dk_at dksX3_remember_2 18 rfl rfl)
theorem dX3_remember_67 : decode cX3_remember 67 = .ok (.iconst 0, 1) := dk_3 (dk_at dksX3_remember_2 21 rfl rfl)
theorem dX3_remember_68 : decode cX3_remember 68 = .ok (.iadd, 1) := dk_96 (dk_at dksX3_remember_2 22 rfl rfl)
theorem dX3_remember_69 : decode cX3_remember 69 = .ok (.putfield 152, 3) := dk_181 0 152 (dk_at dksX3_remember_3 0 rfl rfl)
theorem dX3_remember_72 : decode cX3_remember 72 = .ok (.return_, 1) := dk_177 (dk_at dksX3_remember_3 3 rfl rfl)
abbrev cX3_tick : ByteArray := prog_7_method_34_code
def yX3_tick : MethodName := ⟨RX3, "tick", "([I)V"⟩
def dkwX3_tick_6 : List UInt8 := [42, 43, 28, 182, 0, 202, 132, 2, 255, 167, 255, 225, 177]
abbrev dktX3_tick_6 : List UInt8 := dkwX3_tick_6 ++ []
def dkwX3_tick_5 : List UInt8 := [100, 61, 28, 155, 0, 33, 43, 28, 5, 184, 0, 165, 153, 0, 18, 42, 43, 28, 182, 0, 183, 154, 0, 9]
abbrev dktX3_tick_5 : List UInt8 := dkwX3_tick_5 ++ dktX3_tick_6
def dkwX3_tick_4 : List UInt8 := [17, 0, 144, 46, 162, 0, 9, 42, 43, 28, 182, 0, 199, 132, 2, 1, 167, 255, 211, 42, 180, 0, 142, 4]
abbrev dktX3_tick_4 : List UInt8 := dkwX3_tick_4 ++ dktX3_tick_5
def dkwX3_tick_3 : List UInt8 := [162, 0, 43, 43, 28, 4, 184, 0, 165, 153, 0, 28, 28, 153, 0, 18, 43, 28, 16, 7, 184, 0, 161, 43]
abbrev dktX3_tick_3 : List UInt8 := dkwX3_tick_3 ++ dktX3_tick_4
def dkwX3_tick_2 : List UInt8 := [184, 0, 187, 42, 43, 28, 6, 182, 0, 190, 132, 2, 1, 167, 255, 208, 3, 61, 28, 42, 180, 0, 142]
abbrev dktX3_tick_2 : List UInt8 := dkwX3_tick_2 ++ dktX3_tick_3
def dkwX3_tick_1 : List UInt8 := [184, 0, 165, 153, 0, 31, 43, 17, 0, 144, 46, 43, 28, 7, 184, 0, 161, 164, 0, 17, 43, 28, 16, 10]
abbrev dktX3_tick_1 : List UInt8 := dkwX3_tick_1 ++ dktX3_tick_2
def dkwX3_tick_0 : List UInt8 := [43, 17, 0, 144, 92, 46, 4, 96, 79, 3, 61, 28, 42, 180, 0, 142, 162, 0, 46, 43, 28, 4]
abbrev dktX3_tick_0 : List UInt8 := dkwX3_tick_0 ++ dktX3_tick_1
theorem dksX3_tick_0 : cX3_tick.data.toList.drop 0 = dktX3_tick_0 := by decide +kernel
theorem dksX3_tick_1 : cX3_tick.data.toList.drop 22 = dktX3_tick_1 := dk_seg dksX3_tick_0 22 rfl rfl
theorem dksX3_tick_2 : cX3_tick.data.toList.drop 46 = dktX3_tick_2 := dk_seg dksX3_tick_1 24 rfl rfl
theorem dksX3_tick_3 : cX3_tick.data.toList.drop 69 = dktX3_tick_3 := dk_seg dksX3_tick_2 23 rfl rfl
theorem dksX3_tick_4 : cX3_tick.data.toList.drop 93 = dktX3_tick_4 := dk_seg dksX3_tick_3 24 rfl rfl
theorem dksX3_tick_5 : cX3_tick.data.toList.drop 117 = dktX3_tick_5 := dk_seg dksX3_tick_4 24 rfl rfl
theorem dksX3_tick_6 : cX3_tick.data.toList.drop 141 = dktX3_tick_6 := dk_seg dksX3_tick_5 24 rfl rfl
theorem dX3_tick_0 : decode cX3_tick 0 = .ok (.aload_n 1, 1) := dk_43 (dk_at dksX3_tick_0 0 rfl rfl)
theorem dX3_tick_1 : decode cX3_tick 1 = .ok (.sipush 144, 3) := dk_17 0 144 (dk_at dksX3_tick_0 1 rfl rfl)
theorem dX3_tick_4 : decode cX3_tick 4 = .ok (.dup2, 1) := dk_92 (dk_at dksX3_tick_0 4 rfl rfl)
theorem dX3_tick_5 : decode cX3_tick 5 = .ok (.iaload, 1) := dk_46 (dk_at dksX3_tick_0 5 rfl rfl)
theorem dX3_tick_6 : decode cX3_tick 6 = .ok (.iconst 1, 1) := dk_4 (dk_at dksX3_tick_0 6 rfl rfl)
theorem dX3_tick_7 : decode cX3_tick 7 = .ok (.iadd, 1) := dk_96 (dk_at dksX3_tick_0 7 rfl rfl)
theorem dX3_tick_8 : decode cX3_tick 8 = .ok (.iastore, 1) := dk_79 (dk_at dksX3_tick_0 8 rfl rfl)
theorem dX3_tick_9 : decode cX3_tick 9 = .ok (.iconst 0, 1) := dk_3 (dk_at dksX3_tick_0 9 rfl rfl)
theorem dX3_tick_10 : decode cX3_tick 10 = .ok (.istore_n 2, 1) := dk_61 (dk_at dksX3_tick_0 10 rfl rfl)
theorem dX3_tick_11 : decode cX3_tick 11 = .ok (.iload_n 2, 1) := dk_28 (dk_at dksX3_tick_0 11 rfl rfl)
theorem dX3_tick_12 : decode cX3_tick 12 = .ok (.aload_n 0, 1) := dk_42 (dk_at dksX3_tick_0 12 rfl rfl)
theorem dX3_tick_13 : decode cX3_tick 13 = .ok (.getfield 142, 3) := dk_180 0 142 (dk_at dksX3_tick_0 13 rfl rfl)
theorem dX3_tick_16 : decode cX3_tick 16 = .ok (.if_icmp .ge 46, 3) := dk_162 0 46 (dk_at dksX3_tick_0 16 rfl rfl)
theorem dX3_tick_19 : decode cX3_tick 19 = .ok (.aload_n 1, 1) := dk_43 (dk_at dksX3_tick_0 19 rfl rfl)
theorem dX3_tick_20 : decode cX3_tick 20 = .ok (.iload_n 2, 1) := dk_28 (dk_at dksX3_tick_0 20 rfl rfl)
theorem dX3_tick_21 : decode cX3_tick 21 = .ok (.iconst 1, 1) := dk_4 (dk_at dksX3_tick_0 21 rfl rfl)
theorem dX3_tick_22 : decode cX3_tick 22 = .ok (.invokestatic 165, 3) := dk_184 0 165 (dk_at dksX3_tick_1 0 rfl rfl)
theorem dX3_tick_25 : decode cX3_tick 25 = .ok (.ifCond .eq 31, 3) := dk_153 0 31 (dk_at dksX3_tick_1 3 rfl rfl)
theorem dX3_tick_28 : decode cX3_tick 28 = .ok (.aload_n 1, 1) := dk_43 (dk_at dksX3_tick_1 6 rfl rfl)
theorem dX3_tick_29 : decode cX3_tick 29 = .ok (.sipush 144, 3) := dk_17 0 144 (dk_at dksX3_tick_1 7 rfl rfl)
theorem dX3_tick_32 : decode cX3_tick 32 = .ok (.iaload, 1) := dk_46 (dk_at dksX3_tick_1 10 rfl rfl)
theorem dX3_tick_33 : decode cX3_tick 33 = .ok (.aload_n 1, 1) := dk_43 (dk_at dksX3_tick_1 11 rfl rfl)
theorem dX3_tick_34 : decode cX3_tick 34 = .ok (.iload_n 2, 1) := dk_28 (dk_at dksX3_tick_1 12 rfl rfl)
theorem dX3_tick_35 : decode cX3_tick 35 = .ok (.iconst 4, 1) := dk_7 (dk_at dksX3_tick_1 13 rfl rfl)
theorem dX3_tick_36 : decode cX3_tick 36 = .ok (.invokestatic 161, 3) := dk_184 0 161 (dk_at dksX3_tick_1 14 rfl rfl)
theorem dX3_tick_39 : decode cX3_tick 39 = .ok (.if_icmp .le 17, 3) := dk_164 0 17 (dk_at dksX3_tick_1 17 rfl rfl)
theorem dX3_tick_42 : decode cX3_tick 42 = .ok (.aload_n 1, 1) := dk_43 (dk_at dksX3_tick_1 20 rfl rfl)
theorem dX3_tick_43 : decode cX3_tick 43 = .ok (.iload_n 2, 1) := dk_28 (dk_at dksX3_tick_1 21 rfl rfl)
theorem dX3_tick_44 : decode cX3_tick 44 = .ok (.bipush 10, 2) := dk_16 10 (dk_at dksX3_tick_1 22 rfl rfl)
theorem dX3_tick_46 : decode cX3_tick 46 = .ok (.invokestatic 187, 3) := dk_184 0 187 (dk_at dksX3_tick_2 0 rfl rfl)
theorem dX3_tick_49 : decode cX3_tick 49 = .ok (.aload_n 0, 1) := dk_42 (dk_at dksX3_tick_2 3 rfl rfl)
theorem dX3_tick_50 : decode cX3_tick 50 = .ok (.aload_n 1, 1) := dk_43 (dk_at dksX3_tick_2 4 rfl rfl)
theorem dX3_tick_51 : decode cX3_tick 51 = .ok (.iload_n 2, 1) := dk_28 (dk_at dksX3_tick_2 5 rfl rfl)
theorem dX3_tick_52 : decode cX3_tick 52 = .ok (.iconst 3, 1) := dk_6 (dk_at dksX3_tick_2 6 rfl rfl)
theorem dX3_tick_53 : decode cX3_tick 53 = .ok (.invokevirtual 190, 3) := dk_182 0 190 (dk_at dksX3_tick_2 7 rfl rfl)
theorem dX3_tick_56 : decode cX3_tick 56 = .ok (.iinc 2 1, 3) := dk_132 2 1 (dk_at dksX3_tick_2 10 rfl rfl)
theorem dX3_tick_59 : decode cX3_tick 59 = .ok (.goto (-48), 3) := dk_167 255 208 (dk_at dksX3_tick_2 13 rfl rfl)
theorem dX3_tick_62 : decode cX3_tick 62 = .ok (.iconst 0, 1) := dk_3 (dk_at dksX3_tick_2 16 rfl rfl)
theorem dX3_tick_63 : decode cX3_tick 63 = .ok (.istore_n 2, 1) := dk_61 (dk_at dksX3_tick_2 17 rfl rfl)
theorem dX3_tick_64 : decode cX3_tick 64 = .ok (.iload_n 2, 1) := dk_28 (dk_at dksX3_tick_2 18 rfl rfl)
theorem dX3_tick_65 : decode cX3_tick 65 = .ok (.aload_n 0, 1) := dk_42 (dk_at dksX3_tick_2 19 rfl rfl)
theorem dX3_tick_66 : decode cX3_tick 66 = .ok (.getfield 142, 3) := dk_180 0 142 (dk_at dksX3_tick_2 20 rfl rfl)
theorem dX3_tick_69 : decode cX3_tick 69 = .ok (.if_icmp .ge 43, 3) := dk_162 0 43 (dk_at dksX3_tick_3 0 rfl rfl)
theorem dX3_tick_72 : decode cX3_tick 72 = .ok (.aload_n 1, 1) := dk_43 (dk_at dksX3_tick_3 3 rfl rfl)
theorem dX3_tick_73 : decode cX3_tick 73 = .ok (.iload_n 2, 1) := dk_28 (dk_at dksX3_tick_3 4 rfl rfl)
theorem dX3_tick_74 : decode cX3_tick 74 = .ok (.iconst 1, 1) := dk_4 (dk_at dksX3_tick_3 5 rfl rfl)
theorem dX3_tick_75 : decode cX3_tick 75 = .ok (.invokestatic 165, 3) := dk_184 0 165 (dk_at dksX3_tick_3 6 rfl rfl)
theorem dX3_tick_78 : decode cX3_tick 78 = .ok (.ifCond .eq 28, 3) := dk_153 0 28 (dk_at dksX3_tick_3 9 rfl rfl)
theorem dX3_tick_81 : decode cX3_tick 81 = .ok (.iload_n 2, 1) := dk_28 (dk_at dksX3_tick_3 12 rfl rfl)
theorem dX3_tick_82 : decode cX3_tick 82 = .ok (.ifCond .eq 18, 3) := dk_153 0 18 (dk_at dksX3_tick_3 13 rfl rfl)
theorem dX3_tick_85 : decode cX3_tick 85 = .ok (.aload_n 1, 1) := dk_43 (dk_at dksX3_tick_3 16 rfl rfl)
theorem dX3_tick_86 : decode cX3_tick 86 = .ok (.iload_n 2, 1) := dk_28 (dk_at dksX3_tick_3 17 rfl rfl)
theorem dX3_tick_87 : decode cX3_tick 87 = .ok (.bipush 7, 2) := dk_16 7 (dk_at dksX3_tick_3 18 rfl rfl)
theorem dX3_tick_89 : decode cX3_tick 89 = .ok (.invokestatic 161, 3) := dk_184 0 161 (dk_at dksX3_tick_3 20 rfl rfl)
theorem dX3_tick_92 : decode cX3_tick 92 = .ok (.aload_n 1, 1) := dk_43 (dk_at dksX3_tick_3 23 rfl rfl)
theorem dX3_tick_93 : decode cX3_tick 93 = .ok (.sipush 144, 3) := dk_17 0 144 (dk_at dksX3_tick_4 0 rfl rfl)
theorem dX3_tick_96 : decode cX3_tick 96 = .ok (.iaload, 1) := dk_46 (dk_at dksX3_tick_4 3 rfl rfl)
theorem dX3_tick_97 : decode cX3_tick 97 = .ok (.if_icmp .ge 9, 3) := dk_162 0 9 (dk_at dksX3_tick_4 4 rfl rfl)
theorem dX3_tick_100 : decode cX3_tick 100 = .ok (.aload_n 0, 1) := dk_42 (dk_at dksX3_tick_4 7 rfl rfl)
theorem dX3_tick_101 : decode cX3_tick 101 = .ok (.aload_n 1, 1) := dk_43 (dk_at dksX3_tick_4 8 rfl rfl)
theorem dX3_tick_102 : decode cX3_tick 102 = .ok (.iload_n 2, 1) := dk_28 (dk_at dksX3_tick_4 9 rfl rfl)
theorem dX3_tick_103 : decode cX3_tick 103 = .ok (.invokevirtual 199, 3) := dk_182 0 199 (dk_at dksX3_tick_4 10 rfl rfl)
theorem dX3_tick_106 : decode cX3_tick 106 = .ok (.iinc 2 1, 3) := dk_132 2 1 (dk_at dksX3_tick_4 13 rfl rfl)
theorem dX3_tick_109 : decode cX3_tick 109 = .ok (.goto (-45), 3) := dk_167 255 211 (dk_at dksX3_tick_4 16 rfl rfl)
theorem dX3_tick_112 : decode cX3_tick 112 = .ok (.aload_n 0, 1) := dk_42 (dk_at dksX3_tick_4 19 rfl rfl)
theorem dX3_tick_113 : decode cX3_tick 113 = .ok (.getfield 142, 3) := dk_180 0 142 (dk_at dksX3_tick_4 20 rfl rfl)
theorem dX3_tick_116 : decode cX3_tick 116 = .ok (.iconst 1, 1) := dk_4 (dk_at dksX3_tick_4 23 rfl rfl)
theorem dX3_tick_117 : decode cX3_tick 117 = .ok (.isub, 1) := dk_100 (dk_at dksX3_tick_5 0 rfl rfl)
theorem dX3_tick_118 : decode cX3_tick 118 = .ok (.istore_n 2, 1) := dk_61 (dk_at dksX3_tick_5 1 rfl rfl)
theorem dX3_tick_119 : decode cX3_tick 119 = .ok (.iload_n 2, 1) := dk_28 (dk_at dksX3_tick_5 2 rfl rfl)
theorem dX3_tick_120 : decode cX3_tick 120 = .ok (.ifCond .lt 33, 3) := dk_155 0 33 (dk_at dksX3_tick_5 3 rfl rfl)
theorem dX3_tick_123 : decode cX3_tick 123 = .ok (.aload_n 1, 1) := dk_43 (dk_at dksX3_tick_5 6 rfl rfl)
theorem dX3_tick_124 : decode cX3_tick 124 = .ok (.iload_n 2, 1) := dk_28 (dk_at dksX3_tick_5 7 rfl rfl)
theorem dX3_tick_125 : decode cX3_tick 125 = .ok (.iconst 2, 1) := dk_5 (dk_at dksX3_tick_5 8 rfl rfl)
theorem dX3_tick_126 : decode cX3_tick 126 = .ok (.invokestatic 165, 3) := dk_184 0 165 (dk_at dksX3_tick_5 9 rfl rfl)
theorem dX3_tick_129 : decode cX3_tick 129 = .ok (.ifCond .eq 18, 3) := dk_153 0 18 (dk_at dksX3_tick_5 12 rfl rfl)
theorem dX3_tick_132 : decode cX3_tick 132 = .ok (.aload_n 0, 1) := dk_42 (dk_at dksX3_tick_5 15 rfl rfl)
theorem dX3_tick_133 : decode cX3_tick 133 = .ok (.aload_n 1, 1) := dk_43 (dk_at dksX3_tick_5 16 rfl rfl)
theorem dX3_tick_134 : decode cX3_tick 134 = .ok (.iload_n 2, 1) := dk_28 (dk_at dksX3_tick_5 17 rfl rfl)
theorem dX3_tick_135 : decode cX3_tick 135 = .ok (.invokevirtual 183, 3) := dk_182 0 183 (dk_at dksX3_tick_5 18 rfl rfl)
theorem dX3_tick_138 : decode cX3_tick 138 = .ok (.ifCond .ne 9, 3) := dk_154 0 9 (dk_at dksX3_tick_5 21 rfl rfl)
theorem dX3_tick_141 : decode cX3_tick 141 = .ok (.aload_n 0, 1) := dk_42 (dk_at dksX3_tick_6 0 rfl rfl)
theorem dX3_tick_142 : decode cX3_tick 142 = .ok (.aload_n 1, 1) := dk_43 (dk_at dksX3_tick_6 1 rfl rfl)
theorem dX3_tick_143 : decode cX3_tick 143 = .ok (.iload_n 2, 1) := dk_28 (dk_at dksX3_tick_6 2 rfl rfl)
theorem dX3_tick_144 : decode cX3_tick 144 = .ok (.invokevirtual 202, 3) := dk_182 0 202 (dk_at dksX3_tick_6 3 rfl rfl)
theorem dX3_tick_147 : decode cX3_tick 147 = .ok (.iinc 2 (-1), 3) := dk_132 2 255 (dk_at dksX3_tick_6 6 rfl rfl)
theorem dX3_tick_150 : decode cX3_tick 150 = .ok (.goto (-31), 3) := dk_167 255 225 (dk_at dksX3_tick_6 9 rfl rfl)
theorem dX3_tick_153 : decode cX3_tick 153 = .ok (.return_, 1) := dk_177 (dk_at dksX3_tick_6 12 rfl rfl)
abbrev cX3_at : ByteArray := prog_7_method_21_code
def yX3_at : MethodName := ⟨RX3, "at", "([III)I"⟩
def dkwX3_at_0 : List UInt8 := [42, 16, 18, 27, 104, 28, 96, 46, 172]
abbrev dktX3_at_0 : List UInt8 := dkwX3_at_0 ++ []
theorem dksX3_at_0 : cX3_at.data.toList.drop 0 = dktX3_at_0 := by decide +kernel
theorem dX3_at_0 : decode cX3_at 0 = .ok (.aload_n 0, 1) := dk_42 (dk_at dksX3_at_0 0 rfl rfl)
theorem dX3_at_1 : decode cX3_at 1 = .ok (.bipush 18, 2) := dk_16 18 (dk_at dksX3_at_0 1 rfl rfl)
theorem dX3_at_3 : decode cX3_at 3 = .ok (.iload_n 1, 1) := dk_27 (dk_at dksX3_at_0 3 rfl rfl)
theorem dX3_at_4 : decode cX3_at 4 = .ok (.imul, 1) := dk_104 (dk_at dksX3_at_0 4 rfl rfl)
theorem dX3_at_5 : decode cX3_at 5 = .ok (.iload_n 2, 1) := dk_28 (dk_at dksX3_at_0 5 rfl rfl)
theorem dX3_at_6 : decode cX3_at 6 = .ok (.iadd, 1) := dk_96 (dk_at dksX3_at_0 6 rfl rfl)
theorem dX3_at_7 : decode cX3_at 7 = .ok (.iaload, 1) := dk_46 (dk_at dksX3_at_0 7 rfl rfl)
theorem dX3_at_8 : decode cX3_at 8 = .ok (.ireturn, 1) := dk_172 (dk_at dksX3_at_0 8 rfl rfl)
abbrev cX3_codes : ByteArray := prog_7_method_24_code
def yX3_codes : MethodName := ⟨RX3, "codes", "([III)V"⟩
def dkwX3_codes_1 : List UInt8 := [184, 0, 161, 96, 28, 79, 42, 16, 18, 27, 104, 16, 9, 96, 92, 46, 4, 96, 79, 177]
abbrev dktX3_codes_1 : List UInt8 := dkwX3_codes_1 ++ []
def dkwX3_codes_0 : List UInt8 := [42, 27, 16, 9, 184, 0, 161, 16, 8, 162, 0, 34, 42, 16, 18, 27, 104, 16, 10, 96, 42, 27, 16, 9]
abbrev dktX3_codes_0 : List UInt8 := dkwX3_codes_0 ++ dktX3_codes_1
theorem dksX3_codes_0 : cX3_codes.data.toList.drop 0 = dktX3_codes_0 := by decide +kernel
theorem dksX3_codes_1 : cX3_codes.data.toList.drop 24 = dktX3_codes_1 := dk_seg dksX3_codes_0 24 rfl rfl
theorem dX3_codes_0 : decode cX3_codes 0 = .ok (.aload_n 0, 1) := dk_42 (dk_at dksX3_codes_0 0 rfl rfl)
theorem dX3_codes_1 : decode cX3_codes 1 = .ok (.iload_n 1, 1) := dk_27 (dk_at dksX3_codes_0 1 rfl rfl)
theorem dX3_codes_2 : decode cX3_codes 2 = .ok (.bipush 9, 2) := dk_16 9 (dk_at dksX3_codes_0 2 rfl rfl)
theorem dX3_codes_4 : decode cX3_codes 4 = .ok (.invokestatic 161, 3) := dk_184 0 161 (dk_at dksX3_codes_0 4 rfl rfl)
theorem dX3_codes_7 : decode cX3_codes 7 = .ok (.bipush 8, 2) := dk_16 8 (dk_at dksX3_codes_0 7 rfl rfl)
theorem dX3_codes_9 : decode cX3_codes 9 = .ok (.if_icmp .ge 34, 3) := dk_162 0 34 (dk_at dksX3_codes_0 9 rfl rfl)
theorem dX3_codes_12 : decode cX3_codes 12 = .ok (.aload_n 0, 1) := dk_42 (dk_at dksX3_codes_0 12 rfl rfl)
theorem dX3_codes_13 : decode cX3_codes 13 = .ok (.bipush 18, 2) := dk_16 18 (dk_at dksX3_codes_0 13 rfl rfl)
theorem dX3_codes_15 : decode cX3_codes 15 = .ok (.iload_n 1, 1) := dk_27 (dk_at dksX3_codes_0 15 rfl rfl)
theorem dX3_codes_16 : decode cX3_codes 16 = .ok (.imul, 1) := dk_104 (dk_at dksX3_codes_0 16 rfl rfl)
theorem dX3_codes_17 : decode cX3_codes 17 = .ok (.bipush 10, 2) := dk_16 10 (dk_at dksX3_codes_0 17 rfl rfl)
theorem dX3_codes_19 : decode cX3_codes 19 = .ok (.iadd, 1) := dk_96 (dk_at dksX3_codes_0 19 rfl rfl)
theorem dX3_codes_20 : decode cX3_codes 20 = .ok (.aload_n 0, 1) := dk_42 (dk_at dksX3_codes_0 20 rfl rfl)
theorem dX3_codes_21 : decode cX3_codes 21 = .ok (.iload_n 1, 1) := dk_27 (dk_at dksX3_codes_0 21 rfl rfl)
theorem dX3_codes_22 : decode cX3_codes 22 = .ok (.bipush 9, 2) := dk_16 9 (dk_at dksX3_codes_0 22 rfl rfl)
theorem dX3_codes_24 : decode cX3_codes 24 = .ok (.invokestatic 161, 3) := dk_184 0 161 (dk_at dksX3_codes_1 0 rfl rfl)
theorem dX3_codes_27 : decode cX3_codes 27 = .ok (.iadd, 1) := dk_96 (dk_at dksX3_codes_1 3 rfl rfl)
theorem dX3_codes_28 : decode cX3_codes 28 = .ok (.iload_n 2, 1) := dk_28 (dk_at dksX3_codes_1 4 rfl rfl)
theorem dX3_codes_29 : decode cX3_codes 29 = .ok (.iastore, 1) := dk_79 (dk_at dksX3_codes_1 5 rfl rfl)
theorem dX3_codes_30 : decode cX3_codes 30 = .ok (.aload_n 0, 1) := dk_42 (dk_at dksX3_codes_1 6 rfl rfl)
theorem dX3_codes_31 : decode cX3_codes 31 = .ok (.bipush 18, 2) := dk_16 18 (dk_at dksX3_codes_1 7 rfl rfl)
theorem dX3_codes_33 : decode cX3_codes 33 = .ok (.iload_n 1, 1) := dk_27 (dk_at dksX3_codes_1 9 rfl rfl)
theorem dX3_codes_34 : decode cX3_codes 34 = .ok (.imul, 1) := dk_104 (dk_at dksX3_codes_1 10 rfl rfl)
theorem dX3_codes_35 : decode cX3_codes 35 = .ok (.bipush 9, 2) := dk_16 9 (dk_at dksX3_codes_1 11 rfl rfl)
theorem dX3_codes_37 : decode cX3_codes 37 = .ok (.iadd, 1) := dk_96 (dk_at dksX3_codes_1 13 rfl rfl)
theorem dX3_codes_38 : decode cX3_codes 38 = .ok (.dup2, 1) := dk_92 (dk_at dksX3_codes_1 14 rfl rfl)
theorem dX3_codes_39 : decode cX3_codes 39 = .ok (.iaload, 1) := dk_46 (dk_at dksX3_codes_1 15 rfl rfl)
theorem dX3_codes_40 : decode cX3_codes 40 = .ok (.iconst 1, 1) := dk_4 (dk_at dksX3_codes_1 16 rfl rfl)
theorem dX3_codes_41 : decode cX3_codes 41 = .ok (.iadd, 1) := dk_96 (dk_at dksX3_codes_1 17 rfl rfl)
theorem dX3_codes_42 : decode cX3_codes 42 = .ok (.iastore, 1) := dk_79 (dk_at dksX3_codes_1 18 rfl rfl)
theorem dX3_codes_43 : decode cX3_codes 43 = .ok (.return_, 1) := dk_177 (dk_at dksX3_codes_1 19 rfl rfl)
abbrev cX3_closes : ByteArray := prog_7_method_26_code
def yX3_closes : MethodName := ⟨RX3, "closes", "([III)V"⟩
def dkwX3_closes_2 : List UInt8 := [29, 154, 0, 8, 21, 4, 153, 0, 9, 42, 43, 28, 182, 0, 169, 43, 28, 4, 184, 0, 173, 177]
abbrev dktX3_closes_2 : List UInt8 := dkwX3_closes_2 ++ []
def dkwX3_closes_1 : List UInt8 := [5, 79, 43, 16, 18, 28, 104, 4, 96, 29, 154, 0, 12, 21, 4, 153, 0, 7, 4, 167, 0, 4, 29, 79]
abbrev dktX3_closes_1 : List UInt8 := dkwX3_closes_1 ++ dktX3_closes_2
def dkwX3_closes_0 : List UInt8 := [43, 28, 16, 9, 184, 0, 161, 158, 0, 7, 4, 167, 0, 4, 3, 54, 4, 43, 16, 18, 28, 104, 3, 96]
abbrev dktX3_closes_0 : List UInt8 := dkwX3_closes_0 ++ dktX3_closes_1
theorem dksX3_closes_0 : cX3_closes.data.toList.drop 0 = dktX3_closes_0 := by decide +kernel
theorem dksX3_closes_1 : cX3_closes.data.toList.drop 24 = dktX3_closes_1 := dk_seg dksX3_closes_0 24 rfl rfl
theorem dksX3_closes_2 : cX3_closes.data.toList.drop 48 = dktX3_closes_2 := dk_seg dksX3_closes_1 24 rfl rfl
theorem dX3_closes_0 : decode cX3_closes 0 = .ok (.aload_n 1, 1) := dk_43 (dk_at dksX3_closes_0 0 rfl rfl)
theorem dX3_closes_1 : decode cX3_closes 1 = .ok (.iload_n 2, 1) := dk_28 (dk_at dksX3_closes_0 1 rfl rfl)
theorem dX3_closes_2 : decode cX3_closes 2 = .ok (.bipush 9, 2) := dk_16 9 (dk_at dksX3_closes_0 2 rfl rfl)
theorem dX3_closes_4 : decode cX3_closes 4 = .ok (.invokestatic 161, 3) := dk_184 0 161 (dk_at dksX3_closes_0 4 rfl rfl)
theorem dX3_closes_7 : decode cX3_closes 7 = .ok (.ifCond .le 7, 3) := dk_158 0 7 (dk_at dksX3_closes_0 7 rfl rfl)
theorem dX3_closes_10 : decode cX3_closes 10 = .ok (.iconst 1, 1) := dk_4 (dk_at dksX3_closes_0 10 rfl rfl)
theorem dX3_closes_11 : decode cX3_closes 11 = .ok (.goto 4, 3) := dk_167 0 4 (dk_at dksX3_closes_0 11 rfl rfl)
theorem dX3_closes_14 : decode cX3_closes 14 = .ok (.iconst 0, 1) := dk_3 (dk_at dksX3_closes_0 14 rfl rfl)
theorem dX3_closes_15 : decode cX3_closes 15 = .ok (.istore 4, 2) := dk_54 4 (dk_at dksX3_closes_0 15 rfl rfl)
theorem dX3_closes_17 : decode cX3_closes 17 = .ok (.aload_n 1, 1) := dk_43 (dk_at dksX3_closes_0 17 rfl rfl)
theorem dX3_closes_18 : decode cX3_closes 18 = .ok (.bipush 18, 2) := dk_16 18 (dk_at dksX3_closes_0 18 rfl rfl)
theorem dX3_closes_20 : decode cX3_closes 20 = .ok (.iload_n 2, 1) := dk_28 (dk_at dksX3_closes_0 20 rfl rfl)
theorem dX3_closes_21 : decode cX3_closes 21 = .ok (.imul, 1) := dk_104 (dk_at dksX3_closes_0 21 rfl rfl)
theorem dX3_closes_22 : decode cX3_closes 22 = .ok (.iconst 0, 1) := dk_3 (dk_at dksX3_closes_0 22 rfl rfl)
theorem dX3_closes_23 : decode cX3_closes 23 = .ok (.iadd, 1) := dk_96 (dk_at dksX3_closes_0 23 rfl rfl)
theorem dX3_closes_24 : decode cX3_closes 24 = .ok (.iconst 2, 1) := dk_5 (dk_at dksX3_closes_1 0 rfl rfl)
theorem dX3_closes_25 : decode cX3_closes 25 = .ok (.iastore, 1) := dk_79 (dk_at dksX3_closes_1 1 rfl rfl)
theorem dX3_closes_26 : decode cX3_closes 26 = .ok (.aload_n 1, 1) := dk_43 (dk_at dksX3_closes_1 2 rfl rfl)
theorem dX3_closes_27 : decode cX3_closes 27 = .ok (.bipush 18, 2) := dk_16 18 (dk_at dksX3_closes_1 3 rfl rfl)
theorem dX3_closes_29 : decode cX3_closes 29 = .ok (.iload_n 2, 1) := dk_28 (dk_at dksX3_closes_1 5 rfl rfl)
theorem dX3_closes_30 : decode cX3_closes 30 = .ok (.imul, 1) := dk_104 (dk_at dksX3_closes_1 6 rfl rfl)
theorem dX3_closes_31 : decode cX3_closes 31 = .ok (.iconst 1, 1) := dk_4 (dk_at dksX3_closes_1 7 rfl rfl)
theorem dX3_closes_32 : decode cX3_closes 32 = .ok (.iadd, 1) := dk_96 (dk_at dksX3_closes_1 8 rfl rfl)
theorem dX3_closes_33 : decode cX3_closes 33 = .ok (.iload_n 3, 1) := dk_29 (dk_at dksX3_closes_1 9 rfl rfl)
theorem dX3_closes_34 : decode cX3_closes 34 = .ok (.ifCond .ne 12, 3) := dk_154 0 12 (dk_at dksX3_closes_1 10 rfl rfl)
theorem dX3_closes_37 : decode cX3_closes 37 = .ok (.iload 4, 2) := dk_21 4 (dk_at dksX3_closes_1 13 rfl rfl)
theorem dX3_closes_39 : decode cX3_closes 39 = .ok (.ifCond .eq 7, 3) := dk_153 0 7 (dk_at dksX3_closes_1 15 rfl rfl)
theorem dX3_closes_42 : decode cX3_closes 42 = .ok (.iconst 1, 1) := dk_4 (dk_at dksX3_closes_1 18 rfl rfl)
theorem dX3_closes_43 : decode cX3_closes 43 = .ok (.goto 4, 3) := dk_167 0 4 (dk_at dksX3_closes_1 19 rfl rfl)
theorem dX3_closes_46 : decode cX3_closes 46 = .ok (.iload_n 3, 1) := dk_29 (dk_at dksX3_closes_1 22 rfl rfl)
theorem dX3_closes_47 : decode cX3_closes 47 = .ok (.iastore, 1) := dk_79 (dk_at dksX3_closes_1 23 rfl rfl)
theorem dX3_closes_48 : decode cX3_closes 48 = .ok (.iload_n 3, 1) := dk_29 (dk_at dksX3_closes_2 0 rfl rfl)
theorem dX3_closes_49 : decode cX3_closes 49 = .ok (.ifCond .ne 8, 3) := dk_154 0 8 (dk_at dksX3_closes_2 1 rfl rfl)
theorem dX3_closes_52 : decode cX3_closes 52 = .ok (.iload 4, 2) := dk_21 4 (dk_at dksX3_closes_2 4 rfl rfl)
theorem dX3_closes_54 : decode cX3_closes 54 = .ok (.ifCond .eq 9, 3) := dk_153 0 9 (dk_at dksX3_closes_2 6 rfl rfl)
theorem dX3_closes_57 : decode cX3_closes 57 = .ok (.aload_n 0, 1) := dk_42 (dk_at dksX3_closes_2 9 rfl rfl)
theorem dX3_closes_58 : decode cX3_closes 58 = .ok (.aload_n 1, 1) := dk_43 (dk_at dksX3_closes_2 10 rfl rfl)
theorem dX3_closes_59 : decode cX3_closes 59 = .ok (.iload_n 2, 1) := dk_28 (dk_at dksX3_closes_2 11 rfl rfl)
theorem dX3_closes_60 : decode cX3_closes 60 = .ok (.invokevirtual 169, 3) := dk_182 0 169 (dk_at dksX3_closes_2 12 rfl rfl)
theorem dX3_closes_63 : decode cX3_closes 63 = .ok (.aload_n 1, 1) := dk_43 (dk_at dksX3_closes_2 15 rfl rfl)
theorem dX3_closes_64 : decode cX3_closes 64 = .ok (.iload_n 2, 1) := dk_28 (dk_at dksX3_closes_2 16 rfl rfl)
theorem dX3_closes_65 : decode cX3_closes 65 = .ok (.iconst 1, 1) := dk_4 (dk_at dksX3_closes_2 17 rfl rfl)
theorem dX3_closes_66 : decode cX3_closes 66 = .ok (.invokestatic 173, 3) := dk_184 0 173 (dk_at dksX3_closes_2 18 rfl rfl)
theorem dX3_closes_69 : decode cX3_closes 69 = .ok (.return_, 1) := dk_177 (dk_at dksX3_closes_2 21 rfl rfl)
abbrev cX3_asksChildren : ByteArray := prog_7_method_25_code
def yX3_asksChildren : MethodName := ⟨RX3, "asksChildren", "([II)V"⟩
def dkwX3_asksChildren_1 : List UInt8 := [184, 0, 165, 153, 0, 12, 43, 16, 18, 29, 104, 8, 96, 4, 79, 132, 3, 1, 167, 255, 217, 177]
abbrev dktX3_asksChildren_1 : List UInt8 := dkwX3_asksChildren_1 ++ []
def dkwX3_asksChildren_0 : List UInt8 := [4, 62, 29, 42, 180, 0, 142, 162, 0, 37, 42, 180, 0, 31, 29, 46, 28, 160, 0, 21, 43, 29, 4]
abbrev dktX3_asksChildren_0 : List UInt8 := dkwX3_asksChildren_0 ++ dktX3_asksChildren_1
theorem dksX3_asksChildren_0 : cX3_asksChildren.data.toList.drop 0 = dktX3_asksChildren_0 := by decide +kernel
theorem dksX3_asksChildren_1 : cX3_asksChildren.data.toList.drop 23 = dktX3_asksChildren_1 := dk_seg dksX3_asksChildren_0 23 rfl rfl
theorem dX3_asksChildren_0 : decode cX3_asksChildren 0 = .ok (.iconst 1, 1) := dk_4 (dk_at dksX3_asksChildren_0 0 rfl rfl)
theorem dX3_asksChildren_1 : decode cX3_asksChildren 1 = .ok (.istore_n 3, 1) := dk_62 (dk_at dksX3_asksChildren_0 1 rfl rfl)
theorem dX3_asksChildren_2 : decode cX3_asksChildren 2 = .ok (.iload_n 3, 1) := dk_29 (dk_at dksX3_asksChildren_0 2 rfl rfl)
theorem dX3_asksChildren_3 : decode cX3_asksChildren 3 = .ok (.aload_n 0, 1) := dk_42 (dk_at dksX3_asksChildren_0 3 rfl rfl)
theorem dX3_asksChildren_4 : decode cX3_asksChildren 4 = .ok (.getfield 142, 3) := dk_180 0 142 (dk_at dksX3_asksChildren_0 4 rfl rfl)
theorem dX3_asksChildren_7 : decode cX3_asksChildren 7 = .ok (.if_icmp .ge 37, 3) := dk_162 0 37 (dk_at dksX3_asksChildren_0 7 rfl rfl)
theorem dX3_asksChildren_10 : decode cX3_asksChildren 10 = .ok (.aload_n 0, 1) := dk_42 (dk_at dksX3_asksChildren_0 10 rfl rfl)
theorem dX3_asksChildren_11 : decode cX3_asksChildren 11 = .ok (.getfield 31, 3) := dk_180 0 31 (dk_at dksX3_asksChildren_0 11 rfl rfl)
theorem dX3_asksChildren_14 : decode cX3_asksChildren 14 = .ok (.iload_n 3, 1) := dk_29 (dk_at dksX3_asksChildren_0 14 rfl rfl)
theorem dX3_asksChildren_15 : decode cX3_asksChildren 15 = .ok (.iaload, 1) := dk_46 (dk_at dksX3_asksChildren_0 15 rfl rfl)
theorem dX3_asksChildren_16 : decode cX3_asksChildren 16 = .ok (.iload_n 2, 1) := dk_28 (dk_at dksX3_asksChildren_0 16 rfl rfl)
theorem dX3_asksChildren_17 : decode cX3_asksChildren 17 = .ok (.if_icmp .ne 21, 3) := dk_160 0 21 (dk_at dksX3_asksChildren_0 17 rfl rfl)
theorem dX3_asksChildren_20 : decode cX3_asksChildren 20 = .ok (.aload_n 1, 1) := dk_43 (dk_at dksX3_asksChildren_0 20 rfl rfl)
theorem dX3_asksChildren_21 : decode cX3_asksChildren 21 = .ok (.iload_n 3, 1) := dk_29 (dk_at dksX3_asksChildren_0 21 rfl rfl)
theorem dX3_asksChildren_22 : decode cX3_asksChildren 22 = .ok (.iconst 1, 1) := dk_4 (dk_at dksX3_asksChildren_0 22 rfl rfl)
theorem dX3_asksChildren_23 : decode cX3_asksChildren 23 = .ok (.invokestatic 165, 3) := dk_184 0 165 (dk_at dksX3_asksChildren_1 0 rfl rfl)
theorem dX3_asksChildren_26 : decode cX3_asksChildren 26 = .ok (.ifCond .eq 12, 3) := dk_153 0 12 (dk_at dksX3_asksChildren_1 3 rfl rfl)
theorem dX3_asksChildren_29 : decode cX3_asksChildren 29 = .ok (.aload_n 1, 1) := dk_43 (dk_at dksX3_asksChildren_1 6 rfl rfl)
theorem dX3_asksChildren_30 : decode cX3_asksChildren 30 = .ok (.bipush 18, 2) := dk_16 18 (dk_at dksX3_asksChildren_1 7 rfl rfl)
theorem dX3_asksChildren_32 : decode cX3_asksChildren 32 = .ok (.iload_n 3, 1) := dk_29 (dk_at dksX3_asksChildren_1 9 rfl rfl)
theorem dX3_asksChildren_33 : decode cX3_asksChildren 33 = .ok (.imul, 1) := dk_104 (dk_at dksX3_asksChildren_1 10 rfl rfl)
theorem dX3_asksChildren_34 : decode cX3_asksChildren 34 = .ok (.iconst 5, 1) := dk_8 (dk_at dksX3_asksChildren_1 11 rfl rfl)
theorem dX3_asksChildren_35 : decode cX3_asksChildren 35 = .ok (.iadd, 1) := dk_96 (dk_at dksX3_asksChildren_1 12 rfl rfl)
theorem dX3_asksChildren_36 : decode cX3_asksChildren 36 = .ok (.iconst 1, 1) := dk_4 (dk_at dksX3_asksChildren_1 13 rfl rfl)
theorem dX3_asksChildren_37 : decode cX3_asksChildren 37 = .ok (.iastore, 1) := dk_79 (dk_at dksX3_asksChildren_1 14 rfl rfl)
theorem dX3_asksChildren_38 : decode cX3_asksChildren 38 = .ok (.iinc 3 1, 3) := dk_132 3 1 (dk_at dksX3_asksChildren_1 15 rfl rfl)
theorem dX3_asksChildren_41 : decode cX3_asksChildren 41 = .ok (.goto (-39), 3) := dk_167 255 217 (dk_at dksX3_asksChildren_1 18 rfl rfl)
theorem dX3_asksChildren_44 : decode cX3_asksChildren 44 = .ok (.return_, 1) := dk_177 (dk_at dksX3_asksChildren_1 21 rfl rfl)
abbrev cX3_traces : ByteArray := prog_7_method_23_code
def yX3_traces : MethodName := ⟨RX3, "traces", "([III)V"⟩
def dkwX3_traces_2 : List UInt8 := [4, 96, 79, 177]
abbrev dktX3_traces_2 : List UInt8 := dkwX3_traces_2 ++ []
def dkwX3_traces_1 : List UInt8 := [42, 17, 0, 144, 46, 79, 42, 29, 4, 96, 27, 79, 42, 29, 5, 96, 28, 79, 42, 17, 0, 145, 92, 46]
abbrev dktX3_traces_1 : List UInt8 := dkwX3_traces_1 ++ dktX3_traces_2
def dkwX3_traces_0 : List UInt8 := [42, 17, 0, 145, 46, 16, 60, 162, 0, 44, 17, 0, 146, 6, 42, 17, 0, 145, 46, 104, 96, 62, 42, 29]
abbrev dktX3_traces_0 : List UInt8 := dkwX3_traces_0 ++ dktX3_traces_1
theorem dksX3_traces_0 : cX3_traces.data.toList.drop 0 = dktX3_traces_0 := by decide +kernel
theorem dksX3_traces_1 : cX3_traces.data.toList.drop 24 = dktX3_traces_1 := dk_seg dksX3_traces_0 24 rfl rfl
theorem dksX3_traces_2 : cX3_traces.data.toList.drop 48 = dktX3_traces_2 := dk_seg dksX3_traces_1 24 rfl rfl
theorem dX3_traces_0 : decode cX3_traces 0 = .ok (.aload_n 0, 1) := dk_42 (dk_at dksX3_traces_0 0 rfl rfl)
theorem dX3_traces_1 : decode cX3_traces 1 = .ok (.sipush 145, 3) := dk_17 0 145 (dk_at dksX3_traces_0 1 rfl rfl)
theorem dX3_traces_4 : decode cX3_traces 4 = .ok (.iaload, 1) := dk_46 (dk_at dksX3_traces_0 4 rfl rfl)
theorem dX3_traces_5 : decode cX3_traces 5 = .ok (.bipush 60, 2) := dk_16 60 (dk_at dksX3_traces_0 5 rfl rfl)
theorem dX3_traces_7 : decode cX3_traces 7 = .ok (.if_icmp .ge 44, 3) := dk_162 0 44 (dk_at dksX3_traces_0 7 rfl rfl)
theorem dX3_traces_10 : decode cX3_traces 10 = .ok (.sipush 146, 3) := dk_17 0 146 (dk_at dksX3_traces_0 10 rfl rfl)
theorem dX3_traces_13 : decode cX3_traces 13 = .ok (.iconst 3, 1) := dk_6 (dk_at dksX3_traces_0 13 rfl rfl)
theorem dX3_traces_14 : decode cX3_traces 14 = .ok (.aload_n 0, 1) := dk_42 (dk_at dksX3_traces_0 14 rfl rfl)
theorem dX3_traces_15 : decode cX3_traces 15 = .ok (.sipush 145, 3) := dk_17 0 145 (dk_at dksX3_traces_0 15 rfl rfl)
theorem dX3_traces_18 : decode cX3_traces 18 = .ok (.iaload, 1) := dk_46 (dk_at dksX3_traces_0 18 rfl rfl)
theorem dX3_traces_19 : decode cX3_traces 19 = .ok (.imul, 1) := dk_104 (dk_at dksX3_traces_0 19 rfl rfl)
theorem dX3_traces_20 : decode cX3_traces 20 = .ok (.iadd, 1) := dk_96 (dk_at dksX3_traces_0 20 rfl rfl)
theorem dX3_traces_21 : decode cX3_traces 21 = .ok (.istore_n 3, 1) := dk_62 (dk_at dksX3_traces_0 21 rfl rfl)
theorem dX3_traces_22 : decode cX3_traces 22 = .ok (.aload_n 0, 1) := dk_42 (dk_at dksX3_traces_0 22 rfl rfl)
theorem dX3_traces_23 : decode cX3_traces 23 = .ok (.iload_n 3, 1) := dk_29 (dk_at dksX3_traces_0 23 rfl rfl)
theorem dX3_traces_24 : decode cX3_traces 24 = .ok (.aload_n 0, 1) := dk_42 (dk_at dksX3_traces_1 0 rfl rfl)
theorem dX3_traces_25 : decode cX3_traces 25 = .ok (.sipush 144, 3) := dk_17 0 144 (dk_at dksX3_traces_1 1 rfl rfl)
theorem dX3_traces_28 : decode cX3_traces 28 = .ok (.iaload, 1) := dk_46 (dk_at dksX3_traces_1 4 rfl rfl)
theorem dX3_traces_29 : decode cX3_traces 29 = .ok (.iastore, 1) := dk_79 (dk_at dksX3_traces_1 5 rfl rfl)
theorem dX3_traces_30 : decode cX3_traces 30 = .ok (.aload_n 0, 1) := dk_42 (dk_at dksX3_traces_1 6 rfl rfl)
theorem dX3_traces_31 : decode cX3_traces 31 = .ok (.iload_n 3, 1) := dk_29 (dk_at dksX3_traces_1 7 rfl rfl)
theorem dX3_traces_32 : decode cX3_traces 32 = .ok (.iconst 1, 1) := dk_4 (dk_at dksX3_traces_1 8 rfl rfl)
theorem dX3_traces_33 : decode cX3_traces 33 = .ok (.iadd, 1) := dk_96 (dk_at dksX3_traces_1 9 rfl rfl)
theorem dX3_traces_34 : decode cX3_traces 34 = .ok (.iload_n 1, 1) := dk_27 (dk_at dksX3_traces_1 10 rfl rfl)
theorem dX3_traces_35 : decode cX3_traces 35 = .ok (.iastore, 1) := dk_79 (dk_at dksX3_traces_1 11 rfl rfl)
theorem dX3_traces_36 : decode cX3_traces 36 = .ok (.aload_n 0, 1) := dk_42 (dk_at dksX3_traces_1 12 rfl rfl)
theorem dX3_traces_37 : decode cX3_traces 37 = .ok (.iload_n 3, 1) := dk_29 (dk_at dksX3_traces_1 13 rfl rfl)
theorem dX3_traces_38 : decode cX3_traces 38 = .ok (.iconst 2, 1) := dk_5 (dk_at dksX3_traces_1 14 rfl rfl)
theorem dX3_traces_39 : decode cX3_traces 39 = .ok (.iadd, 1) := dk_96 (dk_at dksX3_traces_1 15 rfl rfl)
theorem dX3_traces_40 : decode cX3_traces 40 = .ok (.iload_n 2, 1) := dk_28 (dk_at dksX3_traces_1 16 rfl rfl)
theorem dX3_traces_41 : decode cX3_traces 41 = .ok (.iastore, 1) := dk_79 (dk_at dksX3_traces_1 17 rfl rfl)
theorem dX3_traces_42 : decode cX3_traces 42 = .ok (.aload_n 0, 1) := dk_42 (dk_at dksX3_traces_1 18 rfl rfl)
theorem dX3_traces_43 : decode cX3_traces 43 = .ok (.sipush 145, 3) := dk_17 0 145 (dk_at dksX3_traces_1 19 rfl rfl)
theorem dX3_traces_46 : decode cX3_traces 46 = .ok (.dup2, 1) := dk_92 (dk_at dksX3_traces_1 22 rfl rfl)
theorem dX3_traces_47 : decode cX3_traces 47 = .ok (.iaload, 1) := dk_46 (dk_at dksX3_traces_1 23 rfl rfl)
theorem dX3_traces_48 : decode cX3_traces 48 = .ok (.iconst 1, 1) := dk_4 (dk_at dksX3_traces_2 0 rfl rfl)
theorem dX3_traces_49 : decode cX3_traces 49 = .ok (.iadd, 1) := dk_96 (dk_at dksX3_traces_2 1 rfl rfl)
theorem dX3_traces_50 : decode cX3_traces 50 = .ok (.iastore, 1) := dk_79 (dk_at dksX3_traces_2 2 rfl rfl)
theorem dX3_traces_51 : decode cX3_traces 51 = .ok (.return_, 1) := dk_177 (dk_at dksX3_traces_2 3 rfl rfl)
abbrev cX3_moves : ByteArray := prog_7_method_31_code
def yX3_moves : MethodName := ⟨RX3, "moves", "([II)V"⟩
def dkwX3_moves_2 : List UInt8 := [46, 160, 0, 13, 42, 43, 28, 3, 182, 0, 190, 167, 0, 9, 42, 43, 28, 182, 0, 193, 177]
abbrev dktX3_moves_2 : List UInt8 := dkwX3_moves_2 ++ []
def dkwX3_moves_1 : List UInt8 := [161, 0, 13, 42, 43, 28, 5, 182, 0, 190, 167, 0, 34, 43, 28, 5, 184, 0, 161, 42, 180, 0, 34, 28]
abbrev dktX3_moves_1 : List UInt8 := dkwX3_moves_1 ++ dktX3_moves_2
def dkwX3_moves_0 : List UInt8 := [43, 28, 8, 184, 0, 161, 4, 160, 0, 28, 43, 28, 5, 184, 0, 161, 42, 180, 0, 43, 28, 46]
abbrev dktX3_moves_0 : List UInt8 := dkwX3_moves_0 ++ dktX3_moves_1
theorem dksX3_moves_0 : cX3_moves.data.toList.drop 0 = dktX3_moves_0 := by decide +kernel
theorem dksX3_moves_1 : cX3_moves.data.toList.drop 22 = dktX3_moves_1 := dk_seg dksX3_moves_0 22 rfl rfl
theorem dksX3_moves_2 : cX3_moves.data.toList.drop 46 = dktX3_moves_2 := dk_seg dksX3_moves_1 24 rfl rfl
theorem dX3_moves_0 : decode cX3_moves 0 = .ok (.aload_n 1, 1) := dk_43 (dk_at dksX3_moves_0 0 rfl rfl)
theorem dX3_moves_1 : decode cX3_moves 1 = .ok (.iload_n 2, 1) := dk_28 (dk_at dksX3_moves_0 1 rfl rfl)
theorem dX3_moves_2 : decode cX3_moves 2 = .ok (.iconst 5, 1) := dk_8 (dk_at dksX3_moves_0 2 rfl rfl)
theorem dX3_moves_3 : decode cX3_moves 3 = .ok (.invokestatic 161, 3) := dk_184 0 161 (dk_at dksX3_moves_0 3 rfl rfl)
theorem dX3_moves_6 : decode cX3_moves 6 = .ok (.iconst 1, 1) := dk_4 (dk_at dksX3_moves_0 6 rfl rfl)
theorem dX3_moves_7 : decode cX3_moves 7 = .ok (.if_icmp .ne 28, 3) := dk_160 0 28 (dk_at dksX3_moves_0 7 rfl rfl)
theorem dX3_moves_10 : decode cX3_moves 10 = .ok (.aload_n 1, 1) := dk_43 (dk_at dksX3_moves_0 10 rfl rfl)
theorem dX3_moves_11 : decode cX3_moves 11 = .ok (.iload_n 2, 1) := dk_28 (dk_at dksX3_moves_0 11 rfl rfl)
theorem dX3_moves_12 : decode cX3_moves 12 = .ok (.iconst 2, 1) := dk_5 (dk_at dksX3_moves_0 12 rfl rfl)
theorem dX3_moves_13 : decode cX3_moves 13 = .ok (.invokestatic 161, 3) := dk_184 0 161 (dk_at dksX3_moves_0 13 rfl rfl)
theorem dX3_moves_16 : decode cX3_moves 16 = .ok (.aload_n 0, 1) := dk_42 (dk_at dksX3_moves_0 16 rfl rfl)
theorem dX3_moves_17 : decode cX3_moves 17 = .ok (.getfield 43, 3) := dk_180 0 43 (dk_at dksX3_moves_0 17 rfl rfl)
theorem dX3_moves_20 : decode cX3_moves 20 = .ok (.iload_n 2, 1) := dk_28 (dk_at dksX3_moves_0 20 rfl rfl)
theorem dX3_moves_21 : decode cX3_moves 21 = .ok (.iaload, 1) := dk_46 (dk_at dksX3_moves_0 21 rfl rfl)
theorem dX3_moves_22 : decode cX3_moves 22 = .ok (.if_icmp .lt 13, 3) := dk_161 0 13 (dk_at dksX3_moves_1 0 rfl rfl)
theorem dX3_moves_25 : decode cX3_moves 25 = .ok (.aload_n 0, 1) := dk_42 (dk_at dksX3_moves_1 3 rfl rfl)
theorem dX3_moves_26 : decode cX3_moves 26 = .ok (.aload_n 1, 1) := dk_43 (dk_at dksX3_moves_1 4 rfl rfl)
theorem dX3_moves_27 : decode cX3_moves 27 = .ok (.iload_n 2, 1) := dk_28 (dk_at dksX3_moves_1 5 rfl rfl)
theorem dX3_moves_28 : decode cX3_moves 28 = .ok (.iconst 2, 1) := dk_5 (dk_at dksX3_moves_1 6 rfl rfl)
theorem dX3_moves_29 : decode cX3_moves 29 = .ok (.invokevirtual 190, 3) := dk_182 0 190 (dk_at dksX3_moves_1 7 rfl rfl)
theorem dX3_moves_32 : decode cX3_moves 32 = .ok (.goto 34, 3) := dk_167 0 34 (dk_at dksX3_moves_1 10 rfl rfl)
theorem dX3_moves_35 : decode cX3_moves 35 = .ok (.aload_n 1, 1) := dk_43 (dk_at dksX3_moves_1 13 rfl rfl)
theorem dX3_moves_36 : decode cX3_moves 36 = .ok (.iload_n 2, 1) := dk_28 (dk_at dksX3_moves_1 14 rfl rfl)
theorem dX3_moves_37 : decode cX3_moves 37 = .ok (.iconst 2, 1) := dk_5 (dk_at dksX3_moves_1 15 rfl rfl)
theorem dX3_moves_38 : decode cX3_moves 38 = .ok (.invokestatic 161, 3) := dk_184 0 161 (dk_at dksX3_moves_1 16 rfl rfl)
theorem dX3_moves_41 : decode cX3_moves 41 = .ok (.aload_n 0, 1) := dk_42 (dk_at dksX3_moves_1 19 rfl rfl)
theorem dX3_moves_42 : decode cX3_moves 42 = .ok (.getfield 34, 3) := dk_180 0 34 (dk_at dksX3_moves_1 20 rfl rfl)
theorem dX3_moves_45 : decode cX3_moves 45 = .ok (.iload_n 2, 1) := dk_28 (dk_at dksX3_moves_1 23 rfl rfl)
theorem dX3_moves_46 : decode cX3_moves 46 = .ok (.iaload, 1) := dk_46 (dk_at dksX3_moves_2 0 rfl rfl)
theorem dX3_moves_47 : decode cX3_moves 47 = .ok (.if_icmp .ne 13, 3) := dk_160 0 13 (dk_at dksX3_moves_2 1 rfl rfl)
theorem dX3_moves_50 : decode cX3_moves 50 = .ok (.aload_n 0, 1) := dk_42 (dk_at dksX3_moves_2 4 rfl rfl)
theorem dX3_moves_51 : decode cX3_moves 51 = .ok (.aload_n 1, 1) := dk_43 (dk_at dksX3_moves_2 5 rfl rfl)
theorem dX3_moves_52 : decode cX3_moves 52 = .ok (.iload_n 2, 1) := dk_28 (dk_at dksX3_moves_2 6 rfl rfl)
theorem dX3_moves_53 : decode cX3_moves 53 = .ok (.iconst 0, 1) := dk_3 (dk_at dksX3_moves_2 7 rfl rfl)
theorem dX3_moves_54 : decode cX3_moves 54 = .ok (.invokevirtual 190, 3) := dk_182 0 190 (dk_at dksX3_moves_2 8 rfl rfl)
theorem dX3_moves_57 : decode cX3_moves 57 = .ok (.goto 9, 3) := dk_167 0 9 (dk_at dksX3_moves_2 11 rfl rfl)
theorem dX3_moves_60 : decode cX3_moves 60 = .ok (.aload_n 0, 1) := dk_42 (dk_at dksX3_moves_2 14 rfl rfl)
theorem dX3_moves_61 : decode cX3_moves 61 = .ok (.aload_n 1, 1) := dk_43 (dk_at dksX3_moves_2 15 rfl rfl)
theorem dX3_moves_62 : decode cX3_moves 62 = .ok (.iload_n 2, 1) := dk_28 (dk_at dksX3_moves_2 16 rfl rfl)
theorem dX3_moves_63 : decode cX3_moves 63 = .ok (.invokevirtual 193, 3) := dk_182 0 193 (dk_at dksX3_moves_2 17 rfl rfl)
theorem dX3_moves_66 : decode cX3_moves 66 = .ok (.return_, 1) := dk_177 (dk_at dksX3_moves_2 20 rfl rfl)
abbrev cX3_works : ByteArray := prog_7_method_30_code
def yX3_works : MethodName := ⟨RX3, "works", "([II)V"⟩
def dkwX3_works_8 : List UInt8 := [42, 43, 28, 4, 182, 0, 190, 177]
abbrev dktX3_works_8 : List UInt8 := dkwX3_works_8 ++ []
def dkwX3_works_7 : List UInt8 := [79, 42, 43, 28, 182, 0, 169, 167, 0, 24, 43, 28, 42, 180, 0, 37, 21, 4, 4, 96, 46, 184, 0, 187]
abbrev dktX3_works_7 : List UInt8 := dkwX3_works_7 ++ dktX3_works_8
def dkwX3_works_6 : List UInt8 := [182, 0, 183, 153, 0, 7, 3, 167, 0, 4, 4, 96, 79, 167, 0, 42, 43, 29, 5, 96, 92, 46, 4, 96]
abbrev dktX3_works_6 : List UInt8 := dkwX3_works_6 ++ dktX3_works_7
def dkwX3_works_5 : List UInt8 := [96, 92, 46, 4, 96, 79, 42, 43, 28, 182, 0, 180, 167, 0, 67, 43, 29, 5, 96, 92, 46, 42, 43, 28]
abbrev dktX3_works_5 : List UInt8 := dkwX3_works_5 ++ dktX3_works_6
def dkwX3_works_4 : List UInt8 := [160, 0, 103, 43, 29, 6, 96, 3, 79, 43, 29, 5, 96, 92, 46, 4, 96, 79, 167, 0, 85, 43, 29, 5]
abbrev dktX3_works_4 : List UInt8 := dkwX3_works_4 ++ dktX3_works_5
def dkwX3_works_3 : List UInt8 := [43, 29, 6, 96, 92, 46, 4, 96, 79, 43, 29, 6, 96, 46, 42, 180, 0, 37, 21, 4, 4, 96, 46]
abbrev dktX3_works_3 : List UInt8 := dkwX3_works_3 ++ dktX3_works_4
def dkwX3_works_2 : List UInt8 := [171, 0, 0, 0, 0, 147, 0, 0, 0, 4, 0, 0, 0, 98, 0, 0, 0, 86, 0, 0, 0, 106, 0, 0, 0, 104, 0, 0, 0, 119, 0, 0, 0, 42, 0, 0, 0, 120, 0, 0, 0, 129]
abbrev dktX3_works_2 : List UInt8 := dkwX3_works_2 ++ dktX3_works_3
def dkwX3_works_1 : List UInt8 := [21, 4, 46]
abbrev dktX3_works_1 : List UInt8 := dkwX3_works_1 ++ dktX3_works_2
def dkwX3_works_0 : List UInt8 := [16, 18, 28, 104, 62, 16, 12, 28, 104, 5, 43, 29, 5, 96, 46, 104, 96, 54, 4, 42, 180, 0, 37]
abbrev dktX3_works_0 : List UInt8 := dkwX3_works_0 ++ dktX3_works_1
theorem dksX3_works_0 : cX3_works.data.toList.drop 0 = dktX3_works_0 := by decide +kernel
theorem dksX3_works_1 : cX3_works.data.toList.drop 23 = dktX3_works_1 := dk_seg dksX3_works_0 23 rfl rfl
theorem dksX3_works_2 : cX3_works.data.toList.drop 26 = dktX3_works_2 := dk_seg dksX3_works_1 3 rfl rfl
theorem dksX3_works_3 : cX3_works.data.toList.drop 68 = dktX3_works_3 := dk_seg dksX3_works_2 42 rfl rfl
theorem dksX3_works_4 : cX3_works.data.toList.drop 91 = dktX3_works_4 := dk_seg dksX3_works_3 23 rfl rfl
theorem dksX3_works_5 : cX3_works.data.toList.drop 115 = dktX3_works_5 := dk_seg dksX3_works_4 24 rfl rfl
theorem dksX3_works_6 : cX3_works.data.toList.drop 139 = dktX3_works_6 := dk_seg dksX3_works_5 24 rfl rfl
theorem dksX3_works_7 : cX3_works.data.toList.drop 163 = dktX3_works_7 := dk_seg dksX3_works_6 24 rfl rfl
theorem dksX3_works_8 : cX3_works.data.toList.drop 187 = dktX3_works_8 := dk_seg dksX3_works_7 24 rfl rfl
theorem dX3_works_0 : decode cX3_works 0 = .ok (.bipush 18, 2) := dk_16 18 (dk_at dksX3_works_0 0 rfl rfl)
theorem dX3_works_2 : decode cX3_works 2 = .ok (.iload_n 2, 1) := dk_28 (dk_at dksX3_works_0 2 rfl rfl)
theorem dX3_works_3 : decode cX3_works 3 = .ok (.imul, 1) := dk_104 (dk_at dksX3_works_0 3 rfl rfl)
theorem dX3_works_4 : decode cX3_works 4 = .ok (.istore_n 3, 1) := dk_62 (dk_at dksX3_works_0 4 rfl rfl)
theorem dX3_works_5 : decode cX3_works 5 = .ok (.bipush 12, 2) := dk_16 12 (dk_at dksX3_works_0 5 rfl rfl)
theorem dX3_works_7 : decode cX3_works 7 = .ok (.iload_n 2, 1) := dk_28 (dk_at dksX3_works_0 7 rfl rfl)
theorem dX3_works_8 : decode cX3_works 8 = .ok (.imul, 1) := dk_104 (dk_at dksX3_works_0 8 rfl rfl)
theorem dX3_works_9 : decode cX3_works 9 = .ok (.iconst 2, 1) := dk_5 (dk_at dksX3_works_0 9 rfl rfl)
theorem dX3_works_10 : decode cX3_works 10 = .ok (.aload_n 1, 1) := dk_43 (dk_at dksX3_works_0 10 rfl rfl)
theorem dX3_works_11 : decode cX3_works 11 = .ok (.iload_n 3, 1) := dk_29 (dk_at dksX3_works_0 11 rfl rfl)
theorem dX3_works_12 : decode cX3_works 12 = .ok (.iconst 2, 1) := dk_5 (dk_at dksX3_works_0 12 rfl rfl)
theorem dX3_works_13 : decode cX3_works 13 = .ok (.iadd, 1) := dk_96 (dk_at dksX3_works_0 13 rfl rfl)
theorem dX3_works_14 : decode cX3_works 14 = .ok (.iaload, 1) := dk_46 (dk_at dksX3_works_0 14 rfl rfl)
theorem dX3_works_15 : decode cX3_works 15 = .ok (.imul, 1) := dk_104 (dk_at dksX3_works_0 15 rfl rfl)
theorem dX3_works_16 : decode cX3_works 16 = .ok (.iadd, 1) := dk_96 (dk_at dksX3_works_0 16 rfl rfl)
theorem dX3_works_17 : decode cX3_works 17 = .ok (.istore 4, 2) := dk_54 4 (dk_at dksX3_works_0 17 rfl rfl)
theorem dX3_works_19 : decode cX3_works 19 = .ok (.aload_n 0, 1) := dk_42 (dk_at dksX3_works_0 19 rfl rfl)
theorem dX3_works_20 : decode cX3_works 20 = .ok (.getfield 37, 3) := dk_180 0 37 (dk_at dksX3_works_0 20 rfl rfl)
theorem dX3_works_23 : decode cX3_works 23 = .ok (.iload 4, 2) := dk_21 4 (dk_at dksX3_works_1 0 rfl rfl)
theorem dX3_works_25 : decode cX3_works 25 = .ok (.iaload, 1) := dk_46 (dk_at dksX3_works_1 2 rfl rfl)
theorem dX3_works_26 : decode cX3_works 26 = .ok (.lookupswitch 147 #[(98, 86), (106, 104), (119, 42), (120, 129)], 42) := by decide +kernel
theorem dX3_works_68 : decode cX3_works 68 = .ok (.aload_n 1, 1) := dk_43 (dk_at dksX3_works_3 0 rfl rfl)
theorem dX3_works_69 : decode cX3_works 69 = .ok (.iload_n 3, 1) := dk_29 (dk_at dksX3_works_3 1 rfl rfl)
theorem dX3_works_70 : decode cX3_works 70 = .ok (.iconst 3, 1) := dk_6 (dk_at dksX3_works_3 2 rfl rfl)
theorem dX3_works_71 : decode cX3_works 71 = .ok (.iadd, 1) := dk_96 (dk_at dksX3_works_3 3 rfl rfl)
theorem dX3_works_72 : decode cX3_works 72 = .ok (.dup2, 1) := dk_92 (dk_at dksX3_works_3 4 rfl rfl)
theorem dX3_works_73 : decode cX3_works 73 = .ok (.iaload, 1) := dk_46 (dk_at dksX3_works_3 5 rfl rfl)
theorem dX3_works_74 : decode cX3_works 74 = .ok (.iconst 1, 1) := dk_4 (dk_at dksX3_works_3 6 rfl rfl)
theorem dX3_works_75 : decode cX3_works 75 = .ok (.iadd, 1) := dk_96 (dk_at dksX3_works_3 7 rfl rfl)
theorem dX3_works_76 : decode cX3_works 76 = .ok (.iastore, 1) := dk_79 (dk_at dksX3_works_3 8 rfl rfl)
theorem dX3_works_77 : decode cX3_works 77 = .ok (.aload_n 1, 1) := dk_43 (dk_at dksX3_works_3 9 rfl rfl)
theorem dX3_works_78 : decode cX3_works 78 = .ok (.iload_n 3, 1) := dk_29 (dk_at dksX3_works_3 10 rfl rfl)
theorem dX3_works_79 : decode cX3_works 79 = .ok (.iconst 3, 1) := dk_6 (dk_at dksX3_works_3 11 rfl rfl)
theorem dX3_works_80 : decode cX3_works 80 = .ok (.iadd, 1) := dk_96 (dk_at dksX3_works_3 12 rfl rfl)
theorem dX3_works_81 : decode cX3_works 81 = .ok (.iaload, 1) := dk_46 (dk_at dksX3_works_3 13 rfl rfl)
theorem dX3_works_82 : decode cX3_works 82 = .ok (.aload_n 0, 1) := dk_42 (dk_at dksX3_works_3 14 rfl rfl)
theorem dX3_works_83 : decode cX3_works 83 = .ok (.getfield 37, 3) := dk_180 0 37 (dk_at dksX3_works_3 15 rfl rfl)
theorem dX3_works_86 : decode cX3_works 86 = .ok (.iload 4, 2) := dk_21 4 (dk_at dksX3_works_3 18 rfl rfl)
theorem dX3_works_88 : decode cX3_works 88 = .ok (.iconst 1, 1) := dk_4 (dk_at dksX3_works_3 20 rfl rfl)
theorem dX3_works_89 : decode cX3_works 89 = .ok (.iadd, 1) := dk_96 (dk_at dksX3_works_3 21 rfl rfl)
theorem dX3_works_90 : decode cX3_works 90 = .ok (.iaload, 1) := dk_46 (dk_at dksX3_works_3 22 rfl rfl)
theorem dX3_works_91 : decode cX3_works 91 = .ok (.if_icmp .ne 103, 3) := dk_160 0 103 (dk_at dksX3_works_4 0 rfl rfl)
theorem dX3_works_94 : decode cX3_works 94 = .ok (.aload_n 1, 1) := dk_43 (dk_at dksX3_works_4 3 rfl rfl)
theorem dX3_works_95 : decode cX3_works 95 = .ok (.iload_n 3, 1) := dk_29 (dk_at dksX3_works_4 4 rfl rfl)
theorem dX3_works_96 : decode cX3_works 96 = .ok (.iconst 3, 1) := dk_6 (dk_at dksX3_works_4 5 rfl rfl)
theorem dX3_works_97 : decode cX3_works 97 = .ok (.iadd, 1) := dk_96 (dk_at dksX3_works_4 6 rfl rfl)
theorem dX3_works_98 : decode cX3_works 98 = .ok (.iconst 0, 1) := dk_3 (dk_at dksX3_works_4 7 rfl rfl)
theorem dX3_works_99 : decode cX3_works 99 = .ok (.iastore, 1) := dk_79 (dk_at dksX3_works_4 8 rfl rfl)
theorem dX3_works_100 : decode cX3_works 100 = .ok (.aload_n 1, 1) := dk_43 (dk_at dksX3_works_4 9 rfl rfl)
theorem dX3_works_101 : decode cX3_works 101 = .ok (.iload_n 3, 1) := dk_29 (dk_at dksX3_works_4 10 rfl rfl)
theorem dX3_works_102 : decode cX3_works 102 = .ok (.iconst 2, 1) := dk_5 (dk_at dksX3_works_4 11 rfl rfl)
theorem dX3_works_103 : decode cX3_works 103 = .ok (.iadd, 1) := dk_96 (dk_at dksX3_works_4 12 rfl rfl)
theorem dX3_works_104 : decode cX3_works 104 = .ok (.dup2, 1) := dk_92 (dk_at dksX3_works_4 13 rfl rfl)
theorem dX3_works_105 : decode cX3_works 105 = .ok (.iaload, 1) := dk_46 (dk_at dksX3_works_4 14 rfl rfl)
theorem dX3_works_106 : decode cX3_works 106 = .ok (.iconst 1, 1) := dk_4 (dk_at dksX3_works_4 15 rfl rfl)
theorem dX3_works_107 : decode cX3_works 107 = .ok (.iadd, 1) := dk_96 (dk_at dksX3_works_4 16 rfl rfl)
theorem dX3_works_108 : decode cX3_works 108 = .ok (.iastore, 1) := dk_79 (dk_at dksX3_works_4 17 rfl rfl)
theorem dX3_works_109 : decode cX3_works 109 = .ok (.goto 85, 3) := dk_167 0 85 (dk_at dksX3_works_4 18 rfl rfl)
theorem dX3_works_112 : decode cX3_works 112 = .ok (.aload_n 1, 1) := dk_43 (dk_at dksX3_works_4 21 rfl rfl)
theorem dX3_works_113 : decode cX3_works 113 = .ok (.iload_n 3, 1) := dk_29 (dk_at dksX3_works_4 22 rfl rfl)
theorem dX3_works_114 : decode cX3_works 114 = .ok (.iconst 2, 1) := dk_5 (dk_at dksX3_works_4 23 rfl rfl)
theorem dX3_works_115 : decode cX3_works 115 = .ok (.iadd, 1) := dk_96 (dk_at dksX3_works_5 0 rfl rfl)
theorem dX3_works_116 : decode cX3_works 116 = .ok (.dup2, 1) := dk_92 (dk_at dksX3_works_5 1 rfl rfl)
theorem dX3_works_117 : decode cX3_works 117 = .ok (.iaload, 1) := dk_46 (dk_at dksX3_works_5 2 rfl rfl)
theorem dX3_works_118 : decode cX3_works 118 = .ok (.iconst 1, 1) := dk_4 (dk_at dksX3_works_5 3 rfl rfl)
theorem dX3_works_119 : decode cX3_works 119 = .ok (.iadd, 1) := dk_96 (dk_at dksX3_works_5 4 rfl rfl)
theorem dX3_works_120 : decode cX3_works 120 = .ok (.iastore, 1) := dk_79 (dk_at dksX3_works_5 5 rfl rfl)
theorem dX3_works_121 : decode cX3_works 121 = .ok (.aload_n 0, 1) := dk_42 (dk_at dksX3_works_5 6 rfl rfl)
theorem dX3_works_122 : decode cX3_works 122 = .ok (.aload_n 1, 1) := dk_43 (dk_at dksX3_works_5 7 rfl rfl)
theorem dX3_works_123 : decode cX3_works 123 = .ok (.iload_n 2, 1) := dk_28 (dk_at dksX3_works_5 8 rfl rfl)
theorem dX3_works_124 : decode cX3_works 124 = .ok (.invokevirtual 180, 3) := dk_182 0 180 (dk_at dksX3_works_5 9 rfl rfl)
theorem dX3_works_127 : decode cX3_works 127 = .ok (.goto 67, 3) := dk_167 0 67 (dk_at dksX3_works_5 12 rfl rfl)
theorem dX3_works_130 : decode cX3_works 130 = .ok (.aload_n 1, 1) := dk_43 (dk_at dksX3_works_5 15 rfl rfl)
theorem dX3_works_131 : decode cX3_works 131 = .ok (.iload_n 3, 1) := dk_29 (dk_at dksX3_works_5 16 rfl rfl)
theorem dX3_works_132 : decode cX3_works 132 = .ok (.iconst 2, 1) := dk_5 (dk_at dksX3_works_5 17 rfl rfl)
theorem dX3_works_133 : decode cX3_works 133 = .ok (.iadd, 1) := dk_96 (dk_at dksX3_works_5 18 rfl rfl)
theorem dX3_works_134 : decode cX3_works 134 = .ok (.dup2, 1) := dk_92 (dk_at dksX3_works_5 19 rfl rfl)
theorem dX3_works_135 : decode cX3_works 135 = .ok (.iaload, 1) := dk_46 (dk_at dksX3_works_5 20 rfl rfl)
theorem dX3_works_136 : decode cX3_works 136 = .ok (.aload_n 0, 1) := dk_42 (dk_at dksX3_works_5 21 rfl rfl)
theorem dX3_works_137 : decode cX3_works 137 = .ok (.aload_n 1, 1) := dk_43 (dk_at dksX3_works_5 22 rfl rfl)
theorem dX3_works_138 : decode cX3_works 138 = .ok (.iload_n 2, 1) := dk_28 (dk_at dksX3_works_5 23 rfl rfl)
theorem dX3_works_139 : decode cX3_works 139 = .ok (.invokevirtual 183, 3) := dk_182 0 183 (dk_at dksX3_works_6 0 rfl rfl)
theorem dX3_works_142 : decode cX3_works 142 = .ok (.ifCond .eq 7, 3) := dk_153 0 7 (dk_at dksX3_works_6 3 rfl rfl)
theorem dX3_works_145 : decode cX3_works 145 = .ok (.iconst 0, 1) := dk_3 (dk_at dksX3_works_6 6 rfl rfl)
theorem dX3_works_146 : decode cX3_works 146 = .ok (.goto 4, 3) := dk_167 0 4 (dk_at dksX3_works_6 7 rfl rfl)
theorem dX3_works_149 : decode cX3_works 149 = .ok (.iconst 1, 1) := dk_4 (dk_at dksX3_works_6 10 rfl rfl)
theorem dX3_works_150 : decode cX3_works 150 = .ok (.iadd, 1) := dk_96 (dk_at dksX3_works_6 11 rfl rfl)
theorem dX3_works_151 : decode cX3_works 151 = .ok (.iastore, 1) := dk_79 (dk_at dksX3_works_6 12 rfl rfl)
theorem dX3_works_152 : decode cX3_works 152 = .ok (.goto 42, 3) := dk_167 0 42 (dk_at dksX3_works_6 13 rfl rfl)
theorem dX3_works_155 : decode cX3_works 155 = .ok (.aload_n 1, 1) := dk_43 (dk_at dksX3_works_6 16 rfl rfl)
theorem dX3_works_156 : decode cX3_works 156 = .ok (.iload_n 3, 1) := dk_29 (dk_at dksX3_works_6 17 rfl rfl)
theorem dX3_works_157 : decode cX3_works 157 = .ok (.iconst 2, 1) := dk_5 (dk_at dksX3_works_6 18 rfl rfl)
theorem dX3_works_158 : decode cX3_works 158 = .ok (.iadd, 1) := dk_96 (dk_at dksX3_works_6 19 rfl rfl)
theorem dX3_works_159 : decode cX3_works 159 = .ok (.dup2, 1) := dk_92 (dk_at dksX3_works_6 20 rfl rfl)
theorem dX3_works_160 : decode cX3_works 160 = .ok (.iaload, 1) := dk_46 (dk_at dksX3_works_6 21 rfl rfl)
theorem dX3_works_161 : decode cX3_works 161 = .ok (.iconst 1, 1) := dk_4 (dk_at dksX3_works_6 22 rfl rfl)
theorem dX3_works_162 : decode cX3_works 162 = .ok (.iadd, 1) := dk_96 (dk_at dksX3_works_6 23 rfl rfl)
theorem dX3_works_163 : decode cX3_works 163 = .ok (.iastore, 1) := dk_79 (dk_at dksX3_works_7 0 rfl rfl)
theorem dX3_works_164 : decode cX3_works 164 = .ok (.aload_n 0, 1) := dk_42 (dk_at dksX3_works_7 1 rfl rfl)
theorem dX3_works_165 : decode cX3_works 165 = .ok (.aload_n 1, 1) := dk_43 (dk_at dksX3_works_7 2 rfl rfl)
theorem dX3_works_166 : decode cX3_works 166 = .ok (.iload_n 2, 1) := dk_28 (dk_at dksX3_works_7 3 rfl rfl)
theorem dX3_works_167 : decode cX3_works 167 = .ok (.invokevirtual 169, 3) := dk_182 0 169 (dk_at dksX3_works_7 4 rfl rfl)
theorem dX3_works_170 : decode cX3_works 170 = .ok (.goto 24, 3) := dk_167 0 24 (dk_at dksX3_works_7 7 rfl rfl)
theorem dX3_works_173 : decode cX3_works 173 = .ok (.aload_n 1, 1) := dk_43 (dk_at dksX3_works_7 10 rfl rfl)
theorem dX3_works_174 : decode cX3_works 174 = .ok (.iload_n 2, 1) := dk_28 (dk_at dksX3_works_7 11 rfl rfl)
theorem dX3_works_175 : decode cX3_works 175 = .ok (.aload_n 0, 1) := dk_42 (dk_at dksX3_works_7 12 rfl rfl)
theorem dX3_works_176 : decode cX3_works 176 = .ok (.getfield 37, 3) := dk_180 0 37 (dk_at dksX3_works_7 13 rfl rfl)
theorem dX3_works_179 : decode cX3_works 179 = .ok (.iload 4, 2) := dk_21 4 (dk_at dksX3_works_7 16 rfl rfl)
theorem dX3_works_181 : decode cX3_works 181 = .ok (.iconst 1, 1) := dk_4 (dk_at dksX3_works_7 18 rfl rfl)
theorem dX3_works_182 : decode cX3_works 182 = .ok (.iadd, 1) := dk_96 (dk_at dksX3_works_7 19 rfl rfl)
theorem dX3_works_183 : decode cX3_works 183 = .ok (.iaload, 1) := dk_46 (dk_at dksX3_works_7 20 rfl rfl)
theorem dX3_works_184 : decode cX3_works 184 = .ok (.invokestatic 187, 3) := dk_184 0 187 (dk_at dksX3_works_7 21 rfl rfl)
theorem dX3_works_187 : decode cX3_works 187 = .ok (.aload_n 0, 1) := dk_42 (dk_at dksX3_works_8 0 rfl rfl)
theorem dX3_works_188 : decode cX3_works 188 = .ok (.aload_n 1, 1) := dk_43 (dk_at dksX3_works_8 1 rfl rfl)
theorem dX3_works_189 : decode cX3_works 189 = .ok (.iload_n 2, 1) := dk_28 (dk_at dksX3_works_8 2 rfl rfl)
theorem dX3_works_190 : decode cX3_works 190 = .ok (.iconst 1, 1) := dk_4 (dk_at dksX3_works_8 3 rfl rfl)
theorem dX3_works_191 : decode cX3_works 191 = .ok (.invokevirtual 190, 3) := dk_182 0 190 (dk_at dksX3_works_8 4 rfl rfl)
theorem dX3_works_194 : decode cX3_works 194 = .ok (.return_, 1) := dk_177 (dk_at dksX3_works_8 7 rfl rfl)
abbrev cX3_beginsChild : ByteArray := prog_7_method_28_code
def yX3_beginsChild : MethodName := ⟨RX3, "beginsChild", "([II)V"⟩
def dkwX3_beginsChild_1 : List UInt8 := [184, 0, 165, 153, 0, 10, 42, 43, 29, 182, 0, 177, 177, 132, 3, 1, 167, 255, 219, 177]
abbrev dktX3_beginsChild_1 : List UInt8 := dkwX3_beginsChild_1 ++ []
def dkwX3_beginsChild_0 : List UInt8 := [4, 62, 29, 42, 180, 0, 142, 162, 0, 35, 42, 180, 0, 31, 29, 46, 28, 160, 0, 19, 43, 29, 3]
abbrev dktX3_beginsChild_0 : List UInt8 := dkwX3_beginsChild_0 ++ dktX3_beginsChild_1
theorem dksX3_beginsChild_0 : cX3_beginsChild.data.toList.drop 0 = dktX3_beginsChild_0 := by decide +kernel
theorem dksX3_beginsChild_1 : cX3_beginsChild.data.toList.drop 23 = dktX3_beginsChild_1 := dk_seg dksX3_beginsChild_0 23 rfl rfl
theorem dX3_beginsChild_0 : decode cX3_beginsChild 0 = .ok (.iconst 1, 1) := dk_4 (dk_at dksX3_beginsChild_0 0 rfl rfl)
theorem dX3_beginsChild_1 : decode cX3_beginsChild 1 = .ok (.istore_n 3, 1) := dk_62 (dk_at dksX3_beginsChild_0 1 rfl rfl)
theorem dX3_beginsChild_2 : decode cX3_beginsChild 2 = .ok (.iload_n 3, 1) := dk_29 (dk_at dksX3_beginsChild_0 2 rfl rfl)
theorem dX3_beginsChild_3 : decode cX3_beginsChild 3 = .ok (.aload_n 0, 1) := dk_42 (dk_at dksX3_beginsChild_0 3 rfl rfl)
theorem dX3_beginsChild_4 : decode cX3_beginsChild 4 = .ok (.getfield 142, 3) := dk_180 0 142 (dk_at dksX3_beginsChild_0 4 rfl rfl)
theorem dX3_beginsChild_7 : decode cX3_beginsChild 7 = .ok (.if_icmp .ge 35, 3) := dk_162 0 35 (dk_at dksX3_beginsChild_0 7 rfl rfl)
theorem dX3_beginsChild_10 : decode cX3_beginsChild 10 = .ok (.aload_n 0, 1) := dk_42 (dk_at dksX3_beginsChild_0 10 rfl rfl)
theorem dX3_beginsChild_11 : decode cX3_beginsChild 11 = .ok (.getfield 31, 3) := dk_180 0 31 (dk_at dksX3_beginsChild_0 11 rfl rfl)
theorem dX3_beginsChild_14 : decode cX3_beginsChild 14 = .ok (.iload_n 3, 1) := dk_29 (dk_at dksX3_beginsChild_0 14 rfl rfl)
theorem dX3_beginsChild_15 : decode cX3_beginsChild 15 = .ok (.iaload, 1) := dk_46 (dk_at dksX3_beginsChild_0 15 rfl rfl)
theorem dX3_beginsChild_16 : decode cX3_beginsChild 16 = .ok (.iload_n 2, 1) := dk_28 (dk_at dksX3_beginsChild_0 16 rfl rfl)
theorem dX3_beginsChild_17 : decode cX3_beginsChild 17 = .ok (.if_icmp .ne 19, 3) := dk_160 0 19 (dk_at dksX3_beginsChild_0 17 rfl rfl)
theorem dX3_beginsChild_20 : decode cX3_beginsChild 20 = .ok (.aload_n 1, 1) := dk_43 (dk_at dksX3_beginsChild_0 20 rfl rfl)
theorem dX3_beginsChild_21 : decode cX3_beginsChild 21 = .ok (.iload_n 3, 1) := dk_29 (dk_at dksX3_beginsChild_0 21 rfl rfl)
theorem dX3_beginsChild_22 : decode cX3_beginsChild 22 = .ok (.iconst 0, 1) := dk_3 (dk_at dksX3_beginsChild_0 22 rfl rfl)
theorem dX3_beginsChild_23 : decode cX3_beginsChild 23 = .ok (.invokestatic 165, 3) := dk_184 0 165 (dk_at dksX3_beginsChild_1 0 rfl rfl)
theorem dX3_beginsChild_26 : decode cX3_beginsChild 26 = .ok (.ifCond .eq 10, 3) := dk_153 0 10 (dk_at dksX3_beginsChild_1 3 rfl rfl)
theorem dX3_beginsChild_29 : decode cX3_beginsChild 29 = .ok (.aload_n 0, 1) := dk_42 (dk_at dksX3_beginsChild_1 6 rfl rfl)
theorem dX3_beginsChild_30 : decode cX3_beginsChild 30 = .ok (.aload_n 1, 1) := dk_43 (dk_at dksX3_beginsChild_1 7 rfl rfl)
theorem dX3_beginsChild_31 : decode cX3_beginsChild 31 = .ok (.iload_n 3, 1) := dk_29 (dk_at dksX3_beginsChild_1 8 rfl rfl)
theorem dX3_beginsChild_32 : decode cX3_beginsChild 32 = .ok (.invokevirtual 177, 3) := dk_182 0 177 (dk_at dksX3_beginsChild_1 9 rfl rfl)
theorem dX3_beginsChild_35 : decode cX3_beginsChild 35 = .ok (.return_, 1) := dk_177 (dk_at dksX3_beginsChild_1 12 rfl rfl)
theorem dX3_beginsChild_36 : decode cX3_beginsChild 36 = .ok (.iinc 3 1, 3) := dk_132 3 1 (dk_at dksX3_beginsChild_1 13 rfl rfl)
theorem dX3_beginsChild_39 : decode cX3_beginsChild 39 = .ok (.goto (-37), 3) := dk_167 255 219 (dk_at dksX3_beginsChild_1 16 rfl rfl)
theorem dX3_beginsChild_42 : decode cX3_beginsChild 42 = .ok (.return_, 1) := dk_177 (dk_at dksX3_beginsChild_1 19 rfl rfl)
abbrev cX3_begin : ByteArray := prog_7_method_27_code
def yX3_begin : MethodName := ⟨RX3, "begin", "([II)V"⟩
def dkwX3_begin_3 : List UInt8 := [79, 43, 16, 18, 28, 104, 16, 7, 96, 43, 17, 0, 144, 46, 79, 43, 28, 3, 184, 0, 173, 177]
abbrev dktX3_begin_3 : List UInt8 := dkwX3_begin_3 ++ []
def dkwX3_begin_2 : List UInt8 := [104, 3, 96, 4, 79, 43, 16, 18, 28, 104, 7, 96, 29, 21, 4, 162, 0, 7, 29, 167, 0, 5, 21, 4]
abbrev dktX3_begin_2 : List UInt8 := dkwX3_begin_2 ++ dktX3_begin_3
def dkwX3_begin_1 : List UInt8 := [180, 0, 40, 28, 46, 96, 62, 43, 42, 180, 0, 31, 28, 46, 7, 184, 0, 161, 54, 4, 43, 16, 18, 28]
abbrev dktX3_begin_1 : List UInt8 := dkwX3_begin_1 ++ dktX3_begin_2
def dkwX3_begin_0 : List UInt8 := [42, 180, 0, 40, 28, 46, 16, 99, 160, 0, 9, 17, 39, 15, 167, 0, 15, 43, 17, 0, 144, 46, 42]
abbrev dktX3_begin_0 : List UInt8 := dkwX3_begin_0 ++ dktX3_begin_1
theorem dksX3_begin_0 : cX3_begin.data.toList.drop 0 = dktX3_begin_0 := by decide +kernel
theorem dksX3_begin_1 : cX3_begin.data.toList.drop 23 = dktX3_begin_1 := dk_seg dksX3_begin_0 23 rfl rfl
theorem dksX3_begin_2 : cX3_begin.data.toList.drop 47 = dktX3_begin_2 := dk_seg dksX3_begin_1 24 rfl rfl
theorem dksX3_begin_3 : cX3_begin.data.toList.drop 71 = dktX3_begin_3 := dk_seg dksX3_begin_2 24 rfl rfl
theorem dX3_begin_0 : decode cX3_begin 0 = .ok (.aload_n 0, 1) := dk_42 (dk_at dksX3_begin_0 0 rfl rfl)
theorem dX3_begin_1 : decode cX3_begin 1 = .ok (.getfield 40, 3) := dk_180 0 40 (dk_at dksX3_begin_0 1 rfl rfl)
theorem dX3_begin_4 : decode cX3_begin 4 = .ok (.iload_n 2, 1) := dk_28 (dk_at dksX3_begin_0 4 rfl rfl)
theorem dX3_begin_5 : decode cX3_begin 5 = .ok (.iaload, 1) := dk_46 (dk_at dksX3_begin_0 5 rfl rfl)
theorem dX3_begin_6 : decode cX3_begin 6 = .ok (.bipush 99, 2) := dk_16 99 (dk_at dksX3_begin_0 6 rfl rfl)
theorem dX3_begin_8 : decode cX3_begin 8 = .ok (.if_icmp .ne 9, 3) := dk_160 0 9 (dk_at dksX3_begin_0 8 rfl rfl)
theorem dX3_begin_11 : decode cX3_begin 11 = .ok (.sipush 9999, 3) := dk_17 39 15 (dk_at dksX3_begin_0 11 rfl rfl)
theorem dX3_begin_14 : decode cX3_begin 14 = .ok (.goto 15, 3) := dk_167 0 15 (dk_at dksX3_begin_0 14 rfl rfl)
theorem dX3_begin_17 : decode cX3_begin 17 = .ok (.aload_n 1, 1) := dk_43 (dk_at dksX3_begin_0 17 rfl rfl)
theorem dX3_begin_18 : decode cX3_begin 18 = .ok (.sipush 144, 3) := dk_17 0 144 (dk_at dksX3_begin_0 18 rfl rfl)
theorem dX3_begin_21 : decode cX3_begin 21 = .ok (.iaload, 1) := dk_46 (dk_at dksX3_begin_0 21 rfl rfl)
theorem dX3_begin_22 : decode cX3_begin 22 = .ok (.aload_n 0, 1) := dk_42 (dk_at dksX3_begin_0 22 rfl rfl)
theorem dX3_begin_23 : decode cX3_begin 23 = .ok (.getfield 40, 3) := dk_180 0 40 (dk_at dksX3_begin_1 0 rfl rfl)
theorem dX3_begin_26 : decode cX3_begin 26 = .ok (.iload_n 2, 1) := dk_28 (dk_at dksX3_begin_1 3 rfl rfl)
theorem dX3_begin_27 : decode cX3_begin 27 = .ok (.iaload, 1) := dk_46 (dk_at dksX3_begin_1 4 rfl rfl)
theorem dX3_begin_28 : decode cX3_begin 28 = .ok (.iadd, 1) := dk_96 (dk_at dksX3_begin_1 5 rfl rfl)
theorem dX3_begin_29 : decode cX3_begin 29 = .ok (.istore_n 3, 1) := dk_62 (dk_at dksX3_begin_1 6 rfl rfl)
theorem dX3_begin_30 : decode cX3_begin 30 = .ok (.aload_n 1, 1) := dk_43 (dk_at dksX3_begin_1 7 rfl rfl)
theorem dX3_begin_31 : decode cX3_begin 31 = .ok (.aload_n 0, 1) := dk_42 (dk_at dksX3_begin_1 8 rfl rfl)
theorem dX3_begin_32 : decode cX3_begin 32 = .ok (.getfield 31, 3) := dk_180 0 31 (dk_at dksX3_begin_1 9 rfl rfl)
theorem dX3_begin_35 : decode cX3_begin 35 = .ok (.iload_n 2, 1) := dk_28 (dk_at dksX3_begin_1 12 rfl rfl)
theorem dX3_begin_36 : decode cX3_begin 36 = .ok (.iaload, 1) := dk_46 (dk_at dksX3_begin_1 13 rfl rfl)
theorem dX3_begin_37 : decode cX3_begin 37 = .ok (.iconst 4, 1) := dk_7 (dk_at dksX3_begin_1 14 rfl rfl)
theorem dX3_begin_38 : decode cX3_begin 38 = .ok (.invokestatic 161, 3) := dk_184 0 161 (dk_at dksX3_begin_1 15 rfl rfl)
theorem dX3_begin_41 : decode cX3_begin 41 = .ok (.istore 4, 2) := dk_54 4 (dk_at dksX3_begin_1 18 rfl rfl)
theorem dX3_begin_43 : decode cX3_begin 43 = .ok (.aload_n 1, 1) := dk_43 (dk_at dksX3_begin_1 20 rfl rfl)
theorem dX3_begin_44 : decode cX3_begin 44 = .ok (.bipush 18, 2) := dk_16 18 (dk_at dksX3_begin_1 21 rfl rfl)
theorem dX3_begin_46 : decode cX3_begin 46 = .ok (.iload_n 2, 1) := dk_28 (dk_at dksX3_begin_1 23 rfl rfl)
theorem dX3_begin_47 : decode cX3_begin 47 = .ok (.imul, 1) := dk_104 (dk_at dksX3_begin_2 0 rfl rfl)
theorem dX3_begin_48 : decode cX3_begin 48 = .ok (.iconst 0, 1) := dk_3 (dk_at dksX3_begin_2 1 rfl rfl)
theorem dX3_begin_49 : decode cX3_begin 49 = .ok (.iadd, 1) := dk_96 (dk_at dksX3_begin_2 2 rfl rfl)
theorem dX3_begin_50 : decode cX3_begin 50 = .ok (.iconst 1, 1) := dk_4 (dk_at dksX3_begin_2 3 rfl rfl)
theorem dX3_begin_51 : decode cX3_begin 51 = .ok (.iastore, 1) := dk_79 (dk_at dksX3_begin_2 4 rfl rfl)
theorem dX3_begin_52 : decode cX3_begin 52 = .ok (.aload_n 1, 1) := dk_43 (dk_at dksX3_begin_2 5 rfl rfl)
theorem dX3_begin_53 : decode cX3_begin 53 = .ok (.bipush 18, 2) := dk_16 18 (dk_at dksX3_begin_2 6 rfl rfl)
theorem dX3_begin_55 : decode cX3_begin 55 = .ok (.iload_n 2, 1) := dk_28 (dk_at dksX3_begin_2 8 rfl rfl)
theorem dX3_begin_56 : decode cX3_begin 56 = .ok (.imul, 1) := dk_104 (dk_at dksX3_begin_2 9 rfl rfl)
theorem dX3_begin_57 : decode cX3_begin 57 = .ok (.iconst 4, 1) := dk_7 (dk_at dksX3_begin_2 10 rfl rfl)
theorem dX3_begin_58 : decode cX3_begin 58 = .ok (.iadd, 1) := dk_96 (dk_at dksX3_begin_2 11 rfl rfl)
theorem dX3_begin_59 : decode cX3_begin 59 = .ok (.iload_n 3, 1) := dk_29 (dk_at dksX3_begin_2 12 rfl rfl)
theorem dX3_begin_60 : decode cX3_begin 60 = .ok (.iload 4, 2) := dk_21 4 (dk_at dksX3_begin_2 13 rfl rfl)
theorem dX3_begin_62 : decode cX3_begin 62 = .ok (.if_icmp .ge 7, 3) := dk_162 0 7 (dk_at dksX3_begin_2 15 rfl rfl)
theorem dX3_begin_65 : decode cX3_begin 65 = .ok (.iload_n 3, 1) := dk_29 (dk_at dksX3_begin_2 18 rfl rfl)
theorem dX3_begin_66 : decode cX3_begin 66 = .ok (.goto 5, 3) := dk_167 0 5 (dk_at dksX3_begin_2 19 rfl rfl)
theorem dX3_begin_69 : decode cX3_begin 69 = .ok (.iload 4, 2) := dk_21 4 (dk_at dksX3_begin_2 22 rfl rfl)
theorem dX3_begin_71 : decode cX3_begin 71 = .ok (.iastore, 1) := dk_79 (dk_at dksX3_begin_3 0 rfl rfl)
theorem dX3_begin_72 : decode cX3_begin 72 = .ok (.aload_n 1, 1) := dk_43 (dk_at dksX3_begin_3 1 rfl rfl)
theorem dX3_begin_73 : decode cX3_begin 73 = .ok (.bipush 18, 2) := dk_16 18 (dk_at dksX3_begin_3 2 rfl rfl)
theorem dX3_begin_75 : decode cX3_begin 75 = .ok (.iload_n 2, 1) := dk_28 (dk_at dksX3_begin_3 4 rfl rfl)
theorem dX3_begin_76 : decode cX3_begin 76 = .ok (.imul, 1) := dk_104 (dk_at dksX3_begin_3 5 rfl rfl)
theorem dX3_begin_77 : decode cX3_begin 77 = .ok (.bipush 7, 2) := dk_16 7 (dk_at dksX3_begin_3 6 rfl rfl)
theorem dX3_begin_79 : decode cX3_begin 79 = .ok (.iadd, 1) := dk_96 (dk_at dksX3_begin_3 8 rfl rfl)
theorem dX3_begin_80 : decode cX3_begin 80 = .ok (.aload_n 1, 1) := dk_43 (dk_at dksX3_begin_3 9 rfl rfl)
theorem dX3_begin_81 : decode cX3_begin 81 = .ok (.sipush 144, 3) := dk_17 0 144 (dk_at dksX3_begin_3 10 rfl rfl)
theorem dX3_begin_84 : decode cX3_begin 84 = .ok (.iaload, 1) := dk_46 (dk_at dksX3_begin_3 13 rfl rfl)
theorem dX3_begin_85 : decode cX3_begin 85 = .ok (.iastore, 1) := dk_79 (dk_at dksX3_begin_3 14 rfl rfl)
theorem dX3_begin_86 : decode cX3_begin 86 = .ok (.aload_n 1, 1) := dk_43 (dk_at dksX3_begin_3 15 rfl rfl)
theorem dX3_begin_87 : decode cX3_begin 87 = .ok (.iload_n 2, 1) := dk_28 (dk_at dksX3_begin_3 16 rfl rfl)
theorem dX3_begin_88 : decode cX3_begin 88 = .ok (.iconst 0, 1) := dk_3 (dk_at dksX3_begin_3 17 rfl rfl)
theorem dX3_begin_89 : decode cX3_begin 89 = .ok (.invokestatic 173, 3) := dk_184 0 173 (dk_at dksX3_begin_3 18 rfl rfl)
theorem dX3_begin_92 : decode cX3_begin 92 = .ok (.return_, 1) := dk_177 (dk_at dksX3_begin_3 21 rfl rfl)
abbrev cX3_isBusy : ByteArray := prog_7_method_29_code
def yX3_isBusy : MethodName := ⟨RX3, "isBusy", "([II)Z"⟩
def dkwX3_isBusy_2 : List UInt8 := [153, 0, 7, 4, 167, 0, 4, 3, 62, 132, 4, 1, 167, 255, 203, 29, 172]
abbrev dktX3_isBusy_2 : List UInt8 := dkwX3_isBusy_2 ++ []
def dkwX3_isBusy_1 : List UInt8 := [46, 28, 160, 0, 27, 43, 21, 4, 4, 184, 0, 165, 154, 0, 13, 43, 21, 4, 5, 184, 0, 165]
abbrev dktX3_isBusy_1 : List UInt8 := dkwX3_isBusy_1 ++ dktX3_isBusy_2
def dkwX3_isBusy_0 : List UInt8 := [3, 62, 4, 54, 4, 21, 4, 42, 180, 0, 142, 162, 0, 50, 29, 154, 0, 34, 42, 180, 0, 31, 21, 4]
abbrev dktX3_isBusy_0 : List UInt8 := dkwX3_isBusy_0 ++ dktX3_isBusy_1
theorem dksX3_isBusy_0 : cX3_isBusy.data.toList.drop 0 = dktX3_isBusy_0 := by decide +kernel
theorem dksX3_isBusy_1 : cX3_isBusy.data.toList.drop 24 = dktX3_isBusy_1 := dk_seg dksX3_isBusy_0 24 rfl rfl
theorem dksX3_isBusy_2 : cX3_isBusy.data.toList.drop 46 = dktX3_isBusy_2 := dk_seg dksX3_isBusy_1 22 rfl rfl
theorem dX3_isBusy_0 : decode cX3_isBusy 0 = .ok (.iconst 0, 1) := dk_3 (dk_at dksX3_isBusy_0 0 rfl rfl)
theorem dX3_isBusy_1 : decode cX3_isBusy 1 = .ok (.istore_n 3, 1) := dk_62 (dk_at dksX3_isBusy_0 1 rfl rfl)
theorem dX3_isBusy_2 : decode cX3_isBusy 2 = .ok (.iconst 1, 1) := dk_4 (dk_at dksX3_isBusy_0 2 rfl rfl)
theorem dX3_isBusy_3 : decode cX3_isBusy 3 = .ok (.istore 4, 2) := dk_54 4 (dk_at dksX3_isBusy_0 3 rfl rfl)
theorem dX3_isBusy_5 : decode cX3_isBusy 5 = .ok (.iload 4, 2) := dk_21 4 (dk_at dksX3_isBusy_0 5 rfl rfl)
theorem dX3_isBusy_7 : decode cX3_isBusy 7 = .ok (.aload_n 0, 1) := dk_42 (dk_at dksX3_isBusy_0 7 rfl rfl)
theorem dX3_isBusy_8 : decode cX3_isBusy 8 = .ok (.getfield 142, 3) := dk_180 0 142 (dk_at dksX3_isBusy_0 8 rfl rfl)
theorem dX3_isBusy_11 : decode cX3_isBusy 11 = .ok (.if_icmp .ge 50, 3) := dk_162 0 50 (dk_at dksX3_isBusy_0 11 rfl rfl)
theorem dX3_isBusy_14 : decode cX3_isBusy 14 = .ok (.iload_n 3, 1) := dk_29 (dk_at dksX3_isBusy_0 14 rfl rfl)
theorem dX3_isBusy_15 : decode cX3_isBusy 15 = .ok (.ifCond .ne 34, 3) := dk_154 0 34 (dk_at dksX3_isBusy_0 15 rfl rfl)
theorem dX3_isBusy_18 : decode cX3_isBusy 18 = .ok (.aload_n 0, 1) := dk_42 (dk_at dksX3_isBusy_0 18 rfl rfl)
theorem dX3_isBusy_19 : decode cX3_isBusy 19 = .ok (.getfield 31, 3) := dk_180 0 31 (dk_at dksX3_isBusy_0 19 rfl rfl)
theorem dX3_isBusy_22 : decode cX3_isBusy 22 = .ok (.iload 4, 2) := dk_21 4 (dk_at dksX3_isBusy_0 22 rfl rfl)
theorem dX3_isBusy_24 : decode cX3_isBusy 24 = .ok (.iaload, 1) := dk_46 (dk_at dksX3_isBusy_1 0 rfl rfl)
theorem dX3_isBusy_25 : decode cX3_isBusy 25 = .ok (.iload_n 2, 1) := dk_28 (dk_at dksX3_isBusy_1 1 rfl rfl)
theorem dX3_isBusy_26 : decode cX3_isBusy 26 = .ok (.if_icmp .ne 27, 3) := dk_160 0 27 (dk_at dksX3_isBusy_1 2 rfl rfl)
theorem dX3_isBusy_29 : decode cX3_isBusy 29 = .ok (.aload_n 1, 1) := dk_43 (dk_at dksX3_isBusy_1 5 rfl rfl)
theorem dX3_isBusy_30 : decode cX3_isBusy 30 = .ok (.iload 4, 2) := dk_21 4 (dk_at dksX3_isBusy_1 6 rfl rfl)
theorem dX3_isBusy_32 : decode cX3_isBusy 32 = .ok (.iconst 1, 1) := dk_4 (dk_at dksX3_isBusy_1 8 rfl rfl)
theorem dX3_isBusy_33 : decode cX3_isBusy 33 = .ok (.invokestatic 165, 3) := dk_184 0 165 (dk_at dksX3_isBusy_1 9 rfl rfl)
theorem dX3_isBusy_36 : decode cX3_isBusy 36 = .ok (.ifCond .ne 13, 3) := dk_154 0 13 (dk_at dksX3_isBusy_1 12 rfl rfl)
theorem dX3_isBusy_39 : decode cX3_isBusy 39 = .ok (.aload_n 1, 1) := dk_43 (dk_at dksX3_isBusy_1 15 rfl rfl)
theorem dX3_isBusy_40 : decode cX3_isBusy 40 = .ok (.iload 4, 2) := dk_21 4 (dk_at dksX3_isBusy_1 16 rfl rfl)
theorem dX3_isBusy_42 : decode cX3_isBusy 42 = .ok (.iconst 2, 1) := dk_5 (dk_at dksX3_isBusy_1 18 rfl rfl)
theorem dX3_isBusy_43 : decode cX3_isBusy 43 = .ok (.invokestatic 165, 3) := dk_184 0 165 (dk_at dksX3_isBusy_1 19 rfl rfl)
theorem dX3_isBusy_46 : decode cX3_isBusy 46 = .ok (.ifCond .eq 7, 3) := dk_153 0 7 (dk_at dksX3_isBusy_2 0 rfl rfl)
theorem dX3_isBusy_49 : decode cX3_isBusy 49 = .ok (.iconst 1, 1) := dk_4 (dk_at dksX3_isBusy_2 3 rfl rfl)
theorem dX3_isBusy_50 : decode cX3_isBusy 50 = .ok (.goto 4, 3) := dk_167 0 4 (dk_at dksX3_isBusy_2 4 rfl rfl)
theorem dX3_isBusy_53 : decode cX3_isBusy 53 = .ok (.iconst 0, 1) := dk_3 (dk_at dksX3_isBusy_2 7 rfl rfl)
theorem dX3_isBusy_54 : decode cX3_isBusy 54 = .ok (.istore_n 3, 1) := dk_62 (dk_at dksX3_isBusy_2 8 rfl rfl)
theorem dX3_isBusy_55 : decode cX3_isBusy 55 = .ok (.iinc 4 1, 3) := dk_132 4 1 (dk_at dksX3_isBusy_2 9 rfl rfl)
theorem dX3_isBusy_58 : decode cX3_isBusy 58 = .ok (.goto (-53), 3) := dk_167 255 203 (dk_at dksX3_isBusy_2 12 rfl rfl)
theorem dX3_isBusy_61 : decode cX3_isBusy 61 = .ok (.iload_n 3, 1) := dk_29 (dk_at dksX3_isBusy_2 15 rfl rfl)
theorem dX3_isBusy_62 : decode cX3_isBusy 62 = .ok (.ireturn, 1) := dk_172 (dk_at dksX3_isBusy_2 16 rfl rfl)
abbrev cX3_cleansUp : ByteArray := prog_7_method_33_code
def yX3_cleansUp : MethodName := ⟨RX3, "cleansUp", "([II)V"⟩
def dkwX3_cleansUp_4 : List UInt8 := [42, 43, 28, 182, 0, 196, 177]
abbrev dktX3_cleansUp_4 : List UInt8 := dkwX3_cleansUp_4 ++ []
def dkwX3_cleansUp_3 : List UInt8 := [184, 0, 173, 43, 28, 4, 184, 0, 161, 62, 28, 158, 0, 19, 29, 4, 159, 0, 8, 29, 6, 160, 0, 9]
abbrev dktX3_cleansUp_3 : List UInt8 := dkwX3_cleansUp_3 ++ dktX3_cleansUp_4
def dkwX3_cleansUp_2 : List UInt8 := [28, 104, 3, 96, 6, 79, 43, 16, 18, 28, 104, 16, 8, 96, 43, 17, 0, 144, 46, 79, 43, 28, 5]
abbrev dktX3_cleansUp_2 : List UInt8 := dkwX3_cleansUp_2 ++ dktX3_cleansUp_3
def dkwX3_cleansUp_1 : List UInt8 := [92, 46, 4, 96, 79, 43, 28, 16, 6, 184, 0, 161, 42, 180, 0, 46, 28, 46, 160, 0, 59, 43, 16, 18]
abbrev dktX3_cleansUp_1 : List UInt8 := dkwX3_cleansUp_1 ++ dktX3_cleansUp_2
def dkwX3_cleansUp_0 : List UInt8 := [43, 28, 16, 6, 184, 0, 161, 42, 180, 0, 46, 28, 46, 162, 0, 16, 43, 16, 18, 28, 104, 16, 6, 96]
abbrev dktX3_cleansUp_0 : List UInt8 := dkwX3_cleansUp_0 ++ dktX3_cleansUp_1
theorem dksX3_cleansUp_0 : cX3_cleansUp.data.toList.drop 0 = dktX3_cleansUp_0 := by decide +kernel
theorem dksX3_cleansUp_1 : cX3_cleansUp.data.toList.drop 24 = dktX3_cleansUp_1 := dk_seg dksX3_cleansUp_0 24 rfl rfl
theorem dksX3_cleansUp_2 : cX3_cleansUp.data.toList.drop 48 = dktX3_cleansUp_2 := dk_seg dksX3_cleansUp_1 24 rfl rfl
theorem dksX3_cleansUp_3 : cX3_cleansUp.data.toList.drop 71 = dktX3_cleansUp_3 := dk_seg dksX3_cleansUp_2 23 rfl rfl
theorem dksX3_cleansUp_4 : cX3_cleansUp.data.toList.drop 95 = dktX3_cleansUp_4 := dk_seg dksX3_cleansUp_3 24 rfl rfl
theorem dX3_cleansUp_0 : decode cX3_cleansUp 0 = .ok (.aload_n 1, 1) := dk_43 (dk_at dksX3_cleansUp_0 0 rfl rfl)
theorem dX3_cleansUp_1 : decode cX3_cleansUp 1 = .ok (.iload_n 2, 1) := dk_28 (dk_at dksX3_cleansUp_0 1 rfl rfl)
theorem dX3_cleansUp_2 : decode cX3_cleansUp 2 = .ok (.bipush 6, 2) := dk_16 6 (dk_at dksX3_cleansUp_0 2 rfl rfl)
theorem dX3_cleansUp_4 : decode cX3_cleansUp 4 = .ok (.invokestatic 161, 3) := dk_184 0 161 (dk_at dksX3_cleansUp_0 4 rfl rfl)
theorem dX3_cleansUp_7 : decode cX3_cleansUp 7 = .ok (.aload_n 0, 1) := dk_42 (dk_at dksX3_cleansUp_0 7 rfl rfl)
theorem dX3_cleansUp_8 : decode cX3_cleansUp 8 = .ok (.getfield 46, 3) := dk_180 0 46 (dk_at dksX3_cleansUp_0 8 rfl rfl)
theorem dX3_cleansUp_11 : decode cX3_cleansUp 11 = .ok (.iload_n 2, 1) := dk_28 (dk_at dksX3_cleansUp_0 11 rfl rfl)
theorem dX3_cleansUp_12 : decode cX3_cleansUp 12 = .ok (.iaload, 1) := dk_46 (dk_at dksX3_cleansUp_0 12 rfl rfl)
theorem dX3_cleansUp_13 : decode cX3_cleansUp 13 = .ok (.if_icmp .ge 16, 3) := dk_162 0 16 (dk_at dksX3_cleansUp_0 13 rfl rfl)
theorem dX3_cleansUp_16 : decode cX3_cleansUp 16 = .ok (.aload_n 1, 1) := dk_43 (dk_at dksX3_cleansUp_0 16 rfl rfl)
theorem dX3_cleansUp_17 : decode cX3_cleansUp 17 = .ok (.bipush 18, 2) := dk_16 18 (dk_at dksX3_cleansUp_0 17 rfl rfl)
theorem dX3_cleansUp_19 : decode cX3_cleansUp 19 = .ok (.iload_n 2, 1) := dk_28 (dk_at dksX3_cleansUp_0 19 rfl rfl)
theorem dX3_cleansUp_20 : decode cX3_cleansUp 20 = .ok (.imul, 1) := dk_104 (dk_at dksX3_cleansUp_0 20 rfl rfl)
theorem dX3_cleansUp_21 : decode cX3_cleansUp 21 = .ok (.bipush 6, 2) := dk_16 6 (dk_at dksX3_cleansUp_0 21 rfl rfl)
theorem dX3_cleansUp_23 : decode cX3_cleansUp 23 = .ok (.iadd, 1) := dk_96 (dk_at dksX3_cleansUp_0 23 rfl rfl)
theorem dX3_cleansUp_24 : decode cX3_cleansUp 24 = .ok (.dup2, 1) := dk_92 (dk_at dksX3_cleansUp_1 0 rfl rfl)
theorem dX3_cleansUp_25 : decode cX3_cleansUp 25 = .ok (.iaload, 1) := dk_46 (dk_at dksX3_cleansUp_1 1 rfl rfl)
theorem dX3_cleansUp_26 : decode cX3_cleansUp 26 = .ok (.iconst 1, 1) := dk_4 (dk_at dksX3_cleansUp_1 2 rfl rfl)
theorem dX3_cleansUp_27 : decode cX3_cleansUp 27 = .ok (.iadd, 1) := dk_96 (dk_at dksX3_cleansUp_1 3 rfl rfl)
theorem dX3_cleansUp_28 : decode cX3_cleansUp 28 = .ok (.iastore, 1) := dk_79 (dk_at dksX3_cleansUp_1 4 rfl rfl)
theorem dX3_cleansUp_29 : decode cX3_cleansUp 29 = .ok (.aload_n 1, 1) := dk_43 (dk_at dksX3_cleansUp_1 5 rfl rfl)
theorem dX3_cleansUp_30 : decode cX3_cleansUp 30 = .ok (.iload_n 2, 1) := dk_28 (dk_at dksX3_cleansUp_1 6 rfl rfl)
theorem dX3_cleansUp_31 : decode cX3_cleansUp 31 = .ok (.bipush 6, 2) := dk_16 6 (dk_at dksX3_cleansUp_1 7 rfl rfl)
theorem dX3_cleansUp_33 : decode cX3_cleansUp 33 = .ok (.invokestatic 161, 3) := dk_184 0 161 (dk_at dksX3_cleansUp_1 9 rfl rfl)
theorem dX3_cleansUp_36 : decode cX3_cleansUp 36 = .ok (.aload_n 0, 1) := dk_42 (dk_at dksX3_cleansUp_1 12 rfl rfl)
theorem dX3_cleansUp_37 : decode cX3_cleansUp 37 = .ok (.getfield 46, 3) := dk_180 0 46 (dk_at dksX3_cleansUp_1 13 rfl rfl)
theorem dX3_cleansUp_40 : decode cX3_cleansUp 40 = .ok (.iload_n 2, 1) := dk_28 (dk_at dksX3_cleansUp_1 16 rfl rfl)
theorem dX3_cleansUp_41 : decode cX3_cleansUp 41 = .ok (.iaload, 1) := dk_46 (dk_at dksX3_cleansUp_1 17 rfl rfl)
theorem dX3_cleansUp_42 : decode cX3_cleansUp 42 = .ok (.if_icmp .ne 59, 3) := dk_160 0 59 (dk_at dksX3_cleansUp_1 18 rfl rfl)
theorem dX3_cleansUp_45 : decode cX3_cleansUp 45 = .ok (.aload_n 1, 1) := dk_43 (dk_at dksX3_cleansUp_1 21 rfl rfl)
theorem dX3_cleansUp_46 : decode cX3_cleansUp 46 = .ok (.bipush 18, 2) := dk_16 18 (dk_at dksX3_cleansUp_1 22 rfl rfl)
theorem dX3_cleansUp_48 : decode cX3_cleansUp 48 = .ok (.iload_n 2, 1) := dk_28 (dk_at dksX3_cleansUp_2 0 rfl rfl)
theorem dX3_cleansUp_49 : decode cX3_cleansUp 49 = .ok (.imul, 1) := dk_104 (dk_at dksX3_cleansUp_2 1 rfl rfl)
theorem dX3_cleansUp_50 : decode cX3_cleansUp 50 = .ok (.iconst 0, 1) := dk_3 (dk_at dksX3_cleansUp_2 2 rfl rfl)
theorem dX3_cleansUp_51 : decode cX3_cleansUp 51 = .ok (.iadd, 1) := dk_96 (dk_at dksX3_cleansUp_2 3 rfl rfl)
theorem dX3_cleansUp_52 : decode cX3_cleansUp 52 = .ok (.iconst 3, 1) := dk_6 (dk_at dksX3_cleansUp_2 4 rfl rfl)
theorem dX3_cleansUp_53 : decode cX3_cleansUp 53 = .ok (.iastore, 1) := dk_79 (dk_at dksX3_cleansUp_2 5 rfl rfl)
theorem dX3_cleansUp_54 : decode cX3_cleansUp 54 = .ok (.aload_n 1, 1) := dk_43 (dk_at dksX3_cleansUp_2 6 rfl rfl)
theorem dX3_cleansUp_55 : decode cX3_cleansUp 55 = .ok (.bipush 18, 2) := dk_16 18 (dk_at dksX3_cleansUp_2 7 rfl rfl)
theorem dX3_cleansUp_57 : decode cX3_cleansUp 57 = .ok (.iload_n 2, 1) := dk_28 (dk_at dksX3_cleansUp_2 9 rfl rfl)
theorem dX3_cleansUp_58 : decode cX3_cleansUp 58 = .ok (.imul, 1) := dk_104 (dk_at dksX3_cleansUp_2 10 rfl rfl)
theorem dX3_cleansUp_59 : decode cX3_cleansUp 59 = .ok (.bipush 8, 2) := dk_16 8 (dk_at dksX3_cleansUp_2 11 rfl rfl)
theorem dX3_cleansUp_61 : decode cX3_cleansUp 61 = .ok (.iadd, 1) := dk_96 (dk_at dksX3_cleansUp_2 13 rfl rfl)
theorem dX3_cleansUp_62 : decode cX3_cleansUp 62 = .ok (.aload_n 1, 1) := dk_43 (dk_at dksX3_cleansUp_2 14 rfl rfl)
theorem dX3_cleansUp_63 : decode cX3_cleansUp 63 = .ok (.sipush 144, 3) := dk_17 0 144 (dk_at dksX3_cleansUp_2 15 rfl rfl)
theorem dX3_cleansUp_66 : decode cX3_cleansUp 66 = .ok (.iaload, 1) := dk_46 (dk_at dksX3_cleansUp_2 18 rfl rfl)
theorem dX3_cleansUp_67 : decode cX3_cleansUp 67 = .ok (.iastore, 1) := dk_79 (dk_at dksX3_cleansUp_2 19 rfl rfl)
theorem dX3_cleansUp_68 : decode cX3_cleansUp 68 = .ok (.aload_n 1, 1) := dk_43 (dk_at dksX3_cleansUp_2 20 rfl rfl)
theorem dX3_cleansUp_69 : decode cX3_cleansUp 69 = .ok (.iload_n 2, 1) := dk_28 (dk_at dksX3_cleansUp_2 21 rfl rfl)
theorem dX3_cleansUp_70 : decode cX3_cleansUp 70 = .ok (.iconst 2, 1) := dk_5 (dk_at dksX3_cleansUp_2 22 rfl rfl)
theorem dX3_cleansUp_71 : decode cX3_cleansUp 71 = .ok (.invokestatic 173, 3) := dk_184 0 173 (dk_at dksX3_cleansUp_3 0 rfl rfl)
theorem dX3_cleansUp_74 : decode cX3_cleansUp 74 = .ok (.aload_n 1, 1) := dk_43 (dk_at dksX3_cleansUp_3 3 rfl rfl)
theorem dX3_cleansUp_75 : decode cX3_cleansUp 75 = .ok (.iload_n 2, 1) := dk_28 (dk_at dksX3_cleansUp_3 4 rfl rfl)
theorem dX3_cleansUp_76 : decode cX3_cleansUp 76 = .ok (.iconst 1, 1) := dk_4 (dk_at dksX3_cleansUp_3 5 rfl rfl)
theorem dX3_cleansUp_77 : decode cX3_cleansUp 77 = .ok (.invokestatic 161, 3) := dk_184 0 161 (dk_at dksX3_cleansUp_3 6 rfl rfl)
theorem dX3_cleansUp_80 : decode cX3_cleansUp 80 = .ok (.istore_n 3, 1) := dk_62 (dk_at dksX3_cleansUp_3 9 rfl rfl)
theorem dX3_cleansUp_81 : decode cX3_cleansUp 81 = .ok (.iload_n 2, 1) := dk_28 (dk_at dksX3_cleansUp_3 10 rfl rfl)
theorem dX3_cleansUp_82 : decode cX3_cleansUp 82 = .ok (.ifCond .le 19, 3) := dk_158 0 19 (dk_at dksX3_cleansUp_3 11 rfl rfl)
theorem dX3_cleansUp_85 : decode cX3_cleansUp 85 = .ok (.iload_n 3, 1) := dk_29 (dk_at dksX3_cleansUp_3 14 rfl rfl)
theorem dX3_cleansUp_86 : decode cX3_cleansUp 86 = .ok (.iconst 1, 1) := dk_4 (dk_at dksX3_cleansUp_3 15 rfl rfl)
theorem dX3_cleansUp_87 : decode cX3_cleansUp 87 = .ok (.if_icmp .eq 8, 3) := dk_159 0 8 (dk_at dksX3_cleansUp_3 16 rfl rfl)
theorem dX3_cleansUp_90 : decode cX3_cleansUp 90 = .ok (.iload_n 3, 1) := dk_29 (dk_at dksX3_cleansUp_3 19 rfl rfl)
theorem dX3_cleansUp_91 : decode cX3_cleansUp 91 = .ok (.iconst 3, 1) := dk_6 (dk_at dksX3_cleansUp_3 20 rfl rfl)
theorem dX3_cleansUp_92 : decode cX3_cleansUp 92 = .ok (.if_icmp .ne 9, 3) := dk_160 0 9 (dk_at dksX3_cleansUp_3 21 rfl rfl)
theorem dX3_cleansUp_95 : decode cX3_cleansUp 95 = .ok (.aload_n 0, 1) := dk_42 (dk_at dksX3_cleansUp_4 0 rfl rfl)
theorem dX3_cleansUp_96 : decode cX3_cleansUp 96 = .ok (.aload_n 1, 1) := dk_43 (dk_at dksX3_cleansUp_4 1 rfl rfl)
theorem dX3_cleansUp_97 : decode cX3_cleansUp 97 = .ok (.iload_n 2, 1) := dk_28 (dk_at dksX3_cleansUp_4 2 rfl rfl)
theorem dX3_cleansUp_98 : decode cX3_cleansUp 98 = .ok (.invokevirtual 196, 3) := dk_182 0 196 (dk_at dksX3_cleansUp_4 3 rfl rfl)
theorem dX3_cleansUp_101 : decode cX3_cleansUp 101 = .ok (.return_, 1) := dk_177 (dk_at dksX3_cleansUp_4 6 rfl rfl)
abbrev cX3_gives : ByteArray := prog_7_method_32_code
def yX3_gives : MethodName := ⟨RX3, "gives", "([II)V"⟩
def dkwX3_gives_4 : List UInt8 := [29, 104, 4, 96, 4, 79, 42, 43, 29, 182, 0, 169, 177]
abbrev dktX3_gives_4 : List UInt8 := dkwX3_gives_4 ++ []
def dkwX3_gives_3 : List UInt8 := [167, 0, 36, 43, 29, 5, 184, 0, 165, 153, 0, 27, 43, 29, 4, 184, 0, 161, 154, 0, 18, 43, 16, 18]
abbrev dktX3_gives_3 : List UInt8 := dkwX3_gives_3 ++ dktX3_gives_4
def dkwX3_gives_2 : List UInt8 := [184, 0, 165, 153, 0, 24, 42, 180, 0, 145, 29, 122, 4, 126, 154, 0, 13, 42, 43, 29, 4, 182, 0, 190]
abbrev dktX3_gives_2 : List UInt8 := dkwX3_gives_2 ++ dktX3_gives_3
def dkwX3_gives_1 : List UInt8 := [43, 28, 16, 10, 21, 4, 96, 184, 0, 161, 184, 0, 187, 132, 4, 1, 167, 255, 226, 43, 29, 4]
abbrev dktX3_gives_1 : List UInt8 := dkwX3_gives_1 ++ dktX3_gives_2
def dkwX3_gives_0 : List UInt8 := [42, 180, 0, 31, 28, 46, 62, 3, 54, 4, 21, 4, 43, 28, 16, 9, 184, 0, 161, 162, 0, 24, 43, 29]
abbrev dktX3_gives_0 : List UInt8 := dkwX3_gives_0 ++ dktX3_gives_1
theorem dksX3_gives_0 : cX3_gives.data.toList.drop 0 = dktX3_gives_0 := by decide +kernel
theorem dksX3_gives_1 : cX3_gives.data.toList.drop 24 = dktX3_gives_1 := dk_seg dksX3_gives_0 24 rfl rfl
theorem dksX3_gives_2 : cX3_gives.data.toList.drop 46 = dktX3_gives_2 := dk_seg dksX3_gives_1 22 rfl rfl
theorem dksX3_gives_3 : cX3_gives.data.toList.drop 70 = dktX3_gives_3 := dk_seg dksX3_gives_2 24 rfl rfl
theorem dksX3_gives_4 : cX3_gives.data.toList.drop 94 = dktX3_gives_4 := dk_seg dksX3_gives_3 24 rfl rfl
theorem dX3_gives_0 : decode cX3_gives 0 = .ok (.aload_n 0, 1) := dk_42 (dk_at dksX3_gives_0 0 rfl rfl)
theorem dX3_gives_1 : decode cX3_gives 1 = .ok (.getfield 31, 3) := dk_180 0 31 (dk_at dksX3_gives_0 1 rfl rfl)
theorem dX3_gives_4 : decode cX3_gives 4 = .ok (.iload_n 2, 1) := dk_28 (dk_at dksX3_gives_0 4 rfl rfl)
theorem dX3_gives_5 : decode cX3_gives 5 = .ok (.iaload, 1) := dk_46 (dk_at dksX3_gives_0 5 rfl rfl)
theorem dX3_gives_6 : decode cX3_gives 6 = .ok (.istore_n 3, 1) := dk_62 (dk_at dksX3_gives_0 6 rfl rfl)
theorem dX3_gives_7 : decode cX3_gives 7 = .ok (.iconst 0, 1) := dk_3 (dk_at dksX3_gives_0 7 rfl rfl)
theorem dX3_gives_8 : decode cX3_gives 8 = .ok (.istore 4, 2) := dk_54 4 (dk_at dksX3_gives_0 8 rfl rfl)
theorem dX3_gives_10 : decode cX3_gives 10 = .ok (.iload 4, 2) := dk_21 4 (dk_at dksX3_gives_0 10 rfl rfl)
theorem dX3_gives_12 : decode cX3_gives 12 = .ok (.aload_n 1, 1) := dk_43 (dk_at dksX3_gives_0 12 rfl rfl)
theorem dX3_gives_13 : decode cX3_gives 13 = .ok (.iload_n 2, 1) := dk_28 (dk_at dksX3_gives_0 13 rfl rfl)
theorem dX3_gives_14 : decode cX3_gives 14 = .ok (.bipush 9, 2) := dk_16 9 (dk_at dksX3_gives_0 14 rfl rfl)
theorem dX3_gives_16 : decode cX3_gives 16 = .ok (.invokestatic 161, 3) := dk_184 0 161 (dk_at dksX3_gives_0 16 rfl rfl)
theorem dX3_gives_19 : decode cX3_gives 19 = .ok (.if_icmp .ge 24, 3) := dk_162 0 24 (dk_at dksX3_gives_0 19 rfl rfl)
theorem dX3_gives_22 : decode cX3_gives 22 = .ok (.aload_n 1, 1) := dk_43 (dk_at dksX3_gives_0 22 rfl rfl)
theorem dX3_gives_23 : decode cX3_gives 23 = .ok (.iload_n 3, 1) := dk_29 (dk_at dksX3_gives_0 23 rfl rfl)
theorem dX3_gives_24 : decode cX3_gives 24 = .ok (.aload_n 1, 1) := dk_43 (dk_at dksX3_gives_1 0 rfl rfl)
theorem dX3_gives_25 : decode cX3_gives 25 = .ok (.iload_n 2, 1) := dk_28 (dk_at dksX3_gives_1 1 rfl rfl)
theorem dX3_gives_26 : decode cX3_gives 26 = .ok (.bipush 10, 2) := dk_16 10 (dk_at dksX3_gives_1 2 rfl rfl)
theorem dX3_gives_28 : decode cX3_gives 28 = .ok (.iload 4, 2) := dk_21 4 (dk_at dksX3_gives_1 4 rfl rfl)
theorem dX3_gives_30 : decode cX3_gives 30 = .ok (.iadd, 1) := dk_96 (dk_at dksX3_gives_1 6 rfl rfl)
theorem dX3_gives_31 : decode cX3_gives 31 = .ok (.invokestatic 161, 3) := dk_184 0 161 (dk_at dksX3_gives_1 7 rfl rfl)
theorem dX3_gives_34 : decode cX3_gives 34 = .ok (.invokestatic 187, 3) := dk_184 0 187 (dk_at dksX3_gives_1 10 rfl rfl)
theorem dX3_gives_37 : decode cX3_gives 37 = .ok (.iinc 4 1, 3) := dk_132 4 1 (dk_at dksX3_gives_1 13 rfl rfl)
theorem dX3_gives_40 : decode cX3_gives 40 = .ok (.goto (-30), 3) := dk_167 255 226 (dk_at dksX3_gives_1 16 rfl rfl)
theorem dX3_gives_43 : decode cX3_gives 43 = .ok (.aload_n 1, 1) := dk_43 (dk_at dksX3_gives_1 19 rfl rfl)
theorem dX3_gives_44 : decode cX3_gives 44 = .ok (.iload_n 3, 1) := dk_29 (dk_at dksX3_gives_1 20 rfl rfl)
theorem dX3_gives_45 : decode cX3_gives 45 = .ok (.iconst 1, 1) := dk_4 (dk_at dksX3_gives_1 21 rfl rfl)
theorem dX3_gives_46 : decode cX3_gives 46 = .ok (.invokestatic 165, 3) := dk_184 0 165 (dk_at dksX3_gives_2 0 rfl rfl)
theorem dX3_gives_49 : decode cX3_gives 49 = .ok (.ifCond .eq 24, 3) := dk_153 0 24 (dk_at dksX3_gives_2 3 rfl rfl)
theorem dX3_gives_52 : decode cX3_gives 52 = .ok (.aload_n 0, 1) := dk_42 (dk_at dksX3_gives_2 6 rfl rfl)
theorem dX3_gives_53 : decode cX3_gives 53 = .ok (.getfield 145, 3) := dk_180 0 145 (dk_at dksX3_gives_2 7 rfl rfl)
theorem dX3_gives_56 : decode cX3_gives 56 = .ok (.iload_n 3, 1) := dk_29 (dk_at dksX3_gives_2 10 rfl rfl)
theorem dX3_gives_57 : decode cX3_gives 57 = .ok (.ishr, 1) := dk_122 (dk_at dksX3_gives_2 11 rfl rfl)
theorem dX3_gives_58 : decode cX3_gives 58 = .ok (.iconst 1, 1) := dk_4 (dk_at dksX3_gives_2 12 rfl rfl)
theorem dX3_gives_59 : decode cX3_gives 59 = .ok (.iand, 1) := dk_126 (dk_at dksX3_gives_2 13 rfl rfl)
theorem dX3_gives_60 : decode cX3_gives 60 = .ok (.ifCond .ne 13, 3) := dk_154 0 13 (dk_at dksX3_gives_2 14 rfl rfl)
theorem dX3_gives_63 : decode cX3_gives 63 = .ok (.aload_n 0, 1) := dk_42 (dk_at dksX3_gives_2 17 rfl rfl)
theorem dX3_gives_64 : decode cX3_gives 64 = .ok (.aload_n 1, 1) := dk_43 (dk_at dksX3_gives_2 18 rfl rfl)
theorem dX3_gives_65 : decode cX3_gives 65 = .ok (.iload_n 3, 1) := dk_29 (dk_at dksX3_gives_2 19 rfl rfl)
theorem dX3_gives_66 : decode cX3_gives 66 = .ok (.iconst 1, 1) := dk_4 (dk_at dksX3_gives_2 20 rfl rfl)
theorem dX3_gives_67 : decode cX3_gives 67 = .ok (.invokevirtual 190, 3) := dk_182 0 190 (dk_at dksX3_gives_2 21 rfl rfl)
theorem dX3_gives_70 : decode cX3_gives 70 = .ok (.goto 36, 3) := dk_167 0 36 (dk_at dksX3_gives_3 0 rfl rfl)
theorem dX3_gives_73 : decode cX3_gives 73 = .ok (.aload_n 1, 1) := dk_43 (dk_at dksX3_gives_3 3 rfl rfl)
theorem dX3_gives_74 : decode cX3_gives 74 = .ok (.iload_n 3, 1) := dk_29 (dk_at dksX3_gives_3 4 rfl rfl)
theorem dX3_gives_75 : decode cX3_gives 75 = .ok (.iconst 2, 1) := dk_5 (dk_at dksX3_gives_3 5 rfl rfl)
theorem dX3_gives_76 : decode cX3_gives 76 = .ok (.invokestatic 165, 3) := dk_184 0 165 (dk_at dksX3_gives_3 6 rfl rfl)
theorem dX3_gives_79 : decode cX3_gives 79 = .ok (.ifCond .eq 27, 3) := dk_153 0 27 (dk_at dksX3_gives_3 9 rfl rfl)
theorem dX3_gives_82 : decode cX3_gives 82 = .ok (.aload_n 1, 1) := dk_43 (dk_at dksX3_gives_3 12 rfl rfl)
theorem dX3_gives_83 : decode cX3_gives 83 = .ok (.iload_n 3, 1) := dk_29 (dk_at dksX3_gives_3 13 rfl rfl)
theorem dX3_gives_84 : decode cX3_gives 84 = .ok (.iconst 1, 1) := dk_4 (dk_at dksX3_gives_3 14 rfl rfl)
theorem dX3_gives_85 : decode cX3_gives 85 = .ok (.invokestatic 161, 3) := dk_184 0 161 (dk_at dksX3_gives_3 15 rfl rfl)
theorem dX3_gives_88 : decode cX3_gives 88 = .ok (.ifCond .ne 18, 3) := dk_154 0 18 (dk_at dksX3_gives_3 18 rfl rfl)
theorem dX3_gives_91 : decode cX3_gives 91 = .ok (.aload_n 1, 1) := dk_43 (dk_at dksX3_gives_3 21 rfl rfl)
theorem dX3_gives_92 : decode cX3_gives 92 = .ok (.bipush 18, 2) := dk_16 18 (dk_at dksX3_gives_3 22 rfl rfl)
theorem dX3_gives_94 : decode cX3_gives 94 = .ok (.iload_n 3, 1) := dk_29 (dk_at dksX3_gives_4 0 rfl rfl)
theorem dX3_gives_95 : decode cX3_gives 95 = .ok (.imul, 1) := dk_104 (dk_at dksX3_gives_4 1 rfl rfl)
theorem dX3_gives_96 : decode cX3_gives 96 = .ok (.iconst 1, 1) := dk_4 (dk_at dksX3_gives_4 2 rfl rfl)
theorem dX3_gives_97 : decode cX3_gives 97 = .ok (.iadd, 1) := dk_96 (dk_at dksX3_gives_4 3 rfl rfl)
theorem dX3_gives_98 : decode cX3_gives 98 = .ok (.iconst 1, 1) := dk_4 (dk_at dksX3_gives_4 4 rfl rfl)
theorem dX3_gives_99 : decode cX3_gives 99 = .ok (.iastore, 1) := dk_79 (dk_at dksX3_gives_4 5 rfl rfl)
theorem dX3_gives_100 : decode cX3_gives 100 = .ok (.aload_n 0, 1) := dk_42 (dk_at dksX3_gives_4 6 rfl rfl)
theorem dX3_gives_101 : decode cX3_gives 101 = .ok (.aload_n 1, 1) := dk_43 (dk_at dksX3_gives_4 7 rfl rfl)
theorem dX3_gives_102 : decode cX3_gives 102 = .ok (.iload_n 3, 1) := dk_29 (dk_at dksX3_gives_4 8 rfl rfl)
theorem dX3_gives_103 : decode cX3_gives 103 = .ok (.invokevirtual 169, 3) := dk_182 0 169 (dk_at dksX3_gives_4 9 rfl rfl)
theorem dX3_gives_106 : decode cX3_gives 106 = .ok (.return_, 1) := dk_177 (dk_at dksX3_gives_4 12 rfl rfl)
abbrev cX3_asks : ByteArray := prog_7_method_38_code
def yX3_asks : MethodName := ⟨RX3, "asks", "(I)I"⟩
def dkwX3_asks_2 : List UInt8 := [16, 18, 27, 104, 8, 96, 4, 79, 42, 180, 0, 49, 27, 5, 184, 0, 161, 172]
abbrev dktX3_asks_2 : List UInt8 := dkwX3_asks_2 ++ []
def dkwX3_asks_1 : List UInt8 := [180, 0, 49, 27, 8, 184, 0, 161, 4, 160, 0, 6, 16, 254, 172, 42, 182, 0, 208, 42, 180, 0, 49]
abbrev dktX3_asks_1 : List UInt8 := dkwX3_asks_1 ++ dktX3_asks_2
def dkwX3_asks_0 : List UInt8 := [42, 27, 182, 0, 214, 154, 0, 5, 2, 172, 42, 180, 0, 49, 27, 4, 184, 0, 165, 153, 0, 16, 42]
abbrev dktX3_asks_0 : List UInt8 := dkwX3_asks_0 ++ dktX3_asks_1
theorem dksX3_asks_0 : cX3_asks.data.toList.drop 0 = dktX3_asks_0 := by decide +kernel
theorem dksX3_asks_1 : cX3_asks.data.toList.drop 23 = dktX3_asks_1 := dk_seg dksX3_asks_0 23 rfl rfl
theorem dksX3_asks_2 : cX3_asks.data.toList.drop 46 = dktX3_asks_2 := dk_seg dksX3_asks_1 23 rfl rfl
theorem dX3_asks_0 : decode cX3_asks 0 = .ok (.aload_n 0, 1) := dk_42 (dk_at dksX3_asks_0 0 rfl rfl)
theorem dX3_asks_1 : decode cX3_asks 1 = .ok (.iload_n 1, 1) := dk_27 (dk_at dksX3_asks_0 1 rfl rfl)
theorem dX3_asks_2 : decode cX3_asks 2 = .ok (.invokevirtual 214, 3) := dk_182 0 214 (dk_at dksX3_asks_0 2 rfl rfl)
theorem dX3_asks_5 : decode cX3_asks 5 = .ok (.ifCond .ne 5, 3) := dk_154 0 5 (dk_at dksX3_asks_0 5 rfl rfl)
theorem dX3_asks_8 : decode cX3_asks 8 = .ok (.iconst (-1), 1) := dk_2 (dk_at dksX3_asks_0 8 rfl rfl)
theorem dX3_asks_9 : decode cX3_asks 9 = .ok (.ireturn, 1) := dk_172 (dk_at dksX3_asks_0 9 rfl rfl)
theorem dX3_asks_10 : decode cX3_asks 10 = .ok (.aload_n 0, 1) := dk_42 (dk_at dksX3_asks_0 10 rfl rfl)
theorem dX3_asks_11 : decode cX3_asks 11 = .ok (.getfield 49, 3) := dk_180 0 49 (dk_at dksX3_asks_0 11 rfl rfl)
theorem dX3_asks_14 : decode cX3_asks 14 = .ok (.iload_n 1, 1) := dk_27 (dk_at dksX3_asks_0 14 rfl rfl)
theorem dX3_asks_15 : decode cX3_asks 15 = .ok (.iconst 1, 1) := dk_4 (dk_at dksX3_asks_0 15 rfl rfl)
theorem dX3_asks_16 : decode cX3_asks 16 = .ok (.invokestatic 165, 3) := dk_184 0 165 (dk_at dksX3_asks_0 16 rfl rfl)
theorem dX3_asks_19 : decode cX3_asks 19 = .ok (.ifCond .eq 16, 3) := dk_153 0 16 (dk_at dksX3_asks_0 19 rfl rfl)
theorem dX3_asks_22 : decode cX3_asks 22 = .ok (.aload_n 0, 1) := dk_42 (dk_at dksX3_asks_0 22 rfl rfl)
theorem dX3_asks_23 : decode cX3_asks 23 = .ok (.getfield 49, 3) := dk_180 0 49 (dk_at dksX3_asks_1 0 rfl rfl)
theorem dX3_asks_26 : decode cX3_asks 26 = .ok (.iload_n 1, 1) := dk_27 (dk_at dksX3_asks_1 3 rfl rfl)
theorem dX3_asks_27 : decode cX3_asks 27 = .ok (.iconst 5, 1) := dk_8 (dk_at dksX3_asks_1 4 rfl rfl)
theorem dX3_asks_28 : decode cX3_asks 28 = .ok (.invokestatic 161, 3) := dk_184 0 161 (dk_at dksX3_asks_1 5 rfl rfl)
theorem dX3_asks_31 : decode cX3_asks 31 = .ok (.iconst 1, 1) := dk_4 (dk_at dksX3_asks_1 8 rfl rfl)
theorem dX3_asks_32 : decode cX3_asks 32 = .ok (.if_icmp .ne 6, 3) := dk_160 0 6 (dk_at dksX3_asks_1 9 rfl rfl)
theorem dX3_asks_35 : decode cX3_asks 35 = .ok (.bipush (-2), 2) := dk_16 254 (dk_at dksX3_asks_1 12 rfl rfl)
theorem dX3_asks_37 : decode cX3_asks 37 = .ok (.ireturn, 1) := dk_172 (dk_at dksX3_asks_1 14 rfl rfl)
theorem dX3_asks_38 : decode cX3_asks 38 = .ok (.aload_n 0, 1) := dk_42 (dk_at dksX3_asks_1 15 rfl rfl)
theorem dX3_asks_39 : decode cX3_asks 39 = .ok (.invokevirtual 208, 3) := dk_182 0 208 (dk_at dksX3_asks_1 16 rfl rfl)
theorem dX3_asks_42 : decode cX3_asks 42 = .ok (.aload_n 0, 1) := dk_42 (dk_at dksX3_asks_1 19 rfl rfl)
theorem dX3_asks_43 : decode cX3_asks 43 = .ok (.getfield 49, 3) := dk_180 0 49 (dk_at dksX3_asks_1 20 rfl rfl)
theorem dX3_asks_46 : decode cX3_asks 46 = .ok (.bipush 18, 2) := dk_16 18 (dk_at dksX3_asks_2 0 rfl rfl)
theorem dX3_asks_48 : decode cX3_asks 48 = .ok (.iload_n 1, 1) := dk_27 (dk_at dksX3_asks_2 2 rfl rfl)
theorem dX3_asks_49 : decode cX3_asks 49 = .ok (.imul, 1) := dk_104 (dk_at dksX3_asks_2 3 rfl rfl)
theorem dX3_asks_50 : decode cX3_asks 50 = .ok (.iconst 5, 1) := dk_8 (dk_at dksX3_asks_2 4 rfl rfl)
theorem dX3_asks_51 : decode cX3_asks 51 = .ok (.iadd, 1) := dk_96 (dk_at dksX3_asks_2 5 rfl rfl)
theorem dX3_asks_52 : decode cX3_asks 52 = .ok (.iconst 1, 1) := dk_4 (dk_at dksX3_asks_2 6 rfl rfl)
theorem dX3_asks_53 : decode cX3_asks 53 = .ok (.iastore, 1) := dk_79 (dk_at dksX3_asks_2 7 rfl rfl)
theorem dX3_asks_54 : decode cX3_asks 54 = .ok (.aload_n 0, 1) := dk_42 (dk_at dksX3_asks_2 8 rfl rfl)
theorem dX3_asks_55 : decode cX3_asks 55 = .ok (.getfield 49, 3) := dk_180 0 49 (dk_at dksX3_asks_2 9 rfl rfl)
theorem dX3_asks_58 : decode cX3_asks 58 = .ok (.iload_n 1, 1) := dk_27 (dk_at dksX3_asks_2 12 rfl rfl)
theorem dX3_asks_59 : decode cX3_asks 59 = .ok (.iconst 2, 1) := dk_5 (dk_at dksX3_asks_2 13 rfl rfl)
theorem dX3_asks_60 : decode cX3_asks 60 = .ok (.invokestatic 161, 3) := dk_184 0 161 (dk_at dksX3_asks_2 14 rfl rfl)
theorem dX3_asks_63 : decode cX3_asks 63 = .ok (.ireturn, 1) := dk_172 (dk_at dksX3_asks_2 17 rfl rfl)
abbrev cX3_isTask : ByteArray := prog_7_method_35_code
def yX3_isTask : MethodName := ⟨RX3, "isTask", "(I)Z"⟩
def dkwX3_isTask_0 : List UInt8 := [27, 3, 42, 180, 0, 142, 4, 100, 184, 0, 80, 172]
abbrev dktX3_isTask_0 : List UInt8 := dkwX3_isTask_0 ++ []
theorem dksX3_isTask_0 : cX3_isTask.data.toList.drop 0 = dktX3_isTask_0 := by decide +kernel
theorem dX3_isTask_0 : decode cX3_isTask 0 = .ok (.iload_n 1, 1) := dk_27 (dk_at dksX3_isTask_0 0 rfl rfl)
theorem dX3_isTask_1 : decode cX3_isTask 1 = .ok (.iconst 0, 1) := dk_3 (dk_at dksX3_isTask_0 1 rfl rfl)
theorem dX3_isTask_2 : decode cX3_isTask 2 = .ok (.aload_n 0, 1) := dk_42 (dk_at dksX3_isTask_0 2 rfl rfl)
theorem dX3_isTask_3 : decode cX3_isTask 3 = .ok (.getfield 142, 3) := dk_180 0 142 (dk_at dksX3_isTask_0 3 rfl rfl)
theorem dX3_isTask_6 : decode cX3_isTask 6 = .ok (.iconst 1, 1) := dk_4 (dk_at dksX3_isTask_0 6 rfl rfl)
theorem dX3_isTask_7 : decode cX3_isTask 7 = .ok (.isub, 1) := dk_100 (dk_at dksX3_isTask_0 7 rfl rfl)
theorem dX3_isTask_8 : decode cX3_isTask 8 = .ok (.invokestatic 80, 3) := dk_184 0 80 (dk_at dksX3_isTask_0 8 rfl rfl)
theorem dX3_isTask_11 : decode cX3_isTask 11 = .ok (.ireturn, 1) := dk_172 (dk_at dksX3_isTask_0 11 rfl rfl)
abbrev cX3_undo : ByteArray := prog_7_method_39_code
def yX3_undo : MethodName := ⟨RX3, "undo", "()I"⟩
def dkwX3_undo_3 : List UInt8 := [167, 255, 225, 42, 180, 0, 152, 172]
abbrev dktX3_undo_3 : List UInt8 := dkwX3_undo_3 ++ []
def dkwX3_undo_2 : List UInt8 := [180, 0, 49, 27, 42, 180, 0, 55, 17, 1, 70, 42, 180, 0, 205, 104, 27, 96, 46, 79, 132, 1, 1]
abbrev dktX3_undo_2 : List UInt8 := dkwX3_undo_2 ++ dktX3_undo_3
def dkwX3_undo_1 : List UInt8 := [181, 0, 205, 42, 89, 180, 0, 152, 4, 100, 181, 0, 152, 3, 60, 27, 17, 1, 70, 162, 0, 30, 42]
abbrev dktX3_undo_1 : List UInt8 := dkwX3_undo_1 ++ dktX3_undo_2
def dkwX3_undo_0 : List UInt8 := [42, 180, 0, 152, 154, 0, 6, 16, 254, 172, 42, 42, 180, 0, 205, 16, 12, 96, 4, 100, 16, 12, 112]
abbrev dktX3_undo_0 : List UInt8 := dkwX3_undo_0 ++ dktX3_undo_1
theorem dksX3_undo_0 : cX3_undo.data.toList.drop 0 = dktX3_undo_0 := by decide +kernel
theorem dksX3_undo_1 : cX3_undo.data.toList.drop 23 = dktX3_undo_1 := dk_seg dksX3_undo_0 23 rfl rfl
theorem dksX3_undo_2 : cX3_undo.data.toList.drop 46 = dktX3_undo_2 := dk_seg dksX3_undo_1 23 rfl rfl
theorem dksX3_undo_3 : cX3_undo.data.toList.drop 69 = dktX3_undo_3 := dk_seg dksX3_undo_2 23 rfl rfl
theorem dX3_undo_0 : decode cX3_undo 0 = .ok (.aload_n 0, 1) := dk_42 (dk_at dksX3_undo_0 0 rfl rfl)
theorem dX3_undo_1 : decode cX3_undo 1 = .ok (.getfield 152, 3) := dk_180 0 152 (dk_at dksX3_undo_0 1 rfl rfl)
theorem dX3_undo_4 : decode cX3_undo 4 = .ok (.ifCond .ne 6, 3) := dk_154 0 6 (dk_at dksX3_undo_0 4 rfl rfl)
theorem dX3_undo_7 : decode cX3_undo 7 = .ok (.bipush (-2), 2) := dk_16 254 (dk_at dksX3_undo_0 7 rfl rfl)
theorem dX3_undo_9 : decode cX3_undo 9 = .ok (.ireturn, 1) := dk_172 (dk_at dksX3_undo_0 9 rfl rfl)
theorem dX3_undo_10 : decode cX3_undo 10 = .ok (.aload_n 0, 1) := dk_42 (dk_at dksX3_undo_0 10 rfl rfl)
theorem dX3_undo_11 : decode cX3_undo 11 = .ok (.aload_n 0, 1) := dk_42 (dk_at dksX3_undo_0 11 rfl rfl)
theorem dX3_undo_12 : decode cX3_undo 12 = .ok (.getfield 205, 3) := dk_180 0 205 (dk_at dksX3_undo_0 12 rfl rfl)
theorem dX3_undo_15 : decode cX3_undo 15 = .ok (.bipush 12, 2) := dk_16 12 (dk_at dksX3_undo_0 15 rfl rfl)
theorem dX3_undo_17 : decode cX3_undo 17 = .ok (.iadd, 1) := dk_96 (dk_at dksX3_undo_0 17 rfl rfl)
theorem dX3_undo_18 : decode cX3_undo 18 = .ok (.iconst 1, 1) := dk_4 (dk_at dksX3_undo_0 18 rfl rfl)
theorem dX3_undo_19 : decode cX3_undo 19 = .ok (.isub, 1) := dk_100 (dk_at dksX3_undo_0 19 rfl rfl)
theorem dX3_undo_20 : decode cX3_undo 20 = .ok (.bipush 12, 2) := dk_16 12 (dk_at dksX3_undo_0 20 rfl rfl)
theorem dX3_undo_22 : decode cX3_undo 22 = .ok (.irem, 1) := dk_112 (dk_at dksX3_undo_0 22 rfl rfl)
theorem dX3_undo_23 : decode cX3_undo 23 = .ok (.putfield 205, 3) := dk_181 0 205 (dk_at dksX3_undo_1 0 rfl rfl)
theorem dX3_undo_26 : decode cX3_undo 26 = .ok (.aload_n 0, 1) := dk_42 (dk_at dksX3_undo_1 3 rfl rfl)
theorem dX3_undo_27 : decode cX3_undo 27 = .ok (.dup, 1) := dk_89 (dk_at dksX3_undo_1 4 rfl rfl)
theorem dX3_undo_28 : decode cX3_undo 28 = .ok (.getfield 152, 3) := dk_180 0 152 (dk_at dksX3_undo_1 5 rfl rfl)
theorem dX3_undo_31 : decode cX3_undo 31 = .ok (.iconst 1, 1) := dk_4 (dk_at dksX3_undo_1 8 rfl rfl)
theorem dX3_undo_32 : decode cX3_undo 32 = .ok (.isub, 1) := dk_100 (dk_at dksX3_undo_1 9 rfl rfl)
theorem dX3_undo_33 : decode cX3_undo 33 = .ok (.putfield 152, 3) := dk_181 0 152 (dk_at dksX3_undo_1 10 rfl rfl)
theorem dX3_undo_36 : decode cX3_undo 36 = .ok (.iconst 0, 1) := dk_3 (dk_at dksX3_undo_1 13 rfl rfl)
theorem dX3_undo_37 : decode cX3_undo 37 = .ok (.istore_n 1, 1) := dk_60 (dk_at dksX3_undo_1 14 rfl rfl)
theorem dX3_undo_38 : decode cX3_undo 38 = .ok (.iload_n 1, 1) := dk_27 (dk_at dksX3_undo_1 15 rfl rfl)
theorem dX3_undo_39 : decode cX3_undo 39 = .ok (.sipush 326, 3) := dk_17 1 70 (dk_at dksX3_undo_1 16 rfl rfl)
theorem dX3_undo_42 : decode cX3_undo 42 = .ok (.if_icmp .ge 30, 3) := dk_162 0 30 (dk_at dksX3_undo_1 19 rfl rfl)
theorem dX3_undo_45 : decode cX3_undo 45 = .ok (.aload_n 0, 1) := dk_42 (dk_at dksX3_undo_1 22 rfl rfl)
theorem dX3_undo_46 : decode cX3_undo 46 = .ok (.getfield 49, 3) := dk_180 0 49 (dk_at dksX3_undo_2 0 rfl rfl)
theorem dX3_undo_49 : decode cX3_undo 49 = .ok (.iload_n 1, 1) := dk_27 (dk_at dksX3_undo_2 3 rfl rfl)
theorem dX3_undo_50 : decode cX3_undo 50 = .ok (.aload_n 0, 1) := dk_42 (dk_at dksX3_undo_2 4 rfl rfl)
theorem dX3_undo_51 : decode cX3_undo 51 = .ok (.getfield 55, 3) := dk_180 0 55 (dk_at dksX3_undo_2 5 rfl rfl)
theorem dX3_undo_54 : decode cX3_undo 54 = .ok (.sipush 326, 3) := dk_17 1 70 (dk_at dksX3_undo_2 8 rfl rfl)
theorem dX3_undo_57 : decode cX3_undo 57 = .ok (.aload_n 0, 1) := dk_42 (dk_at dksX3_undo_2 11 rfl rfl)
theorem dX3_undo_58 : decode cX3_undo 58 = .ok (.getfield 205, 3) := dk_180 0 205 (dk_at dksX3_undo_2 12 rfl rfl)
theorem dX3_undo_61 : decode cX3_undo 61 = .ok (.imul, 1) := dk_104 (dk_at dksX3_undo_2 15 rfl rfl)
theorem dX3_undo_62 : decode cX3_undo 62 = .ok (.iload_n 1, 1) := dk_27 (dk_at dksX3_undo_2 16 rfl rfl)
theorem dX3_undo_63 : decode cX3_undo 63 = .ok (.iadd, 1) := dk_96 (dk_at dksX3_undo_2 17 rfl rfl)
theorem dX3_undo_64 : decode cX3_undo 64 = .ok (.iaload, 1) := dk_46 (dk_at dksX3_undo_2 18 rfl rfl)
theorem dX3_undo_65 : decode cX3_undo 65 = .ok (.iastore, 1) := dk_79 (dk_at dksX3_undo_2 19 rfl rfl)
theorem dX3_undo_66 : decode cX3_undo 66 = .ok (.iinc 1 1, 3) := dk_132 1 1 (dk_at dksX3_undo_2 20 rfl rfl)
theorem dX3_undo_69 : decode cX3_undo 69 = .ok (.goto (-31), 3) := dk_167 255 225 (dk_at dksX3_undo_3 0 rfl rfl)
theorem dX3_undo_72 : decode cX3_undo 72 = .ok (.aload_n 0, 1) := dk_42 (dk_at dksX3_undo_3 3 rfl rfl)
theorem dX3_undo_73 : decode cX3_undo 73 = .ok (.getfield 152, 3) := dk_180 0 152 (dk_at dksX3_undo_3 4 rfl rfl)
theorem dX3_undo_76 : decode cX3_undo 76 = .ok (.ireturn, 1) := dk_172 (dk_at dksX3_undo_3 7 rfl rfl)
abbrev cX3_task : ByteArray := prog_7_method_41_code
def yX3_task : MethodName := ⟨RX3, "task", "(II)I"⟩
def dkwX3_task_6 : List UInt8 := [16, 9, 184, 0, 161, 172, 42, 27, 182, 0, 217, 172]
abbrev dktX3_task_6 : List UInt8 := dkwX3_task_6 ++ []
def dkwX3_task_5 : List UInt8 := [180, 0, 49, 27, 7, 184, 0, 161, 172, 42, 180, 0, 49, 27, 8, 184, 0, 161, 172, 42, 180, 0, 49, 27]
abbrev dktX3_task_5 : List UInt8 := dkwX3_task_5 ++ dktX3_task_6
def dkwX3_task_4 : List UInt8 := [154, 0, 18, 42, 180, 0, 49, 27, 7, 184, 0, 161, 17, 39, 15, 160, 0, 8, 16, 247, 167, 0, 12, 42]
abbrev dktX3_task_4 : List UInt8 := dkwX3_task_4 ++ dktX3_task_5
def dkwX3_task_3 : List UInt8 := [184, 0, 161, 172, 42, 180, 0, 49, 27, 5, 184, 0, 161, 172, 42, 180, 0, 49, 27, 3, 184, 0, 165]
abbrev dktX3_task_3 : List UInt8 := dkwX3_task_3 ++ dktX3_task_4
def dkwX3_task_2 : List UInt8 := [42, 180, 0, 31, 27, 46, 172, 42, 180, 0, 49, 27, 3, 184, 0, 161, 172, 42, 180, 0, 49, 27, 4]
abbrev dktX3_task_2 : List UInt8 := dkwX3_task_2 ++ dktX3_task_3
def dkwX3_task_1 : List UInt8 := [170, 0, 0, 0, 0, 0, 143, 0, 0, 0, 0, 0, 0, 0, 6, 0, 0, 0, 43, 0, 0, 0, 50, 0, 0, 0, 60, 0, 0, 0, 70, 0, 0, 0, 80, 0, 0, 0, 122, 0, 0, 0, 132]
abbrev dktX3_task_1 : List UInt8 := dkwX3_task_1 ++ dktX3_task_2
def dkwX3_task_0 : List UInt8 := [42, 27, 182, 0, 214, 153, 0, 13, 28, 3, 16, 7, 184, 0, 80, 154, 0, 5, 2, 172, 28]
abbrev dktX3_task_0 : List UInt8 := dkwX3_task_0 ++ dktX3_task_1
theorem dksX3_task_0 : cX3_task.data.toList.drop 0 = dktX3_task_0 := by decide +kernel
theorem dksX3_task_1 : cX3_task.data.toList.drop 21 = dktX3_task_1 := dk_seg dksX3_task_0 21 rfl rfl
theorem dksX3_task_2 : cX3_task.data.toList.drop 64 = dktX3_task_2 := dk_seg dksX3_task_1 43 rfl rfl
theorem dksX3_task_3 : cX3_task.data.toList.drop 87 = dktX3_task_3 := dk_seg dksX3_task_2 23 rfl rfl
theorem dksX3_task_4 : cX3_task.data.toList.drop 110 = dktX3_task_4 := dk_seg dksX3_task_3 23 rfl rfl
theorem dksX3_task_5 : cX3_task.data.toList.drop 134 = dktX3_task_5 := dk_seg dksX3_task_4 24 rfl rfl
theorem dksX3_task_6 : cX3_task.data.toList.drop 158 = dktX3_task_6 := dk_seg dksX3_task_5 24 rfl rfl
theorem dX3_task_0 : decode cX3_task 0 = .ok (.aload_n 0, 1) := dk_42 (dk_at dksX3_task_0 0 rfl rfl)
theorem dX3_task_1 : decode cX3_task 1 = .ok (.iload_n 1, 1) := dk_27 (dk_at dksX3_task_0 1 rfl rfl)
theorem dX3_task_2 : decode cX3_task 2 = .ok (.invokevirtual 214, 3) := dk_182 0 214 (dk_at dksX3_task_0 2 rfl rfl)
theorem dX3_task_5 : decode cX3_task 5 = .ok (.ifCond .eq 13, 3) := dk_153 0 13 (dk_at dksX3_task_0 5 rfl rfl)
theorem dX3_task_8 : decode cX3_task 8 = .ok (.iload_n 2, 1) := dk_28 (dk_at dksX3_task_0 8 rfl rfl)
theorem dX3_task_9 : decode cX3_task 9 = .ok (.iconst 0, 1) := dk_3 (dk_at dksX3_task_0 9 rfl rfl)
theorem dX3_task_10 : decode cX3_task 10 = .ok (.bipush 7, 2) := dk_16 7 (dk_at dksX3_task_0 10 rfl rfl)
theorem dX3_task_12 : decode cX3_task 12 = .ok (.invokestatic 80, 3) := dk_184 0 80 (dk_at dksX3_task_0 12 rfl rfl)
theorem dX3_task_15 : decode cX3_task 15 = .ok (.ifCond .ne 5, 3) := dk_154 0 5 (dk_at dksX3_task_0 15 rfl rfl)
theorem dX3_task_18 : decode cX3_task 18 = .ok (.iconst (-1), 1) := dk_2 (dk_at dksX3_task_0 18 rfl rfl)
theorem dX3_task_19 : decode cX3_task 19 = .ok (.ireturn, 1) := dk_172 (dk_at dksX3_task_0 19 rfl rfl)
theorem dX3_task_20 : decode cX3_task 20 = .ok (.iload_n 2, 1) := dk_28 (dk_at dksX3_task_0 20 rfl rfl)
theorem dX3_task_21 : decode cX3_task 21 = .ok (.tableswitch 143 0 6 #[43, 50, 60, 70, 80, 122, 132], 43) := by decide +kernel
theorem dX3_task_64 : decode cX3_task 64 = .ok (.aload_n 0, 1) := dk_42 (dk_at dksX3_task_2 0 rfl rfl)
theorem dX3_task_65 : decode cX3_task 65 = .ok (.getfield 31, 3) := dk_180 0 31 (dk_at dksX3_task_2 1 rfl rfl)
theorem dX3_task_68 : decode cX3_task 68 = .ok (.iload_n 1, 1) := dk_27 (dk_at dksX3_task_2 4 rfl rfl)
theorem dX3_task_69 : decode cX3_task 69 = .ok (.iaload, 1) := dk_46 (dk_at dksX3_task_2 5 rfl rfl)
theorem dX3_task_70 : decode cX3_task 70 = .ok (.ireturn, 1) := dk_172 (dk_at dksX3_task_2 6 rfl rfl)
theorem dX3_task_71 : decode cX3_task 71 = .ok (.aload_n 0, 1) := dk_42 (dk_at dksX3_task_2 7 rfl rfl)
theorem dX3_task_72 : decode cX3_task 72 = .ok (.getfield 49, 3) := dk_180 0 49 (dk_at dksX3_task_2 8 rfl rfl)
theorem dX3_task_75 : decode cX3_task 75 = .ok (.iload_n 1, 1) := dk_27 (dk_at dksX3_task_2 11 rfl rfl)
theorem dX3_task_76 : decode cX3_task 76 = .ok (.iconst 0, 1) := dk_3 (dk_at dksX3_task_2 12 rfl rfl)
theorem dX3_task_77 : decode cX3_task 77 = .ok (.invokestatic 161, 3) := dk_184 0 161 (dk_at dksX3_task_2 13 rfl rfl)
theorem dX3_task_80 : decode cX3_task 80 = .ok (.ireturn, 1) := dk_172 (dk_at dksX3_task_2 16 rfl rfl)
theorem dX3_task_81 : decode cX3_task 81 = .ok (.aload_n 0, 1) := dk_42 (dk_at dksX3_task_2 17 rfl rfl)
theorem dX3_task_82 : decode cX3_task 82 = .ok (.getfield 49, 3) := dk_180 0 49 (dk_at dksX3_task_2 18 rfl rfl)
theorem dX3_task_85 : decode cX3_task 85 = .ok (.iload_n 1, 1) := dk_27 (dk_at dksX3_task_2 21 rfl rfl)
theorem dX3_task_86 : decode cX3_task 86 = .ok (.iconst 1, 1) := dk_4 (dk_at dksX3_task_2 22 rfl rfl)
theorem dX3_task_87 : decode cX3_task 87 = .ok (.invokestatic 161, 3) := dk_184 0 161 (dk_at dksX3_task_3 0 rfl rfl)
theorem dX3_task_90 : decode cX3_task 90 = .ok (.ireturn, 1) := dk_172 (dk_at dksX3_task_3 3 rfl rfl)
theorem dX3_task_91 : decode cX3_task 91 = .ok (.aload_n 0, 1) := dk_42 (dk_at dksX3_task_3 4 rfl rfl)
theorem dX3_task_92 : decode cX3_task 92 = .ok (.getfield 49, 3) := dk_180 0 49 (dk_at dksX3_task_3 5 rfl rfl)
theorem dX3_task_95 : decode cX3_task 95 = .ok (.iload_n 1, 1) := dk_27 (dk_at dksX3_task_3 8 rfl rfl)
theorem dX3_task_96 : decode cX3_task 96 = .ok (.iconst 2, 1) := dk_5 (dk_at dksX3_task_3 9 rfl rfl)
theorem dX3_task_97 : decode cX3_task 97 = .ok (.invokestatic 161, 3) := dk_184 0 161 (dk_at dksX3_task_3 10 rfl rfl)
theorem dX3_task_100 : decode cX3_task 100 = .ok (.ireturn, 1) := dk_172 (dk_at dksX3_task_3 13 rfl rfl)
theorem dX3_task_101 : decode cX3_task 101 = .ok (.aload_n 0, 1) := dk_42 (dk_at dksX3_task_3 14 rfl rfl)
theorem dX3_task_102 : decode cX3_task 102 = .ok (.getfield 49, 3) := dk_180 0 49 (dk_at dksX3_task_3 15 rfl rfl)
theorem dX3_task_105 : decode cX3_task 105 = .ok (.iload_n 1, 1) := dk_27 (dk_at dksX3_task_3 18 rfl rfl)
theorem dX3_task_106 : decode cX3_task 106 = .ok (.iconst 0, 1) := dk_3 (dk_at dksX3_task_3 19 rfl rfl)
theorem dX3_task_107 : decode cX3_task 107 = .ok (.invokestatic 165, 3) := dk_184 0 165 (dk_at dksX3_task_3 20 rfl rfl)
theorem dX3_task_110 : decode cX3_task 110 = .ok (.ifCond .ne 18, 3) := dk_154 0 18 (dk_at dksX3_task_4 0 rfl rfl)
theorem dX3_task_113 : decode cX3_task 113 = .ok (.aload_n 0, 1) := dk_42 (dk_at dksX3_task_4 3 rfl rfl)
theorem dX3_task_114 : decode cX3_task 114 = .ok (.getfield 49, 3) := dk_180 0 49 (dk_at dksX3_task_4 4 rfl rfl)
theorem dX3_task_117 : decode cX3_task 117 = .ok (.iload_n 1, 1) := dk_27 (dk_at dksX3_task_4 7 rfl rfl)
theorem dX3_task_118 : decode cX3_task 118 = .ok (.iconst 4, 1) := dk_7 (dk_at dksX3_task_4 8 rfl rfl)
theorem dX3_task_119 : decode cX3_task 119 = .ok (.invokestatic 161, 3) := dk_184 0 161 (dk_at dksX3_task_4 9 rfl rfl)
theorem dX3_task_122 : decode cX3_task 122 = .ok (.sipush 9999, 3) := dk_17 39 15 (dk_at dksX3_task_4 12 rfl rfl)
theorem dX3_task_125 : decode cX3_task 125 = .ok (.if_icmp .ne 8, 3) := dk_160 0 8 (dk_at dksX3_task_4 15 rfl rfl)
theorem dX3_task_128 : decode cX3_task 128 = .ok (.bipush (-9), 2) := dk_16 247 (dk_at dksX3_task_4 18 rfl rfl)
theorem dX3_task_130 : decode cX3_task 130 = .ok (.goto 12, 3) := dk_167 0 12 (dk_at dksX3_task_4 20 rfl rfl)
theorem dX3_task_133 : decode cX3_task 133 = .ok (.aload_n 0, 1) := dk_42 (dk_at dksX3_task_4 23 rfl rfl)
theorem dX3_task_134 : decode cX3_task 134 = .ok (.getfield 49, 3) := dk_180 0 49 (dk_at dksX3_task_5 0 rfl rfl)
theorem dX3_task_137 : decode cX3_task 137 = .ok (.iload_n 1, 1) := dk_27 (dk_at dksX3_task_5 3 rfl rfl)
theorem dX3_task_138 : decode cX3_task 138 = .ok (.iconst 4, 1) := dk_7 (dk_at dksX3_task_5 4 rfl rfl)
theorem dX3_task_139 : decode cX3_task 139 = .ok (.invokestatic 161, 3) := dk_184 0 161 (dk_at dksX3_task_5 5 rfl rfl)
theorem dX3_task_142 : decode cX3_task 142 = .ok (.ireturn, 1) := dk_172 (dk_at dksX3_task_5 8 rfl rfl)
theorem dX3_task_143 : decode cX3_task 143 = .ok (.aload_n 0, 1) := dk_42 (dk_at dksX3_task_5 9 rfl rfl)
theorem dX3_task_144 : decode cX3_task 144 = .ok (.getfield 49, 3) := dk_180 0 49 (dk_at dksX3_task_5 10 rfl rfl)
theorem dX3_task_147 : decode cX3_task 147 = .ok (.iload_n 1, 1) := dk_27 (dk_at dksX3_task_5 13 rfl rfl)
theorem dX3_task_148 : decode cX3_task 148 = .ok (.iconst 5, 1) := dk_8 (dk_at dksX3_task_5 14 rfl rfl)
theorem dX3_task_149 : decode cX3_task 149 = .ok (.invokestatic 161, 3) := dk_184 0 161 (dk_at dksX3_task_5 15 rfl rfl)
theorem dX3_task_152 : decode cX3_task 152 = .ok (.ireturn, 1) := dk_172 (dk_at dksX3_task_5 18 rfl rfl)
theorem dX3_task_153 : decode cX3_task 153 = .ok (.aload_n 0, 1) := dk_42 (dk_at dksX3_task_5 19 rfl rfl)
theorem dX3_task_154 : decode cX3_task 154 = .ok (.getfield 49, 3) := dk_180 0 49 (dk_at dksX3_task_5 20 rfl rfl)
theorem dX3_task_157 : decode cX3_task 157 = .ok (.iload_n 1, 1) := dk_27 (dk_at dksX3_task_5 23 rfl rfl)
theorem dX3_task_158 : decode cX3_task 158 = .ok (.bipush 9, 2) := dk_16 9 (dk_at dksX3_task_6 0 rfl rfl)
theorem dX3_task_160 : decode cX3_task 160 = .ok (.invokestatic 161, 3) := dk_184 0 161 (dk_at dksX3_task_6 2 rfl rfl)
theorem dX3_task_163 : decode cX3_task 163 = .ok (.ireturn, 1) := dk_172 (dk_at dksX3_task_6 5 rfl rfl)
theorem dX3_task_164 : decode cX3_task 164 = .ok (.aload_n 0, 1) := dk_42 (dk_at dksX3_task_6 6 rfl rfl)
theorem dX3_task_165 : decode cX3_task 165 = .ok (.iload_n 1, 1) := dk_27 (dk_at dksX3_task_6 7 rfl rfl)
theorem dX3_task_166 : decode cX3_task 166 = .ok (.invokevirtual 217, 3) := dk_182 0 217 (dk_at dksX3_task_6 8 rfl rfl)
theorem dX3_task_169 : decode cX3_task 169 = .ok (.ireturn, 1) := dk_172 (dk_at dksX3_task_6 11 rfl rfl)
abbrev cX3_busySet : ByteArray := prog_7_method_40_code
def yX3_busySet : MethodName := ⟨RX3, "busySet", "(I)I"⟩
def dkwX3_busySet_2 : List UInt8 := [29, 120, 167, 0, 4, 3, 128, 61, 132, 3, 1, 167, 255, 201, 28, 172]
abbrev dktX3_busySet_2 : List UInt8 := dkwX3_busySet_2 ++ []
def dkwX3_busySet_1 : List UInt8 := [180, 0, 49, 29, 4, 184, 0, 165, 154, 0, 15, 42, 180, 0, 49, 29, 5, 184, 0, 165, 153, 0, 9, 4]
abbrev dktX3_busySet_1 : List UInt8 := dkwX3_busySet_1 ++ dktX3_busySet_2
def dkwX3_busySet_0 : List UInt8 := [3, 61, 4, 62, 29, 42, 180, 0, 142, 162, 0, 53, 28, 42, 180, 0, 31, 29, 46, 27, 160, 0, 33, 42]
abbrev dktX3_busySet_0 : List UInt8 := dkwX3_busySet_0 ++ dktX3_busySet_1
theorem dksX3_busySet_0 : cX3_busySet.data.toList.drop 0 = dktX3_busySet_0 := by decide +kernel
theorem dksX3_busySet_1 : cX3_busySet.data.toList.drop 24 = dktX3_busySet_1 := dk_seg dksX3_busySet_0 24 rfl rfl
theorem dksX3_busySet_2 : cX3_busySet.data.toList.drop 48 = dktX3_busySet_2 := dk_seg dksX3_busySet_1 24 rfl rfl
theorem dX3_busySet_0 : decode cX3_busySet 0 = .ok (.iconst 0, 1) := dk_3 (dk_at dksX3_busySet_0 0 rfl rfl)
theorem dX3_busySet_1 : decode cX3_busySet 1 = .ok (.istore_n 2, 1) := dk_61 (dk_at dksX3_busySet_0 1 rfl rfl)
theorem dX3_busySet_2 : decode cX3_busySet 2 = .ok (.iconst 1, 1) := dk_4 (dk_at dksX3_busySet_0 2 rfl rfl)
theorem dX3_busySet_3 : decode cX3_busySet 3 = .ok (.istore_n 3, 1) := dk_62 (dk_at dksX3_busySet_0 3 rfl rfl)
theorem dX3_busySet_4 : decode cX3_busySet 4 = .ok (.iload_n 3, 1) := dk_29 (dk_at dksX3_busySet_0 4 rfl rfl)
theorem dX3_busySet_5 : decode cX3_busySet 5 = .ok (.aload_n 0, 1) := dk_42 (dk_at dksX3_busySet_0 5 rfl rfl)
theorem dX3_busySet_6 : decode cX3_busySet 6 = .ok (.getfield 142, 3) := dk_180 0 142 (dk_at dksX3_busySet_0 6 rfl rfl)
theorem dX3_busySet_9 : decode cX3_busySet 9 = .ok (.if_icmp .ge 53, 3) := dk_162 0 53 (dk_at dksX3_busySet_0 9 rfl rfl)
theorem dX3_busySet_12 : decode cX3_busySet 12 = .ok (.iload_n 2, 1) := dk_28 (dk_at dksX3_busySet_0 12 rfl rfl)
theorem dX3_busySet_13 : decode cX3_busySet 13 = .ok (.aload_n 0, 1) := dk_42 (dk_at dksX3_busySet_0 13 rfl rfl)
theorem dX3_busySet_14 : decode cX3_busySet 14 = .ok (.getfield 31, 3) := dk_180 0 31 (dk_at dksX3_busySet_0 14 rfl rfl)
theorem dX3_busySet_17 : decode cX3_busySet 17 = .ok (.iload_n 3, 1) := dk_29 (dk_at dksX3_busySet_0 17 rfl rfl)
theorem dX3_busySet_18 : decode cX3_busySet 18 = .ok (.iaload, 1) := dk_46 (dk_at dksX3_busySet_0 18 rfl rfl)
theorem dX3_busySet_19 : decode cX3_busySet 19 = .ok (.iload_n 1, 1) := dk_27 (dk_at dksX3_busySet_0 19 rfl rfl)
theorem dX3_busySet_20 : decode cX3_busySet 20 = .ok (.if_icmp .ne 33, 3) := dk_160 0 33 (dk_at dksX3_busySet_0 20 rfl rfl)
theorem dX3_busySet_23 : decode cX3_busySet 23 = .ok (.aload_n 0, 1) := dk_42 (dk_at dksX3_busySet_0 23 rfl rfl)
theorem dX3_busySet_24 : decode cX3_busySet 24 = .ok (.getfield 49, 3) := dk_180 0 49 (dk_at dksX3_busySet_1 0 rfl rfl)
theorem dX3_busySet_27 : decode cX3_busySet 27 = .ok (.iload_n 3, 1) := dk_29 (dk_at dksX3_busySet_1 3 rfl rfl)
theorem dX3_busySet_28 : decode cX3_busySet 28 = .ok (.iconst 1, 1) := dk_4 (dk_at dksX3_busySet_1 4 rfl rfl)
theorem dX3_busySet_29 : decode cX3_busySet 29 = .ok (.invokestatic 165, 3) := dk_184 0 165 (dk_at dksX3_busySet_1 5 rfl rfl)
theorem dX3_busySet_32 : decode cX3_busySet 32 = .ok (.ifCond .ne 15, 3) := dk_154 0 15 (dk_at dksX3_busySet_1 8 rfl rfl)
theorem dX3_busySet_35 : decode cX3_busySet 35 = .ok (.aload_n 0, 1) := dk_42 (dk_at dksX3_busySet_1 11 rfl rfl)
theorem dX3_busySet_36 : decode cX3_busySet 36 = .ok (.getfield 49, 3) := dk_180 0 49 (dk_at dksX3_busySet_1 12 rfl rfl)
theorem dX3_busySet_39 : decode cX3_busySet 39 = .ok (.iload_n 3, 1) := dk_29 (dk_at dksX3_busySet_1 15 rfl rfl)
theorem dX3_busySet_40 : decode cX3_busySet 40 = .ok (.iconst 2, 1) := dk_5 (dk_at dksX3_busySet_1 16 rfl rfl)
theorem dX3_busySet_41 : decode cX3_busySet 41 = .ok (.invokestatic 165, 3) := dk_184 0 165 (dk_at dksX3_busySet_1 17 rfl rfl)
theorem dX3_busySet_44 : decode cX3_busySet 44 = .ok (.ifCond .eq 9, 3) := dk_153 0 9 (dk_at dksX3_busySet_1 20 rfl rfl)
theorem dX3_busySet_47 : decode cX3_busySet 47 = .ok (.iconst 1, 1) := dk_4 (dk_at dksX3_busySet_1 23 rfl rfl)
theorem dX3_busySet_48 : decode cX3_busySet 48 = .ok (.iload_n 3, 1) := dk_29 (dk_at dksX3_busySet_2 0 rfl rfl)
theorem dX3_busySet_49 : decode cX3_busySet 49 = .ok (.ishl, 1) := dk_120 (dk_at dksX3_busySet_2 1 rfl rfl)
theorem dX3_busySet_50 : decode cX3_busySet 50 = .ok (.goto 4, 3) := dk_167 0 4 (dk_at dksX3_busySet_2 2 rfl rfl)
theorem dX3_busySet_53 : decode cX3_busySet 53 = .ok (.iconst 0, 1) := dk_3 (dk_at dksX3_busySet_2 5 rfl rfl)
theorem dX3_busySet_54 : decode cX3_busySet 54 = .ok (.ior, 1) := dk_128 (dk_at dksX3_busySet_2 6 rfl rfl)
theorem dX3_busySet_55 : decode cX3_busySet 55 = .ok (.istore_n 2, 1) := dk_61 (dk_at dksX3_busySet_2 7 rfl rfl)
theorem dX3_busySet_56 : decode cX3_busySet 56 = .ok (.iinc 3 1, 3) := dk_132 3 1 (dk_at dksX3_busySet_2 8 rfl rfl)
theorem dX3_busySet_59 : decode cX3_busySet 59 = .ok (.goto (-55), 3) := dk_167 255 201 (dk_at dksX3_busySet_2 11 rfl rfl)
theorem dX3_busySet_62 : decode cX3_busySet 62 = .ok (.iload_n 2, 1) := dk_28 (dk_at dksX3_busySet_2 14 rfl rfl)
theorem dX3_busySet_63 : decode cX3_busySet 63 = .ok (.ireturn, 1) := dk_172 (dk_at dksX3_busySet_2 15 rfl rfl)
abbrev cX3_failure : ByteArray := prog_7_method_42_code
def yX3_failure : MethodName := ⟨RX3, "failure", "(II)I"⟩
def dkwX3_failure_1 : List UInt8 := [184, 0, 161, 162, 0, 18, 42, 180, 0, 49, 27, 16, 10, 28, 96, 184, 0, 161, 167, 0, 5, 16, 247, 172]
abbrev dktX3_failure_1 : List UInt8 := dkwX3_failure_1 ++ []
def dkwX3_failure_0 : List UInt8 := [42, 27, 182, 0, 214, 153, 0, 7, 28, 156, 0, 5, 2, 172, 28, 42, 180, 0, 49, 27, 16, 9]
abbrev dktX3_failure_0 : List UInt8 := dkwX3_failure_0 ++ dktX3_failure_1
theorem dksX3_failure_0 : cX3_failure.data.toList.drop 0 = dktX3_failure_0 := by decide +kernel
theorem dksX3_failure_1 : cX3_failure.data.toList.drop 22 = dktX3_failure_1 := dk_seg dksX3_failure_0 22 rfl rfl
theorem dX3_failure_0 : decode cX3_failure 0 = .ok (.aload_n 0, 1) := dk_42 (dk_at dksX3_failure_0 0 rfl rfl)
theorem dX3_failure_1 : decode cX3_failure 1 = .ok (.iload_n 1, 1) := dk_27 (dk_at dksX3_failure_0 1 rfl rfl)
theorem dX3_failure_2 : decode cX3_failure 2 = .ok (.invokevirtual 214, 3) := dk_182 0 214 (dk_at dksX3_failure_0 2 rfl rfl)
theorem dX3_failure_5 : decode cX3_failure 5 = .ok (.ifCond .eq 7, 3) := dk_153 0 7 (dk_at dksX3_failure_0 5 rfl rfl)
theorem dX3_failure_8 : decode cX3_failure 8 = .ok (.iload_n 2, 1) := dk_28 (dk_at dksX3_failure_0 8 rfl rfl)
theorem dX3_failure_9 : decode cX3_failure 9 = .ok (.ifCond .ge 5, 3) := dk_156 0 5 (dk_at dksX3_failure_0 9 rfl rfl)
theorem dX3_failure_12 : decode cX3_failure 12 = .ok (.iconst (-1), 1) := dk_2 (dk_at dksX3_failure_0 12 rfl rfl)
theorem dX3_failure_13 : decode cX3_failure 13 = .ok (.ireturn, 1) := dk_172 (dk_at dksX3_failure_0 13 rfl rfl)
theorem dX3_failure_14 : decode cX3_failure 14 = .ok (.iload_n 2, 1) := dk_28 (dk_at dksX3_failure_0 14 rfl rfl)
theorem dX3_failure_15 : decode cX3_failure 15 = .ok (.aload_n 0, 1) := dk_42 (dk_at dksX3_failure_0 15 rfl rfl)
theorem dX3_failure_16 : decode cX3_failure 16 = .ok (.getfield 49, 3) := dk_180 0 49 (dk_at dksX3_failure_0 16 rfl rfl)
theorem dX3_failure_19 : decode cX3_failure 19 = .ok (.iload_n 1, 1) := dk_27 (dk_at dksX3_failure_0 19 rfl rfl)
theorem dX3_failure_20 : decode cX3_failure 20 = .ok (.bipush 9, 2) := dk_16 9 (dk_at dksX3_failure_0 20 rfl rfl)
theorem dX3_failure_22 : decode cX3_failure 22 = .ok (.invokestatic 161, 3) := dk_184 0 161 (dk_at dksX3_failure_1 0 rfl rfl)
theorem dX3_failure_25 : decode cX3_failure 25 = .ok (.if_icmp .ge 18, 3) := dk_162 0 18 (dk_at dksX3_failure_1 3 rfl rfl)
theorem dX3_failure_28 : decode cX3_failure 28 = .ok (.aload_n 0, 1) := dk_42 (dk_at dksX3_failure_1 6 rfl rfl)
theorem dX3_failure_29 : decode cX3_failure 29 = .ok (.getfield 49, 3) := dk_180 0 49 (dk_at dksX3_failure_1 7 rfl rfl)
theorem dX3_failure_32 : decode cX3_failure 32 = .ok (.iload_n 1, 1) := dk_27 (dk_at dksX3_failure_1 10 rfl rfl)
theorem dX3_failure_33 : decode cX3_failure 33 = .ok (.bipush 10, 2) := dk_16 10 (dk_at dksX3_failure_1 11 rfl rfl)
theorem dX3_failure_35 : decode cX3_failure 35 = .ok (.iload_n 2, 1) := dk_28 (dk_at dksX3_failure_1 13 rfl rfl)
theorem dX3_failure_36 : decode cX3_failure 36 = .ok (.iadd, 1) := dk_96 (dk_at dksX3_failure_1 14 rfl rfl)
theorem dX3_failure_37 : decode cX3_failure 37 = .ok (.invokestatic 161, 3) := dk_184 0 161 (dk_at dksX3_failure_1 15 rfl rfl)
theorem dX3_failure_40 : decode cX3_failure 40 = .ok (.goto 5, 3) := dk_167 0 5 (dk_at dksX3_failure_1 18 rfl rfl)
theorem dX3_failure_43 : decode cX3_failure 43 = .ok (.bipush (-9), 2) := dk_16 247 (dk_at dksX3_failure_1 21 rfl rfl)
theorem dX3_failure_45 : decode cX3_failure 45 = .ok (.ireturn, 1) := dk_172 (dk_at dksX3_failure_1 23 rfl rfl)
abbrev cX3_trace : ByteArray := prog_7_method_43_code
def yX3_trace : MethodName := ⟨RX3, "trace", "(II)I"⟩
def dkwX3_trace_1 : List UInt8 := [162, 0, 20, 42, 180, 0, 49, 17, 0, 146, 6, 27, 104, 96, 28, 96, 46, 167, 0, 5, 16, 247, 172]
abbrev dktX3_trace_1 : List UInt8 := dkwX3_trace_1 ++ []
def dkwX3_trace_0 : List UInt8 := [27, 155, 0, 12, 28, 3, 5, 184, 0, 80, 154, 0, 5, 2, 172, 27, 42, 180, 0, 49, 17, 0, 145, 46]
abbrev dktX3_trace_0 : List UInt8 := dkwX3_trace_0 ++ dktX3_trace_1
theorem dksX3_trace_0 : cX3_trace.data.toList.drop 0 = dktX3_trace_0 := by decide +kernel
theorem dksX3_trace_1 : cX3_trace.data.toList.drop 24 = dktX3_trace_1 := dk_seg dksX3_trace_0 24 rfl rfl
theorem dX3_trace_0 : decode cX3_trace 0 = .ok (.iload_n 1, 1) := dk_27 (dk_at dksX3_trace_0 0 rfl rfl)
theorem dX3_trace_1 : decode cX3_trace 1 = .ok (.ifCond .lt 12, 3) := dk_155 0 12 (dk_at dksX3_trace_0 1 rfl rfl)
theorem dX3_trace_4 : decode cX3_trace 4 = .ok (.iload_n 2, 1) := dk_28 (dk_at dksX3_trace_0 4 rfl rfl)
theorem dX3_trace_5 : decode cX3_trace 5 = .ok (.iconst 0, 1) := dk_3 (dk_at dksX3_trace_0 5 rfl rfl)
theorem dX3_trace_6 : decode cX3_trace 6 = .ok (.iconst 2, 1) := dk_5 (dk_at dksX3_trace_0 6 rfl rfl)
theorem dX3_trace_7 : decode cX3_trace 7 = .ok (.invokestatic 80, 3) := dk_184 0 80 (dk_at dksX3_trace_0 7 rfl rfl)
theorem dX3_trace_10 : decode cX3_trace 10 = .ok (.ifCond .ne 5, 3) := dk_154 0 5 (dk_at dksX3_trace_0 10 rfl rfl)
theorem dX3_trace_13 : decode cX3_trace 13 = .ok (.iconst (-1), 1) := dk_2 (dk_at dksX3_trace_0 13 rfl rfl)
theorem dX3_trace_14 : decode cX3_trace 14 = .ok (.ireturn, 1) := dk_172 (dk_at dksX3_trace_0 14 rfl rfl)
theorem dX3_trace_15 : decode cX3_trace 15 = .ok (.iload_n 1, 1) := dk_27 (dk_at dksX3_trace_0 15 rfl rfl)
theorem dX3_trace_16 : decode cX3_trace 16 = .ok (.aload_n 0, 1) := dk_42 (dk_at dksX3_trace_0 16 rfl rfl)
theorem dX3_trace_17 : decode cX3_trace 17 = .ok (.getfield 49, 3) := dk_180 0 49 (dk_at dksX3_trace_0 17 rfl rfl)
theorem dX3_trace_20 : decode cX3_trace 20 = .ok (.sipush 145, 3) := dk_17 0 145 (dk_at dksX3_trace_0 20 rfl rfl)
theorem dX3_trace_23 : decode cX3_trace 23 = .ok (.iaload, 1) := dk_46 (dk_at dksX3_trace_0 23 rfl rfl)
theorem dX3_trace_24 : decode cX3_trace 24 = .ok (.if_icmp .ge 20, 3) := dk_162 0 20 (dk_at dksX3_trace_1 0 rfl rfl)
theorem dX3_trace_27 : decode cX3_trace 27 = .ok (.aload_n 0, 1) := dk_42 (dk_at dksX3_trace_1 3 rfl rfl)
theorem dX3_trace_28 : decode cX3_trace 28 = .ok (.getfield 49, 3) := dk_180 0 49 (dk_at dksX3_trace_1 4 rfl rfl)
theorem dX3_trace_31 : decode cX3_trace 31 = .ok (.sipush 146, 3) := dk_17 0 146 (dk_at dksX3_trace_1 7 rfl rfl)
theorem dX3_trace_34 : decode cX3_trace 34 = .ok (.iconst 3, 1) := dk_6 (dk_at dksX3_trace_1 10 rfl rfl)
theorem dX3_trace_35 : decode cX3_trace 35 = .ok (.iload_n 1, 1) := dk_27 (dk_at dksX3_trace_1 11 rfl rfl)
theorem dX3_trace_36 : decode cX3_trace 36 = .ok (.imul, 1) := dk_104 (dk_at dksX3_trace_1 12 rfl rfl)
theorem dX3_trace_37 : decode cX3_trace 37 = .ok (.iadd, 1) := dk_96 (dk_at dksX3_trace_1 13 rfl rfl)
theorem dX3_trace_38 : decode cX3_trace 38 = .ok (.iload_n 2, 1) := dk_28 (dk_at dksX3_trace_1 14 rfl rfl)
theorem dX3_trace_39 : decode cX3_trace 39 = .ok (.iadd, 1) := dk_96 (dk_at dksX3_trace_1 15 rfl rfl)
theorem dX3_trace_40 : decode cX3_trace 40 = .ok (.iaload, 1) := dk_46 (dk_at dksX3_trace_1 16 rfl rfl)
theorem dX3_trace_41 : decode cX3_trace 41 = .ok (.goto 5, 3) := dk_167 0 5 (dk_at dksX3_trace_1 17 rfl rfl)
theorem dX3_trace_44 : decode cX3_trace 44 = .ok (.bipush (-9), 2) := dk_16 247 (dk_at dksX3_trace_1 20 rfl rfl)
theorem dX3_trace_46 : decode cX3_trace 46 = .ok (.ireturn, 1) := dk_172 (dk_at dksX3_trace_1 22 rfl rfl)
abbrev cX3_ends_2 : ByteArray := prog_7_method_45_code
def yX3_ends_2 : MethodName := ⟨RX3, "ends", "(II)I"⟩
def dkwX3_ends_2_3 : List UInt8 := [184, 0, 161, 172]
abbrev dktX3_ends_2_3 : List UInt8 := dkwX3_ends_2_3 ++ []
def dkwX3_ends_2_2 : List UInt8 := [154, 0, 8, 16, 247, 167, 0, 21, 42, 180, 0, 52, 27, 28, 154, 0, 8, 16, 8, 167, 0, 4, 4]
abbrev dktX3_ends_2_2 : List UInt8 := dkwX3_ends_2_2 ++ dktX3_ends_2_3
def dkwX3_ends_2_1 : List UInt8 := [180, 0, 52, 184, 0, 221, 42, 17, 0, 200, 182, 0, 225, 42, 180, 0, 52, 27, 6, 184, 0, 165]
abbrev dktX3_ends_2_1 : List UInt8 := dkwX3_ends_2_1 ++ dktX3_ends_2_2
def dkwX3_ends_2_0 : List UInt8 := [42, 27, 182, 0, 214, 153, 0, 12, 28, 3, 4, 184, 0, 80, 154, 0, 5, 2, 172, 42, 180, 0, 49, 42]
abbrev dktX3_ends_2_0 : List UInt8 := dkwX3_ends_2_0 ++ dktX3_ends_2_1
theorem dksX3_ends_2_0 : cX3_ends_2.data.toList.drop 0 = dktX3_ends_2_0 := by decide +kernel
theorem dksX3_ends_2_1 : cX3_ends_2.data.toList.drop 24 = dktX3_ends_2_1 := dk_seg dksX3_ends_2_0 24 rfl rfl
theorem dksX3_ends_2_2 : cX3_ends_2.data.toList.drop 46 = dktX3_ends_2_2 := dk_seg dksX3_ends_2_1 22 rfl rfl
theorem dksX3_ends_2_3 : cX3_ends_2.data.toList.drop 69 = dktX3_ends_2_3 := dk_seg dksX3_ends_2_2 23 rfl rfl
theorem dX3_ends_2_0 : decode cX3_ends_2 0 = .ok (.aload_n 0, 1) := dk_42 (dk_at dksX3_ends_2_0 0 rfl rfl)
theorem dX3_ends_2_1 : decode cX3_ends_2 1 = .ok (.iload_n 1, 1) := dk_27 (dk_at dksX3_ends_2_0 1 rfl rfl)
theorem dX3_ends_2_2 : decode cX3_ends_2 2 = .ok (.invokevirtual 214, 3) := dk_182 0 214 (dk_at dksX3_ends_2_0 2 rfl rfl)
theorem dX3_ends_2_5 : decode cX3_ends_2 5 = .ok (.ifCond .eq 12, 3) := dk_153 0 12 (dk_at dksX3_ends_2_0 5 rfl rfl)
theorem dX3_ends_2_8 : decode cX3_ends_2 8 = .ok (.iload_n 2, 1) := dk_28 (dk_at dksX3_ends_2_0 8 rfl rfl)
theorem dX3_ends_2_9 : decode cX3_ends_2 9 = .ok (.iconst 0, 1) := dk_3 (dk_at dksX3_ends_2_0 9 rfl rfl)
theorem dX3_ends_2_10 : decode cX3_ends_2 10 = .ok (.iconst 1, 1) := dk_4 (dk_at dksX3_ends_2_0 10 rfl rfl)
theorem dX3_ends_2_11 : decode cX3_ends_2 11 = .ok (.invokestatic 80, 3) := dk_184 0 80 (dk_at dksX3_ends_2_0 11 rfl rfl)
theorem dX3_ends_2_14 : decode cX3_ends_2 14 = .ok (.ifCond .ne 5, 3) := dk_154 0 5 (dk_at dksX3_ends_2_0 14 rfl rfl)
theorem dX3_ends_2_17 : decode cX3_ends_2 17 = .ok (.iconst (-1), 1) := dk_2 (dk_at dksX3_ends_2_0 17 rfl rfl)
theorem dX3_ends_2_18 : decode cX3_ends_2 18 = .ok (.ireturn, 1) := dk_172 (dk_at dksX3_ends_2_0 18 rfl rfl)
theorem dX3_ends_2_19 : decode cX3_ends_2 19 = .ok (.aload_n 0, 1) := dk_42 (dk_at dksX3_ends_2_0 19 rfl rfl)
theorem dX3_ends_2_20 : decode cX3_ends_2 20 = .ok (.getfield 49, 3) := dk_180 0 49 (dk_at dksX3_ends_2_0 20 rfl rfl)
theorem dX3_ends_2_23 : decode cX3_ends_2 23 = .ok (.aload_n 0, 1) := dk_42 (dk_at dksX3_ends_2_0 23 rfl rfl)
theorem dX3_ends_2_24 : decode cX3_ends_2 24 = .ok (.getfield 52, 3) := dk_180 0 52 (dk_at dksX3_ends_2_1 0 rfl rfl)
theorem dX3_ends_2_27 : decode cX3_ends_2 27 = .ok (.invokestatic 221, 3) := dk_184 0 221 (dk_at dksX3_ends_2_1 3 rfl rfl)
theorem dX3_ends_2_30 : decode cX3_ends_2 30 = .ok (.aload_n 0, 1) := dk_42 (dk_at dksX3_ends_2_1 6 rfl rfl)
theorem dX3_ends_2_31 : decode cX3_ends_2 31 = .ok (.sipush 200, 3) := dk_17 0 200 (dk_at dksX3_ends_2_1 7 rfl rfl)
theorem dX3_ends_2_34 : decode cX3_ends_2 34 = .ok (.invokevirtual 225, 3) := dk_182 0 225 (dk_at dksX3_ends_2_1 10 rfl rfl)
theorem dX3_ends_2_37 : decode cX3_ends_2 37 = .ok (.aload_n 0, 1) := dk_42 (dk_at dksX3_ends_2_1 13 rfl rfl)
theorem dX3_ends_2_38 : decode cX3_ends_2 38 = .ok (.getfield 52, 3) := dk_180 0 52 (dk_at dksX3_ends_2_1 14 rfl rfl)
theorem dX3_ends_2_41 : decode cX3_ends_2 41 = .ok (.iload_n 1, 1) := dk_27 (dk_at dksX3_ends_2_1 17 rfl rfl)
theorem dX3_ends_2_42 : decode cX3_ends_2 42 = .ok (.iconst 3, 1) := dk_6 (dk_at dksX3_ends_2_1 18 rfl rfl)
theorem dX3_ends_2_43 : decode cX3_ends_2 43 = .ok (.invokestatic 165, 3) := dk_184 0 165 (dk_at dksX3_ends_2_1 19 rfl rfl)
theorem dX3_ends_2_46 : decode cX3_ends_2 46 = .ok (.ifCond .ne 8, 3) := dk_154 0 8 (dk_at dksX3_ends_2_2 0 rfl rfl)
theorem dX3_ends_2_49 : decode cX3_ends_2 49 = .ok (.bipush (-9), 2) := dk_16 247 (dk_at dksX3_ends_2_2 3 rfl rfl)
theorem dX3_ends_2_51 : decode cX3_ends_2 51 = .ok (.goto 21, 3) := dk_167 0 21 (dk_at dksX3_ends_2_2 5 rfl rfl)
theorem dX3_ends_2_54 : decode cX3_ends_2 54 = .ok (.aload_n 0, 1) := dk_42 (dk_at dksX3_ends_2_2 8 rfl rfl)
theorem dX3_ends_2_55 : decode cX3_ends_2 55 = .ok (.getfield 52, 3) := dk_180 0 52 (dk_at dksX3_ends_2_2 9 rfl rfl)
theorem dX3_ends_2_58 : decode cX3_ends_2 58 = .ok (.iload_n 1, 1) := dk_27 (dk_at dksX3_ends_2_2 12 rfl rfl)
theorem dX3_ends_2_59 : decode cX3_ends_2 59 = .ok (.iload_n 2, 1) := dk_28 (dk_at dksX3_ends_2_2 13 rfl rfl)
theorem dX3_ends_2_60 : decode cX3_ends_2 60 = .ok (.ifCond .ne 8, 3) := dk_154 0 8 (dk_at dksX3_ends_2_2 14 rfl rfl)
theorem dX3_ends_2_63 : decode cX3_ends_2 63 = .ok (.bipush 8, 2) := dk_16 8 (dk_at dksX3_ends_2_2 17 rfl rfl)
theorem dX3_ends_2_65 : decode cX3_ends_2 65 = .ok (.goto 4, 3) := dk_167 0 4 (dk_at dksX3_ends_2_2 19 rfl rfl)
theorem dX3_ends_2_68 : decode cX3_ends_2 68 = .ok (.iconst 1, 1) := dk_4 (dk_at dksX3_ends_2_2 22 rfl rfl)
theorem dX3_ends_2_69 : decode cX3_ends_2 69 = .ok (.invokestatic 161, 3) := dk_184 0 161 (dk_at dksX3_ends_2_3 0 rfl rfl)
theorem dX3_ends_2_72 : decode cX3_ends_2 72 = .ok (.ireturn, 1) := dk_172 (dk_at dksX3_ends_2_3 3 rfl rfl)
abbrev cX3_copies : ByteArray := prog_7_method_19_code
def yX3_copies : MethodName := ⟨RX3, "copies", "([I[I)V"⟩
def dkwX3_copies_0 : List UInt8 := [3, 61, 28, 17, 1, 70, 162, 0, 15, 43, 28, 42, 28, 46, 79, 132, 2, 1, 167, 255, 240, 177]
abbrev dktX3_copies_0 : List UInt8 := dkwX3_copies_0 ++ []
theorem dksX3_copies_0 : cX3_copies.data.toList.drop 0 = dktX3_copies_0 := by decide +kernel
theorem dX3_copies_0 : decode cX3_copies 0 = .ok (.iconst 0, 1) := dk_3 (dk_at dksX3_copies_0 0 rfl rfl)
theorem dX3_copies_1 : decode cX3_copies 1 = .ok (.istore_n 2, 1) := dk_61 (dk_at dksX3_copies_0 1 rfl rfl)
theorem dX3_copies_2 : decode cX3_copies 2 = .ok (.iload_n 2, 1) := dk_28 (dk_at dksX3_copies_0 2 rfl rfl)
theorem dX3_copies_3 : decode cX3_copies 3 = .ok (.sipush 326, 3) := dk_17 1 70 (dk_at dksX3_copies_0 3 rfl rfl)
theorem dX3_copies_6 : decode cX3_copies 6 = .ok (.if_icmp .ge 15, 3) := dk_162 0 15 (dk_at dksX3_copies_0 6 rfl rfl)
theorem dX3_copies_9 : decode cX3_copies 9 = .ok (.aload_n 1, 1) := dk_43 (dk_at dksX3_copies_0 9 rfl rfl)
theorem dX3_copies_10 : decode cX3_copies 10 = .ok (.iload_n 2, 1) := dk_28 (dk_at dksX3_copies_0 10 rfl rfl)
theorem dX3_copies_11 : decode cX3_copies 11 = .ok (.aload_n 0, 1) := dk_42 (dk_at dksX3_copies_0 11 rfl rfl)
theorem dX3_copies_12 : decode cX3_copies 12 = .ok (.iload_n 2, 1) := dk_28 (dk_at dksX3_copies_0 12 rfl rfl)
theorem dX3_copies_13 : decode cX3_copies 13 = .ok (.iaload, 1) := dk_46 (dk_at dksX3_copies_0 13 rfl rfl)
theorem dX3_copies_14 : decode cX3_copies 14 = .ok (.iastore, 1) := dk_79 (dk_at dksX3_copies_0 14 rfl rfl)
theorem dX3_copies_15 : decode cX3_copies 15 = .ok (.iinc 2 1, 3) := dk_132 2 1 (dk_at dksX3_copies_0 15 rfl rfl)
theorem dX3_copies_18 : decode cX3_copies 18 = .ok (.goto (-16), 3) := dk_167 255 240 (dk_at dksX3_copies_0 18 rfl rfl)
theorem dX3_copies_21 : decode cX3_copies 21 = .ok (.return_, 1) := dk_177 (dk_at dksX3_copies_0 21 rfl rfl)
abbrev cX3_goesOn : ByteArray := prog_7_method_44_code
def yX3_goesOn : MethodName := ⟨RX3, "goesOn", "(I)V"⟩
def dkwX3_goesOn_1 : List UInt8 := [182, 0, 211, 132, 2, 1, 167, 255, 228, 177]
abbrev dktX3_goesOn_1 : List UInt8 := dkwX3_goesOn_1 ++ []
def dkwX3_goesOn_0 : List UInt8 := [3, 61, 28, 27, 162, 0, 29, 42, 180, 0, 52, 3, 6, 184, 0, 165, 154, 0, 17, 42, 42, 180, 0, 52]
abbrev dktX3_goesOn_0 : List UInt8 := dkwX3_goesOn_0 ++ dktX3_goesOn_1
theorem dksX3_goesOn_0 : cX3_goesOn.data.toList.drop 0 = dktX3_goesOn_0 := by decide +kernel
theorem dksX3_goesOn_1 : cX3_goesOn.data.toList.drop 24 = dktX3_goesOn_1 := dk_seg dksX3_goesOn_0 24 rfl rfl
theorem dX3_goesOn_0 : decode cX3_goesOn 0 = .ok (.iconst 0, 1) := dk_3 (dk_at dksX3_goesOn_0 0 rfl rfl)
theorem dX3_goesOn_1 : decode cX3_goesOn 1 = .ok (.istore_n 2, 1) := dk_61 (dk_at dksX3_goesOn_0 1 rfl rfl)
theorem dX3_goesOn_2 : decode cX3_goesOn 2 = .ok (.iload_n 2, 1) := dk_28 (dk_at dksX3_goesOn_0 2 rfl rfl)
theorem dX3_goesOn_3 : decode cX3_goesOn 3 = .ok (.iload_n 1, 1) := dk_27 (dk_at dksX3_goesOn_0 3 rfl rfl)
theorem dX3_goesOn_4 : decode cX3_goesOn 4 = .ok (.if_icmp .ge 29, 3) := dk_162 0 29 (dk_at dksX3_goesOn_0 4 rfl rfl)
theorem dX3_goesOn_7 : decode cX3_goesOn 7 = .ok (.aload_n 0, 1) := dk_42 (dk_at dksX3_goesOn_0 7 rfl rfl)
theorem dX3_goesOn_8 : decode cX3_goesOn 8 = .ok (.getfield 52, 3) := dk_180 0 52 (dk_at dksX3_goesOn_0 8 rfl rfl)
theorem dX3_goesOn_11 : decode cX3_goesOn 11 = .ok (.iconst 0, 1) := dk_3 (dk_at dksX3_goesOn_0 11 rfl rfl)
theorem dX3_goesOn_12 : decode cX3_goesOn 12 = .ok (.iconst 3, 1) := dk_6 (dk_at dksX3_goesOn_0 12 rfl rfl)
theorem dX3_goesOn_13 : decode cX3_goesOn 13 = .ok (.invokestatic 165, 3) := dk_184 0 165 (dk_at dksX3_goesOn_0 13 rfl rfl)
theorem dX3_goesOn_16 : decode cX3_goesOn 16 = .ok (.ifCond .ne 17, 3) := dk_154 0 17 (dk_at dksX3_goesOn_0 16 rfl rfl)
theorem dX3_goesOn_19 : decode cX3_goesOn 19 = .ok (.aload_n 0, 1) := dk_42 (dk_at dksX3_goesOn_0 19 rfl rfl)
theorem dX3_goesOn_20 : decode cX3_goesOn 20 = .ok (.aload_n 0, 1) := dk_42 (dk_at dksX3_goesOn_0 20 rfl rfl)
theorem dX3_goesOn_21 : decode cX3_goesOn 21 = .ok (.getfield 52, 3) := dk_180 0 52 (dk_at dksX3_goesOn_0 21 rfl rfl)
theorem dX3_goesOn_24 : decode cX3_goesOn 24 = .ok (.invokevirtual 211, 3) := dk_182 0 211 (dk_at dksX3_goesOn_1 0 rfl rfl)
theorem dX3_goesOn_27 : decode cX3_goesOn 27 = .ok (.iinc 2 1, 3) := dk_132 2 1 (dk_at dksX3_goesOn_1 3 rfl rfl)
theorem dX3_goesOn_30 : decode cX3_goesOn 30 = .ok (.goto (-28), 3) := dk_167 255 228 (dk_at dksX3_goesOn_1 6 rfl rfl)
theorem dX3_goesOn_33 : decode cX3_goesOn 33 = .ok (.return_, 1) := dk_177 (dk_at dksX3_goesOn_1 9 rfl rfl)
abbrev cX3_wellBy : ByteArray := prog_7_method_46_code
def yX3_wellBy : MethodName := ⟨RX3, "wellBy", "()I"⟩
def dkwX3_wellBy_3 : List UInt8 := [16, 247, 61, 132, 3, 1, 167, 255, 191, 42, 180, 0, 40, 3, 27, 79, 28, 172]
abbrev dktX3_wellBy_3 : List UInt8 := dkwX3_wellBy_3 ++ []
def dkwX3_wellBy_2 : List UInt8 := [180, 0, 52, 3, 6, 184, 0, 165, 153, 0, 16, 42, 180, 0, 52, 4, 46, 154, 0, 7, 29, 167, 0, 5]
abbrev dktX3_wellBy_2 : List UInt8 := dkwX3_wellBy_2 ++ dktX3_wellBy_3
def dkwX3_wellBy_1 : List UInt8 := [42, 180, 0, 40, 3, 29, 79, 42, 42, 180, 0, 52, 182, 0, 148, 42, 17, 0, 200, 182, 0, 225, 42]
abbrev dktX3_wellBy_1 : List UInt8 := dkwX3_wellBy_1 ++ dktX3_wellBy_2
def dkwX3_wellBy_0 : List UInt8 := [42, 180, 0, 40, 3, 46, 60, 16, 247, 61, 4, 62, 29, 16, 60, 163, 0, 65, 28, 16, 247, 160, 0, 59]
abbrev dktX3_wellBy_0 : List UInt8 := dkwX3_wellBy_0 ++ dktX3_wellBy_1
theorem dksX3_wellBy_0 : cX3_wellBy.data.toList.drop 0 = dktX3_wellBy_0 := by decide +kernel
theorem dksX3_wellBy_1 : cX3_wellBy.data.toList.drop 24 = dktX3_wellBy_1 := dk_seg dksX3_wellBy_0 24 rfl rfl
theorem dksX3_wellBy_2 : cX3_wellBy.data.toList.drop 47 = dktX3_wellBy_2 := dk_seg dksX3_wellBy_1 23 rfl rfl
theorem dksX3_wellBy_3 : cX3_wellBy.data.toList.drop 71 = dktX3_wellBy_3 := dk_seg dksX3_wellBy_2 24 rfl rfl
theorem dX3_wellBy_0 : decode cX3_wellBy 0 = .ok (.aload_n 0, 1) := dk_42 (dk_at dksX3_wellBy_0 0 rfl rfl)
theorem dX3_wellBy_1 : decode cX3_wellBy 1 = .ok (.getfield 40, 3) := dk_180 0 40 (dk_at dksX3_wellBy_0 1 rfl rfl)
theorem dX3_wellBy_4 : decode cX3_wellBy 4 = .ok (.iconst 0, 1) := dk_3 (dk_at dksX3_wellBy_0 4 rfl rfl)
theorem dX3_wellBy_5 : decode cX3_wellBy 5 = .ok (.iaload, 1) := dk_46 (dk_at dksX3_wellBy_0 5 rfl rfl)
theorem dX3_wellBy_6 : decode cX3_wellBy 6 = .ok (.istore_n 1, 1) := dk_60 (dk_at dksX3_wellBy_0 6 rfl rfl)
theorem dX3_wellBy_7 : decode cX3_wellBy 7 = .ok (.bipush (-9), 2) := dk_16 247 (dk_at dksX3_wellBy_0 7 rfl rfl)
theorem dX3_wellBy_9 : decode cX3_wellBy 9 = .ok (.istore_n 2, 1) := dk_61 (dk_at dksX3_wellBy_0 9 rfl rfl)
theorem dX3_wellBy_10 : decode cX3_wellBy 10 = .ok (.iconst 1, 1) := dk_4 (dk_at dksX3_wellBy_0 10 rfl rfl)
theorem dX3_wellBy_11 : decode cX3_wellBy 11 = .ok (.istore_n 3, 1) := dk_62 (dk_at dksX3_wellBy_0 11 rfl rfl)
theorem dX3_wellBy_12 : decode cX3_wellBy 12 = .ok (.iload_n 3, 1) := dk_29 (dk_at dksX3_wellBy_0 12 rfl rfl)
theorem dX3_wellBy_13 : decode cX3_wellBy 13 = .ok (.bipush 60, 2) := dk_16 60 (dk_at dksX3_wellBy_0 13 rfl rfl)
theorem dX3_wellBy_15 : decode cX3_wellBy 15 = .ok (.if_icmp .gt 65, 3) := dk_163 0 65 (dk_at dksX3_wellBy_0 15 rfl rfl)
theorem dX3_wellBy_18 : decode cX3_wellBy 18 = .ok (.iload_n 2, 1) := dk_28 (dk_at dksX3_wellBy_0 18 rfl rfl)
theorem dX3_wellBy_19 : decode cX3_wellBy 19 = .ok (.bipush (-9), 2) := dk_16 247 (dk_at dksX3_wellBy_0 19 rfl rfl)
theorem dX3_wellBy_21 : decode cX3_wellBy 21 = .ok (.if_icmp .ne 59, 3) := dk_160 0 59 (dk_at dksX3_wellBy_0 21 rfl rfl)
theorem dX3_wellBy_24 : decode cX3_wellBy 24 = .ok (.aload_n 0, 1) := dk_42 (dk_at dksX3_wellBy_1 0 rfl rfl)
theorem dX3_wellBy_25 : decode cX3_wellBy 25 = .ok (.getfield 40, 3) := dk_180 0 40 (dk_at dksX3_wellBy_1 1 rfl rfl)
theorem dX3_wellBy_28 : decode cX3_wellBy 28 = .ok (.iconst 0, 1) := dk_3 (dk_at dksX3_wellBy_1 4 rfl rfl)
theorem dX3_wellBy_29 : decode cX3_wellBy 29 = .ok (.iload_n 3, 1) := dk_29 (dk_at dksX3_wellBy_1 5 rfl rfl)
theorem dX3_wellBy_30 : decode cX3_wellBy 30 = .ok (.iastore, 1) := dk_79 (dk_at dksX3_wellBy_1 6 rfl rfl)
theorem dX3_wellBy_31 : decode cX3_wellBy 31 = .ok (.aload_n 0, 1) := dk_42 (dk_at dksX3_wellBy_1 7 rfl rfl)
theorem dX3_wellBy_32 : decode cX3_wellBy 32 = .ok (.aload_n 0, 1) := dk_42 (dk_at dksX3_wellBy_1 8 rfl rfl)
theorem dX3_wellBy_33 : decode cX3_wellBy 33 = .ok (.getfield 52, 3) := dk_180 0 52 (dk_at dksX3_wellBy_1 9 rfl rfl)
theorem dX3_wellBy_36 : decode cX3_wellBy 36 = .ok (.invokevirtual 148, 3) := dk_182 0 148 (dk_at dksX3_wellBy_1 12 rfl rfl)
theorem dX3_wellBy_39 : decode cX3_wellBy 39 = .ok (.aload_n 0, 1) := dk_42 (dk_at dksX3_wellBy_1 15 rfl rfl)
theorem dX3_wellBy_40 : decode cX3_wellBy 40 = .ok (.sipush 200, 3) := dk_17 0 200 (dk_at dksX3_wellBy_1 16 rfl rfl)
theorem dX3_wellBy_43 : decode cX3_wellBy 43 = .ok (.invokevirtual 225, 3) := dk_182 0 225 (dk_at dksX3_wellBy_1 19 rfl rfl)
theorem dX3_wellBy_46 : decode cX3_wellBy 46 = .ok (.aload_n 0, 1) := dk_42 (dk_at dksX3_wellBy_1 22 rfl rfl)
theorem dX3_wellBy_47 : decode cX3_wellBy 47 = .ok (.getfield 52, 3) := dk_180 0 52 (dk_at dksX3_wellBy_2 0 rfl rfl)
theorem dX3_wellBy_50 : decode cX3_wellBy 50 = .ok (.iconst 0, 1) := dk_3 (dk_at dksX3_wellBy_2 3 rfl rfl)
theorem dX3_wellBy_51 : decode cX3_wellBy 51 = .ok (.iconst 3, 1) := dk_6 (dk_at dksX3_wellBy_2 4 rfl rfl)
theorem dX3_wellBy_52 : decode cX3_wellBy 52 = .ok (.invokestatic 165, 3) := dk_184 0 165 (dk_at dksX3_wellBy_2 5 rfl rfl)
theorem dX3_wellBy_55 : decode cX3_wellBy 55 = .ok (.ifCond .eq 16, 3) := dk_153 0 16 (dk_at dksX3_wellBy_2 8 rfl rfl)
theorem dX3_wellBy_58 : decode cX3_wellBy 58 = .ok (.aload_n 0, 1) := dk_42 (dk_at dksX3_wellBy_2 11 rfl rfl)
theorem dX3_wellBy_59 : decode cX3_wellBy 59 = .ok (.getfield 52, 3) := dk_180 0 52 (dk_at dksX3_wellBy_2 12 rfl rfl)
theorem dX3_wellBy_62 : decode cX3_wellBy 62 = .ok (.iconst 1, 1) := dk_4 (dk_at dksX3_wellBy_2 15 rfl rfl)
theorem dX3_wellBy_63 : decode cX3_wellBy 63 = .ok (.iaload, 1) := dk_46 (dk_at dksX3_wellBy_2 16 rfl rfl)
theorem dX3_wellBy_64 : decode cX3_wellBy 64 = .ok (.ifCond .ne 7, 3) := dk_154 0 7 (dk_at dksX3_wellBy_2 17 rfl rfl)
theorem dX3_wellBy_67 : decode cX3_wellBy 67 = .ok (.iload_n 3, 1) := dk_29 (dk_at dksX3_wellBy_2 20 rfl rfl)
theorem dX3_wellBy_68 : decode cX3_wellBy 68 = .ok (.goto 5, 3) := dk_167 0 5 (dk_at dksX3_wellBy_2 21 rfl rfl)
theorem dX3_wellBy_71 : decode cX3_wellBy 71 = .ok (.bipush (-9), 2) := dk_16 247 (dk_at dksX3_wellBy_3 0 rfl rfl)
theorem dX3_wellBy_73 : decode cX3_wellBy 73 = .ok (.istore_n 2, 1) := dk_61 (dk_at dksX3_wellBy_3 2 rfl rfl)
theorem dX3_wellBy_74 : decode cX3_wellBy 74 = .ok (.iinc 3 1, 3) := dk_132 3 1 (dk_at dksX3_wellBy_3 3 rfl rfl)
theorem dX3_wellBy_77 : decode cX3_wellBy 77 = .ok (.goto (-65), 3) := dk_167 255 191 (dk_at dksX3_wellBy_3 6 rfl rfl)
theorem dX3_wellBy_80 : decode cX3_wellBy 80 = .ok (.aload_n 0, 1) := dk_42 (dk_at dksX3_wellBy_3 9 rfl rfl)
theorem dX3_wellBy_81 : decode cX3_wellBy 81 = .ok (.getfield 40, 3) := dk_180 0 40 (dk_at dksX3_wellBy_3 10 rfl rfl)
theorem dX3_wellBy_84 : decode cX3_wellBy 84 = .ok (.iconst 0, 1) := dk_3 (dk_at dksX3_wellBy_3 13 rfl rfl)
theorem dX3_wellBy_85 : decode cX3_wellBy 85 = .ok (.iload_n 1, 1) := dk_27 (dk_at dksX3_wellBy_3 14 rfl rfl)
theorem dX3_wellBy_86 : decode cX3_wellBy 86 = .ok (.iastore, 1) := dk_79 (dk_at dksX3_wellBy_3 15 rfl rfl)
theorem dX3_wellBy_87 : decode cX3_wellBy 87 = .ok (.iload_n 2, 1) := dk_28 (dk_at dksX3_wellBy_3 16 rfl rfl)
theorem dX3_wellBy_88 : decode cX3_wellBy 88 = .ok (.ireturn, 1) := dk_172 (dk_at dksX3_wellBy_3 17 rfl rfl)
abbrev cX3_spares : ByteArray := prog_7_method_47_code
def yX3_spares : MethodName := ⟨RX3, "spares", "(I)I"⟩
def dkwX3_spares_4 : List UInt8 := [160, 0, 8, 18, 229, 167, 0, 12, 28, 42, 180, 0, 52, 16, 8, 46, 100, 172]
abbrev dktX3_spares_4 : List UInt8 := dkwX3_spares_4 ++ []
def dkwX3_spares_3 : List UInt8 := [42, 17, 0, 200, 182, 0, 225, 28, 16, 247, 159, 0, 15, 42, 180, 0, 52, 16, 8, 46, 16, 247]
abbrev dktX3_spares_3 : List UInt8 := dkwX3_spares_3 ++ dktX3_spares_4
def dkwX3_spares_2 : List UInt8 := [61, 42, 180, 0, 49, 42, 180, 0, 52, 184, 0, 221, 42, 180, 0, 52, 16, 18, 27, 104, 8, 96, 4, 79]
abbrev dktX3_spares_2 : List UInt8 := dkwX3_spares_2 ++ dktX3_spares_3
def dkwX3_spares_1 : List UInt8 := [180, 0, 49, 42, 180, 0, 52, 184, 0, 221, 42, 17, 0, 200, 182, 0, 225, 42, 180, 0, 52, 16, 8, 46]
abbrev dktX3_spares_1 : List UInt8 := dkwX3_spares_1 ++ dktX3_spares_2
def dkwX3_spares_0 : List UInt8 := [42, 27, 182, 0, 214, 153, 0, 15, 42, 180, 0, 49, 27, 4, 184, 0, 165, 154, 0, 6, 18, 229, 172, 42]
abbrev dktX3_spares_0 : List UInt8 := dkwX3_spares_0 ++ dktX3_spares_1
theorem dksX3_spares_0 : cX3_spares.data.toList.drop 0 = dktX3_spares_0 := by decide +kernel
theorem dksX3_spares_1 : cX3_spares.data.toList.drop 24 = dktX3_spares_1 := dk_seg dksX3_spares_0 24 rfl rfl
theorem dksX3_spares_2 : cX3_spares.data.toList.drop 48 = dktX3_spares_2 := dk_seg dksX3_spares_1 24 rfl rfl
theorem dksX3_spares_3 : cX3_spares.data.toList.drop 72 = dktX3_spares_3 := dk_seg dksX3_spares_2 24 rfl rfl
theorem dksX3_spares_4 : cX3_spares.data.toList.drop 94 = dktX3_spares_4 := dk_seg dksX3_spares_3 22 rfl rfl
theorem dX3_spares_0 : decode cX3_spares 0 = .ok (.aload_n 0, 1) := dk_42 (dk_at dksX3_spares_0 0 rfl rfl)
theorem dX3_spares_1 : decode cX3_spares 1 = .ok (.iload_n 1, 1) := dk_27 (dk_at dksX3_spares_0 1 rfl rfl)
theorem dX3_spares_2 : decode cX3_spares 2 = .ok (.invokevirtual 214, 3) := dk_182 0 214 (dk_at dksX3_spares_0 2 rfl rfl)
theorem dX3_spares_5 : decode cX3_spares 5 = .ok (.ifCond .eq 15, 3) := dk_153 0 15 (dk_at dksX3_spares_0 5 rfl rfl)
theorem dX3_spares_8 : decode cX3_spares 8 = .ok (.aload_n 0, 1) := dk_42 (dk_at dksX3_spares_0 8 rfl rfl)
theorem dX3_spares_9 : decode cX3_spares 9 = .ok (.getfield 49, 3) := dk_180 0 49 (dk_at dksX3_spares_0 9 rfl rfl)
theorem dX3_spares_12 : decode cX3_spares 12 = .ok (.iload_n 1, 1) := dk_27 (dk_at dksX3_spares_0 12 rfl rfl)
theorem dX3_spares_13 : decode cX3_spares 13 = .ok (.iconst 1, 1) := dk_4 (dk_at dksX3_spares_0 13 rfl rfl)
theorem dX3_spares_14 : decode cX3_spares 14 = .ok (.invokestatic 165, 3) := dk_184 0 165 (dk_at dksX3_spares_0 14 rfl rfl)
theorem dX3_spares_17 : decode cX3_spares 17 = .ok (.ifCond .ne 6, 3) := dk_154 0 6 (dk_at dksX3_spares_0 17 rfl rfl)
theorem dX3_spares_20 : decode cX3_spares 20 = .ok (.ldc 229, 2) := dk_18 229 (dk_at dksX3_spares_0 20 rfl rfl)
theorem dX3_spares_22 : decode cX3_spares 22 = .ok (.ireturn, 1) := dk_172 (dk_at dksX3_spares_0 22 rfl rfl)
theorem dX3_spares_23 : decode cX3_spares 23 = .ok (.aload_n 0, 1) := dk_42 (dk_at dksX3_spares_0 23 rfl rfl)
theorem dX3_spares_24 : decode cX3_spares 24 = .ok (.getfield 49, 3) := dk_180 0 49 (dk_at dksX3_spares_1 0 rfl rfl)
theorem dX3_spares_27 : decode cX3_spares 27 = .ok (.aload_n 0, 1) := dk_42 (dk_at dksX3_spares_1 3 rfl rfl)
theorem dX3_spares_28 : decode cX3_spares 28 = .ok (.getfield 52, 3) := dk_180 0 52 (dk_at dksX3_spares_1 4 rfl rfl)
theorem dX3_spares_31 : decode cX3_spares 31 = .ok (.invokestatic 221, 3) := dk_184 0 221 (dk_at dksX3_spares_1 7 rfl rfl)
theorem dX3_spares_34 : decode cX3_spares 34 = .ok (.aload_n 0, 1) := dk_42 (dk_at dksX3_spares_1 10 rfl rfl)
theorem dX3_spares_35 : decode cX3_spares 35 = .ok (.sipush 200, 3) := dk_17 0 200 (dk_at dksX3_spares_1 11 rfl rfl)
theorem dX3_spares_38 : decode cX3_spares 38 = .ok (.invokevirtual 225, 3) := dk_182 0 225 (dk_at dksX3_spares_1 14 rfl rfl)
theorem dX3_spares_41 : decode cX3_spares 41 = .ok (.aload_n 0, 1) := dk_42 (dk_at dksX3_spares_1 17 rfl rfl)
theorem dX3_spares_42 : decode cX3_spares 42 = .ok (.getfield 52, 3) := dk_180 0 52 (dk_at dksX3_spares_1 18 rfl rfl)
theorem dX3_spares_45 : decode cX3_spares 45 = .ok (.bipush 8, 2) := dk_16 8 (dk_at dksX3_spares_1 21 rfl rfl)
theorem dX3_spares_47 : decode cX3_spares 47 = .ok (.iaload, 1) := dk_46 (dk_at dksX3_spares_1 23 rfl rfl)
theorem dX3_spares_48 : decode cX3_spares 48 = .ok (.istore_n 2, 1) := dk_61 (dk_at dksX3_spares_2 0 rfl rfl)
theorem dX3_spares_49 : decode cX3_spares 49 = .ok (.aload_n 0, 1) := dk_42 (dk_at dksX3_spares_2 1 rfl rfl)
theorem dX3_spares_50 : decode cX3_spares 50 = .ok (.getfield 49, 3) := dk_180 0 49 (dk_at dksX3_spares_2 2 rfl rfl)
theorem dX3_spares_53 : decode cX3_spares 53 = .ok (.aload_n 0, 1) := dk_42 (dk_at dksX3_spares_2 5 rfl rfl)
theorem dX3_spares_54 : decode cX3_spares 54 = .ok (.getfield 52, 3) := dk_180 0 52 (dk_at dksX3_spares_2 6 rfl rfl)
theorem dX3_spares_57 : decode cX3_spares 57 = .ok (.invokestatic 221, 3) := dk_184 0 221 (dk_at dksX3_spares_2 9 rfl rfl)
theorem dX3_spares_60 : decode cX3_spares 60 = .ok (.aload_n 0, 1) := dk_42 (dk_at dksX3_spares_2 12 rfl rfl)
theorem dX3_spares_61 : decode cX3_spares 61 = .ok (.getfield 52, 3) := dk_180 0 52 (dk_at dksX3_spares_2 13 rfl rfl)
theorem dX3_spares_64 : decode cX3_spares 64 = .ok (.bipush 18, 2) := dk_16 18 (dk_at dksX3_spares_2 16 rfl rfl)
theorem dX3_spares_66 : decode cX3_spares 66 = .ok (.iload_n 1, 1) := dk_27 (dk_at dksX3_spares_2 18 rfl rfl)
theorem dX3_spares_67 : decode cX3_spares 67 = .ok (.imul, 1) := dk_104 (dk_at dksX3_spares_2 19 rfl rfl)
theorem dX3_spares_68 : decode cX3_spares 68 = .ok (.iconst 5, 1) := dk_8 (dk_at dksX3_spares_2 20 rfl rfl)
theorem dX3_spares_69 : decode cX3_spares 69 = .ok (.iadd, 1) := dk_96 (dk_at dksX3_spares_2 21 rfl rfl)
theorem dX3_spares_70 : decode cX3_spares 70 = .ok (.iconst 1, 1) := dk_4 (dk_at dksX3_spares_2 22 rfl rfl)
theorem dX3_spares_71 : decode cX3_spares 71 = .ok (.iastore, 1) := dk_79 (dk_at dksX3_spares_2 23 rfl rfl)
theorem dX3_spares_72 : decode cX3_spares 72 = .ok (.aload_n 0, 1) := dk_42 (dk_at dksX3_spares_3 0 rfl rfl)
theorem dX3_spares_73 : decode cX3_spares 73 = .ok (.sipush 200, 3) := dk_17 0 200 (dk_at dksX3_spares_3 1 rfl rfl)
theorem dX3_spares_76 : decode cX3_spares 76 = .ok (.invokevirtual 225, 3) := dk_182 0 225 (dk_at dksX3_spares_3 4 rfl rfl)
theorem dX3_spares_79 : decode cX3_spares 79 = .ok (.iload_n 2, 1) := dk_28 (dk_at dksX3_spares_3 7 rfl rfl)
theorem dX3_spares_80 : decode cX3_spares 80 = .ok (.bipush (-9), 2) := dk_16 247 (dk_at dksX3_spares_3 8 rfl rfl)
theorem dX3_spares_82 : decode cX3_spares 82 = .ok (.if_icmp .eq 15, 3) := dk_159 0 15 (dk_at dksX3_spares_3 10 rfl rfl)
theorem dX3_spares_85 : decode cX3_spares 85 = .ok (.aload_n 0, 1) := dk_42 (dk_at dksX3_spares_3 13 rfl rfl)
theorem dX3_spares_86 : decode cX3_spares 86 = .ok (.getfield 52, 3) := dk_180 0 52 (dk_at dksX3_spares_3 14 rfl rfl)
theorem dX3_spares_89 : decode cX3_spares 89 = .ok (.bipush 8, 2) := dk_16 8 (dk_at dksX3_spares_3 17 rfl rfl)
theorem dX3_spares_91 : decode cX3_spares 91 = .ok (.iaload, 1) := dk_46 (dk_at dksX3_spares_3 19 rfl rfl)
theorem dX3_spares_92 : decode cX3_spares 92 = .ok (.bipush (-9), 2) := dk_16 247 (dk_at dksX3_spares_3 20 rfl rfl)
theorem dX3_spares_94 : decode cX3_spares 94 = .ok (.if_icmp .ne 8, 3) := dk_160 0 8 (dk_at dksX3_spares_4 0 rfl rfl)
theorem dX3_spares_97 : decode cX3_spares 97 = .ok (.ldc 229, 2) := dk_18 229 (dk_at dksX3_spares_4 3 rfl rfl)
theorem dX3_spares_99 : decode cX3_spares 99 = .ok (.goto 12, 3) := dk_167 0 12 (dk_at dksX3_spares_4 5 rfl rfl)
theorem dX3_spares_102 : decode cX3_spares 102 = .ok (.iload_n 2, 1) := dk_28 (dk_at dksX3_spares_4 8 rfl rfl)
theorem dX3_spares_103 : decode cX3_spares 103 = .ok (.aload_n 0, 1) := dk_42 (dk_at dksX3_spares_4 9 rfl rfl)
theorem dX3_spares_104 : decode cX3_spares 104 = .ok (.getfield 52, 3) := dk_180 0 52 (dk_at dksX3_spares_4 10 rfl rfl)
theorem dX3_spares_107 : decode cX3_spares 107 = .ok (.bipush 8, 2) := dk_16 8 (dk_at dksX3_spares_4 13 rfl rfl)
theorem dX3_spares_109 : decode cX3_spares 109 = .ok (.iaload, 1) := dk_46 (dk_at dksX3_spares_4 15 rfl rfl)
theorem dX3_spares_110 : decode cX3_spares 110 = .ok (.isub, 1) := dk_100 (dk_at dksX3_spares_4 16 rfl rfl)
theorem dX3_spares_111 : decode cX3_spares 111 = .ok (.ireturn, 1) := dk_172 (dk_at dksX3_spares_4 17 rfl rfl)
abbrev cX3_sees : ByteArray := prog_7_method_48_code
def yX3_sees : MethodName := ⟨RX3, "sees", "(III)I"⟩
def dkwX3_sees_3 : List UInt8 := [79, 42, 89, 180, 0, 155, 4, 96, 181, 0, 155, 42, 180, 0, 155, 172]
abbrev dktX3_sees_3 : List UInt8 := dkwX3_sees_3 ++ []
def dkwX3_sees_2 : List UInt8 := [180, 0, 155, 27, 79, 42, 180, 0, 61, 42, 180, 0, 155, 28, 79, 42, 180, 0, 64, 42, 180, 0, 155, 29]
abbrev dktX3_sees_2 : List UInt8 := dkwX3_sees_2 ++ dktX3_sees_3
def dkwX3_sees_1 : List UInt8 := [154, 0, 5, 2, 172, 42, 180, 0, 155, 16, 6, 160, 0, 6, 16, 253, 172, 42, 180, 0, 58, 42]
abbrev dktX3_sees_1 : List UInt8 := dkwX3_sees_1 ++ dktX3_sees_2
def dkwX3_sees_0 : List UInt8 := [42, 27, 182, 0, 214, 153, 0, 22, 28, 4, 16, 60, 184, 0, 80, 153, 0, 12, 29, 3, 4, 184, 0, 80]
abbrev dktX3_sees_0 : List UInt8 := dkwX3_sees_0 ++ dktX3_sees_1
theorem dksX3_sees_0 : cX3_sees.data.toList.drop 0 = dktX3_sees_0 := by decide +kernel
theorem dksX3_sees_1 : cX3_sees.data.toList.drop 24 = dktX3_sees_1 := dk_seg dksX3_sees_0 24 rfl rfl
theorem dksX3_sees_2 : cX3_sees.data.toList.drop 46 = dktX3_sees_2 := dk_seg dksX3_sees_1 22 rfl rfl
theorem dksX3_sees_3 : cX3_sees.data.toList.drop 70 = dktX3_sees_3 := dk_seg dksX3_sees_2 24 rfl rfl
theorem dX3_sees_0 : decode cX3_sees 0 = .ok (.aload_n 0, 1) := dk_42 (dk_at dksX3_sees_0 0 rfl rfl)
theorem dX3_sees_1 : decode cX3_sees 1 = .ok (.iload_n 1, 1) := dk_27 (dk_at dksX3_sees_0 1 rfl rfl)
theorem dX3_sees_2 : decode cX3_sees 2 = .ok (.invokevirtual 214, 3) := dk_182 0 214 (dk_at dksX3_sees_0 2 rfl rfl)
theorem dX3_sees_5 : decode cX3_sees 5 = .ok (.ifCond .eq 22, 3) := dk_153 0 22 (dk_at dksX3_sees_0 5 rfl rfl)
theorem dX3_sees_8 : decode cX3_sees 8 = .ok (.iload_n 2, 1) := dk_28 (dk_at dksX3_sees_0 8 rfl rfl)
theorem dX3_sees_9 : decode cX3_sees 9 = .ok (.iconst 1, 1) := dk_4 (dk_at dksX3_sees_0 9 rfl rfl)
theorem dX3_sees_10 : decode cX3_sees 10 = .ok (.bipush 60, 2) := dk_16 60 (dk_at dksX3_sees_0 10 rfl rfl)
theorem dX3_sees_12 : decode cX3_sees 12 = .ok (.invokestatic 80, 3) := dk_184 0 80 (dk_at dksX3_sees_0 12 rfl rfl)
theorem dX3_sees_15 : decode cX3_sees 15 = .ok (.ifCond .eq 12, 3) := dk_153 0 12 (dk_at dksX3_sees_0 15 rfl rfl)
theorem dX3_sees_18 : decode cX3_sees 18 = .ok (.iload_n 3, 1) := dk_29 (dk_at dksX3_sees_0 18 rfl rfl)
theorem dX3_sees_19 : decode cX3_sees 19 = .ok (.iconst 0, 1) := dk_3 (dk_at dksX3_sees_0 19 rfl rfl)
theorem dX3_sees_20 : decode cX3_sees 20 = .ok (.iconst 1, 1) := dk_4 (dk_at dksX3_sees_0 20 rfl rfl)
theorem dX3_sees_21 : decode cX3_sees 21 = .ok (.invokestatic 80, 3) := dk_184 0 80 (dk_at dksX3_sees_0 21 rfl rfl)
theorem dX3_sees_24 : decode cX3_sees 24 = .ok (.ifCond .ne 5, 3) := dk_154 0 5 (dk_at dksX3_sees_1 0 rfl rfl)
theorem dX3_sees_27 : decode cX3_sees 27 = .ok (.iconst (-1), 1) := dk_2 (dk_at dksX3_sees_1 3 rfl rfl)
theorem dX3_sees_28 : decode cX3_sees 28 = .ok (.ireturn, 1) := dk_172 (dk_at dksX3_sees_1 4 rfl rfl)
theorem dX3_sees_29 : decode cX3_sees 29 = .ok (.aload_n 0, 1) := dk_42 (dk_at dksX3_sees_1 5 rfl rfl)
theorem dX3_sees_30 : decode cX3_sees 30 = .ok (.getfield 155, 3) := dk_180 0 155 (dk_at dksX3_sees_1 6 rfl rfl)
theorem dX3_sees_33 : decode cX3_sees 33 = .ok (.bipush 6, 2) := dk_16 6 (dk_at dksX3_sees_1 9 rfl rfl)
theorem dX3_sees_35 : decode cX3_sees 35 = .ok (.if_icmp .ne 6, 3) := dk_160 0 6 (dk_at dksX3_sees_1 11 rfl rfl)
theorem dX3_sees_38 : decode cX3_sees 38 = .ok (.bipush (-3), 2) := dk_16 253 (dk_at dksX3_sees_1 14 rfl rfl)
theorem dX3_sees_40 : decode cX3_sees 40 = .ok (.ireturn, 1) := dk_172 (dk_at dksX3_sees_1 16 rfl rfl)
theorem dX3_sees_41 : decode cX3_sees 41 = .ok (.aload_n 0, 1) := dk_42 (dk_at dksX3_sees_1 17 rfl rfl)
theorem dX3_sees_42 : decode cX3_sees 42 = .ok (.getfield 58, 3) := dk_180 0 58 (dk_at dksX3_sees_1 18 rfl rfl)
theorem dX3_sees_45 : decode cX3_sees 45 = .ok (.aload_n 0, 1) := dk_42 (dk_at dksX3_sees_1 21 rfl rfl)
theorem dX3_sees_46 : decode cX3_sees 46 = .ok (.getfield 155, 3) := dk_180 0 155 (dk_at dksX3_sees_2 0 rfl rfl)
theorem dX3_sees_49 : decode cX3_sees 49 = .ok (.iload_n 1, 1) := dk_27 (dk_at dksX3_sees_2 3 rfl rfl)
theorem dX3_sees_50 : decode cX3_sees 50 = .ok (.iastore, 1) := dk_79 (dk_at dksX3_sees_2 4 rfl rfl)
theorem dX3_sees_51 : decode cX3_sees 51 = .ok (.aload_n 0, 1) := dk_42 (dk_at dksX3_sees_2 5 rfl rfl)
theorem dX3_sees_52 : decode cX3_sees 52 = .ok (.getfield 61, 3) := dk_180 0 61 (dk_at dksX3_sees_2 6 rfl rfl)
theorem dX3_sees_55 : decode cX3_sees 55 = .ok (.aload_n 0, 1) := dk_42 (dk_at dksX3_sees_2 9 rfl rfl)
theorem dX3_sees_56 : decode cX3_sees 56 = .ok (.getfield 155, 3) := dk_180 0 155 (dk_at dksX3_sees_2 10 rfl rfl)
theorem dX3_sees_59 : decode cX3_sees 59 = .ok (.iload_n 2, 1) := dk_28 (dk_at dksX3_sees_2 13 rfl rfl)
theorem dX3_sees_60 : decode cX3_sees 60 = .ok (.iastore, 1) := dk_79 (dk_at dksX3_sees_2 14 rfl rfl)
theorem dX3_sees_61 : decode cX3_sees 61 = .ok (.aload_n 0, 1) := dk_42 (dk_at dksX3_sees_2 15 rfl rfl)
theorem dX3_sees_62 : decode cX3_sees 62 = .ok (.getfield 64, 3) := dk_180 0 64 (dk_at dksX3_sees_2 16 rfl rfl)
theorem dX3_sees_65 : decode cX3_sees 65 = .ok (.aload_n 0, 1) := dk_42 (dk_at dksX3_sees_2 19 rfl rfl)
theorem dX3_sees_66 : decode cX3_sees 66 = .ok (.getfield 155, 3) := dk_180 0 155 (dk_at dksX3_sees_2 20 rfl rfl)
theorem dX3_sees_69 : decode cX3_sees 69 = .ok (.iload_n 3, 1) := dk_29 (dk_at dksX3_sees_2 23 rfl rfl)
theorem dX3_sees_70 : decode cX3_sees 70 = .ok (.iastore, 1) := dk_79 (dk_at dksX3_sees_3 0 rfl rfl)
theorem dX3_sees_71 : decode cX3_sees 71 = .ok (.aload_n 0, 1) := dk_42 (dk_at dksX3_sees_3 1 rfl rfl)
theorem dX3_sees_72 : decode cX3_sees 72 = .ok (.dup, 1) := dk_89 (dk_at dksX3_sees_3 2 rfl rfl)
theorem dX3_sees_73 : decode cX3_sees 73 = .ok (.getfield 155, 3) := dk_180 0 155 (dk_at dksX3_sees_3 3 rfl rfl)
theorem dX3_sees_76 : decode cX3_sees 76 = .ok (.iconst 1, 1) := dk_4 (dk_at dksX3_sees_3 6 rfl rfl)
theorem dX3_sees_77 : decode cX3_sees 77 = .ok (.iadd, 1) := dk_96 (dk_at dksX3_sees_3 7 rfl rfl)
theorem dX3_sees_78 : decode cX3_sees 78 = .ok (.putfield 155, 3) := dk_181 0 155 (dk_at dksX3_sees_3 8 rfl rfl)
theorem dX3_sees_81 : decode cX3_sees 81 = .ok (.aload_n 0, 1) := dk_42 (dk_at dksX3_sees_3 11 rfl rfl)
theorem dX3_sees_82 : decode cX3_sees 82 = .ok (.getfield 155, 3) := dk_180 0 155 (dk_at dksX3_sees_3 12 rfl rfl)
theorem dX3_sees_85 : decode cX3_sees 85 = .ok (.ireturn, 1) := dk_172 (dk_at dksX3_sees_3 15 rfl rfl)
abbrev cX3_forget : ByteArray := prog_7_method_49_code
def yX3_forget : MethodName := ⟨RX3, "forget", "()I"⟩
def dkwX3_forget_0 : List UInt8 := [42, 180, 0, 155, 60, 42, 3, 181, 0, 155, 27, 172]
abbrev dktX3_forget_0 : List UInt8 := dkwX3_forget_0 ++ []
theorem dksX3_forget_0 : cX3_forget.data.toList.drop 0 = dktX3_forget_0 := by decide +kernel
theorem dX3_forget_0 : decode cX3_forget 0 = .ok (.aload_n 0, 1) := dk_42 (dk_at dksX3_forget_0 0 rfl rfl)
theorem dX3_forget_1 : decode cX3_forget 1 = .ok (.getfield 155, 3) := dk_180 0 155 (dk_at dksX3_forget_0 1 rfl rfl)
theorem dX3_forget_4 : decode cX3_forget 4 = .ok (.istore_n 1, 1) := dk_60 (dk_at dksX3_forget_0 4 rfl rfl)
theorem dX3_forget_5 : decode cX3_forget 5 = .ok (.aload_n 0, 1) := dk_42 (dk_at dksX3_forget_0 5 rfl rfl)
theorem dX3_forget_6 : decode cX3_forget 6 = .ok (.iconst 0, 1) := dk_3 (dk_at dksX3_forget_0 6 rfl rfl)
theorem dX3_forget_7 : decode cX3_forget 7 = .ok (.putfield 155, 3) := dk_181 0 155 (dk_at dksX3_forget_0 7 rfl rfl)
theorem dX3_forget_10 : decode cX3_forget 10 = .ok (.iload_n 1, 1) := dk_27 (dk_at dksX3_forget_0 10 rfl rfl)
theorem dX3_forget_11 : decode cX3_forget 11 = .ok (.ireturn, 1) := dk_172 (dk_at dksX3_forget_0 11 rfl rfl)
abbrev cX3_fits : ByteArray := prog_7_method_50_code
def yX3_fits : MethodName := ⟨RX3, "fits", "(I)I"⟩
def dkwX3_fits_7 : List UInt8 := [28, 79, 29, 172]
abbrev dktX3_fits_7 : List UInt8 := dkwX3_fits_7 ++ []
def dkwX3_fits_6 : List UInt8 := [153, 0, 10, 4, 21, 4, 120, 167, 0, 4, 3, 128, 62, 132, 4, 1, 167, 255, 123, 42, 180, 0, 40, 27]
abbrev dktX3_fits_6 : List UInt8 := dkwX3_fits_6 ++ dktX3_fits_7
def dkwX3_fits_5 : List UInt8 := [21, 6, 46, 160, 0, 7, 4, 167, 0, 4, 3, 54, 5, 132, 6, 1, 167, 255, 180, 29, 21, 5]
abbrev dktX3_fits_5 : List UInt8 := dkwX3_fits_5 ++ dktX3_fits_6
def dkwX3_fits_4 : List UInt8 := [159, 0, 19, 21, 7, 42, 180, 0, 61, 21, 6, 46, 163, 0, 7, 4, 167, 0, 4, 3, 42, 180, 0, 64]
abbrev dktX3_fits_4 : List UInt8 := dkwX3_fits_4 ++ dktX3_fits_5
def dkwX3_fits_3 : List UInt8 := [180, 0, 58, 21, 6, 46, 16, 8, 184, 0, 161, 54, 7, 21, 5, 153, 0, 41, 21, 7, 16, 247]
abbrev dktX3_fits_3 : List UInt8 := dkwX3_fits_3 ++ dktX3_fits_4
def dkwX3_fits_2 : List UInt8 := [182, 0, 225, 4, 54, 5, 3, 54, 6, 21, 6, 42, 180, 0, 155, 162, 0, 73, 42, 180, 0, 52, 42]
abbrev dktX3_fits_2 : List UInt8 := dkwX3_fits_2 ++ dktX3_fits_3
def dkwX3_fits_1 : List UInt8 := [16, 30, 163, 0, 132, 42, 180, 0, 40, 27, 21, 4, 79, 42, 42, 180, 0, 52, 182, 0, 148, 42, 16, 60]
abbrev dktX3_fits_1 : List UInt8 := dkwX3_fits_1 ++ dktX3_fits_2
def dkwX3_fits_0 : List UInt8 := [42, 27, 182, 0, 214, 154, 0, 5, 2, 172, 42, 180, 0, 40, 27, 46, 61, 3, 62, 4, 54, 4, 21, 4]
abbrev dktX3_fits_0 : List UInt8 := dkwX3_fits_0 ++ dktX3_fits_1
theorem dksX3_fits_0 : cX3_fits.data.toList.drop 0 = dktX3_fits_0 := by decide +kernel
theorem dksX3_fits_1 : cX3_fits.data.toList.drop 24 = dktX3_fits_1 := dk_seg dksX3_fits_0 24 rfl rfl
theorem dksX3_fits_2 : cX3_fits.data.toList.drop 48 = dktX3_fits_2 := dk_seg dksX3_fits_1 24 rfl rfl
theorem dksX3_fits_3 : cX3_fits.data.toList.drop 71 = dktX3_fits_3 := dk_seg dksX3_fits_2 23 rfl rfl
theorem dksX3_fits_4 : cX3_fits.data.toList.drop 93 = dktX3_fits_4 := dk_seg dksX3_fits_3 22 rfl rfl
theorem dksX3_fits_5 : cX3_fits.data.toList.drop 117 = dktX3_fits_5 := dk_seg dksX3_fits_4 24 rfl rfl
theorem dksX3_fits_6 : cX3_fits.data.toList.drop 139 = dktX3_fits_6 := dk_seg dksX3_fits_5 22 rfl rfl
theorem dksX3_fits_7 : cX3_fits.data.toList.drop 163 = dktX3_fits_7 := dk_seg dksX3_fits_6 24 rfl rfl
theorem dX3_fits_0 : decode cX3_fits 0 = .ok (.aload_n 0, 1) := dk_42 (dk_at dksX3_fits_0 0 rfl rfl)
theorem dX3_fits_1 : decode cX3_fits 1 = .ok (.iload_n 1, 1) := dk_27 (dk_at dksX3_fits_0 1 rfl rfl)
theorem dX3_fits_2 : decode cX3_fits 2 = .ok (.invokevirtual 214, 3) := dk_182 0 214 (dk_at dksX3_fits_0 2 rfl rfl)
theorem dX3_fits_5 : decode cX3_fits 5 = .ok (.ifCond .ne 5, 3) := dk_154 0 5 (dk_at dksX3_fits_0 5 rfl rfl)
theorem dX3_fits_8 : decode cX3_fits 8 = .ok (.iconst (-1), 1) := dk_2 (dk_at dksX3_fits_0 8 rfl rfl)
theorem dX3_fits_9 : decode cX3_fits 9 = .ok (.ireturn, 1) := dk_172 (dk_at dksX3_fits_0 9 rfl rfl)
theorem dX3_fits_10 : decode cX3_fits 10 = .ok (.aload_n 0, 1) := dk_42 (dk_at dksX3_fits_0 10 rfl rfl)
theorem dX3_fits_11 : decode cX3_fits 11 = .ok (.getfield 40, 3) := dk_180 0 40 (dk_at dksX3_fits_0 11 rfl rfl)
theorem dX3_fits_14 : decode cX3_fits 14 = .ok (.iload_n 1, 1) := dk_27 (dk_at dksX3_fits_0 14 rfl rfl)
theorem dX3_fits_15 : decode cX3_fits 15 = .ok (.iaload, 1) := dk_46 (dk_at dksX3_fits_0 15 rfl rfl)
theorem dX3_fits_16 : decode cX3_fits 16 = .ok (.istore_n 2, 1) := dk_61 (dk_at dksX3_fits_0 16 rfl rfl)
theorem dX3_fits_17 : decode cX3_fits 17 = .ok (.iconst 0, 1) := dk_3 (dk_at dksX3_fits_0 17 rfl rfl)
theorem dX3_fits_18 : decode cX3_fits 18 = .ok (.istore_n 3, 1) := dk_62 (dk_at dksX3_fits_0 18 rfl rfl)
theorem dX3_fits_19 : decode cX3_fits 19 = .ok (.iconst 1, 1) := dk_4 (dk_at dksX3_fits_0 19 rfl rfl)
theorem dX3_fits_20 : decode cX3_fits 20 = .ok (.istore 4, 2) := dk_54 4 (dk_at dksX3_fits_0 20 rfl rfl)
theorem dX3_fits_22 : decode cX3_fits 22 = .ok (.iload 4, 2) := dk_21 4 (dk_at dksX3_fits_0 22 rfl rfl)
theorem dX3_fits_24 : decode cX3_fits 24 = .ok (.bipush 30, 2) := dk_16 30 (dk_at dksX3_fits_1 0 rfl rfl)
theorem dX3_fits_26 : decode cX3_fits 26 = .ok (.if_icmp .gt 132, 3) := dk_163 0 132 (dk_at dksX3_fits_1 2 rfl rfl)
theorem dX3_fits_29 : decode cX3_fits 29 = .ok (.aload_n 0, 1) := dk_42 (dk_at dksX3_fits_1 5 rfl rfl)
theorem dX3_fits_30 : decode cX3_fits 30 = .ok (.getfield 40, 3) := dk_180 0 40 (dk_at dksX3_fits_1 6 rfl rfl)
theorem dX3_fits_33 : decode cX3_fits 33 = .ok (.iload_n 1, 1) := dk_27 (dk_at dksX3_fits_1 9 rfl rfl)
theorem dX3_fits_34 : decode cX3_fits 34 = .ok (.iload 4, 2) := dk_21 4 (dk_at dksX3_fits_1 10 rfl rfl)
theorem dX3_fits_36 : decode cX3_fits 36 = .ok (.iastore, 1) := dk_79 (dk_at dksX3_fits_1 12 rfl rfl)
theorem dX3_fits_37 : decode cX3_fits 37 = .ok (.aload_n 0, 1) := dk_42 (dk_at dksX3_fits_1 13 rfl rfl)
theorem dX3_fits_38 : decode cX3_fits 38 = .ok (.aload_n 0, 1) := dk_42 (dk_at dksX3_fits_1 14 rfl rfl)
theorem dX3_fits_39 : decode cX3_fits 39 = .ok (.getfield 52, 3) := dk_180 0 52 (dk_at dksX3_fits_1 15 rfl rfl)
theorem dX3_fits_42 : decode cX3_fits 42 = .ok (.invokevirtual 148, 3) := dk_182 0 148 (dk_at dksX3_fits_1 18 rfl rfl)
theorem dX3_fits_45 : decode cX3_fits 45 = .ok (.aload_n 0, 1) := dk_42 (dk_at dksX3_fits_1 21 rfl rfl)
theorem dX3_fits_46 : decode cX3_fits 46 = .ok (.bipush 60, 2) := dk_16 60 (dk_at dksX3_fits_1 22 rfl rfl)
theorem dX3_fits_48 : decode cX3_fits 48 = .ok (.invokevirtual 225, 3) := dk_182 0 225 (dk_at dksX3_fits_2 0 rfl rfl)
theorem dX3_fits_51 : decode cX3_fits 51 = .ok (.iconst 1, 1) := dk_4 (dk_at dksX3_fits_2 3 rfl rfl)
theorem dX3_fits_52 : decode cX3_fits 52 = .ok (.istore 5, 2) := dk_54 5 (dk_at dksX3_fits_2 4 rfl rfl)
theorem dX3_fits_54 : decode cX3_fits 54 = .ok (.iconst 0, 1) := dk_3 (dk_at dksX3_fits_2 6 rfl rfl)
theorem dX3_fits_55 : decode cX3_fits 55 = .ok (.istore 6, 2) := dk_54 6 (dk_at dksX3_fits_2 7 rfl rfl)
theorem dX3_fits_57 : decode cX3_fits 57 = .ok (.iload 6, 2) := dk_21 6 (dk_at dksX3_fits_2 9 rfl rfl)
theorem dX3_fits_59 : decode cX3_fits 59 = .ok (.aload_n 0, 1) := dk_42 (dk_at dksX3_fits_2 11 rfl rfl)
theorem dX3_fits_60 : decode cX3_fits 60 = .ok (.getfield 155, 3) := dk_180 0 155 (dk_at dksX3_fits_2 12 rfl rfl)
theorem dX3_fits_63 : decode cX3_fits 63 = .ok (.if_icmp .ge 73, 3) := dk_162 0 73 (dk_at dksX3_fits_2 15 rfl rfl)
theorem dX3_fits_66 : decode cX3_fits 66 = .ok (.aload_n 0, 1) := dk_42 (dk_at dksX3_fits_2 18 rfl rfl)
theorem dX3_fits_67 : decode cX3_fits 67 = .ok (.getfield 52, 3) := dk_180 0 52 (dk_at dksX3_fits_2 19 rfl rfl)
theorem dX3_fits_70 : decode cX3_fits 70 = .ok (.aload_n 0, 1) := dk_42 (dk_at dksX3_fits_2 22 rfl rfl)
theorem dX3_fits_71 : decode cX3_fits 71 = .ok (.getfield 58, 3) := dk_180 0 58 (dk_at dksX3_fits_3 0 rfl rfl)
theorem dX3_fits_74 : decode cX3_fits 74 = .ok (.iload 6, 2) := dk_21 6 (dk_at dksX3_fits_3 3 rfl rfl)
theorem dX3_fits_76 : decode cX3_fits 76 = .ok (.iaload, 1) := dk_46 (dk_at dksX3_fits_3 5 rfl rfl)
theorem dX3_fits_77 : decode cX3_fits 77 = .ok (.bipush 8, 2) := dk_16 8 (dk_at dksX3_fits_3 6 rfl rfl)
theorem dX3_fits_79 : decode cX3_fits 79 = .ok (.invokestatic 161, 3) := dk_184 0 161 (dk_at dksX3_fits_3 8 rfl rfl)
theorem dX3_fits_82 : decode cX3_fits 82 = .ok (.istore 7, 2) := dk_54 7 (dk_at dksX3_fits_3 11 rfl rfl)
theorem dX3_fits_84 : decode cX3_fits 84 = .ok (.iload 5, 2) := dk_21 5 (dk_at dksX3_fits_3 13 rfl rfl)
theorem dX3_fits_86 : decode cX3_fits 86 = .ok (.ifCond .eq 41, 3) := dk_153 0 41 (dk_at dksX3_fits_3 15 rfl rfl)
theorem dX3_fits_89 : decode cX3_fits 89 = .ok (.iload 7, 2) := dk_21 7 (dk_at dksX3_fits_3 18 rfl rfl)
theorem dX3_fits_91 : decode cX3_fits 91 = .ok (.bipush (-9), 2) := dk_16 247 (dk_at dksX3_fits_3 20 rfl rfl)
theorem dX3_fits_93 : decode cX3_fits 93 = .ok (.if_icmp .eq 19, 3) := dk_159 0 19 (dk_at dksX3_fits_4 0 rfl rfl)
theorem dX3_fits_96 : decode cX3_fits 96 = .ok (.iload 7, 2) := dk_21 7 (dk_at dksX3_fits_4 3 rfl rfl)
theorem dX3_fits_98 : decode cX3_fits 98 = .ok (.aload_n 0, 1) := dk_42 (dk_at dksX3_fits_4 5 rfl rfl)
theorem dX3_fits_99 : decode cX3_fits 99 = .ok (.getfield 61, 3) := dk_180 0 61 (dk_at dksX3_fits_4 6 rfl rfl)
theorem dX3_fits_102 : decode cX3_fits 102 = .ok (.iload 6, 2) := dk_21 6 (dk_at dksX3_fits_4 9 rfl rfl)
theorem dX3_fits_104 : decode cX3_fits 104 = .ok (.iaload, 1) := dk_46 (dk_at dksX3_fits_4 11 rfl rfl)
theorem dX3_fits_105 : decode cX3_fits 105 = .ok (.if_icmp .gt 7, 3) := dk_163 0 7 (dk_at dksX3_fits_4 12 rfl rfl)
theorem dX3_fits_108 : decode cX3_fits 108 = .ok (.iconst 1, 1) := dk_4 (dk_at dksX3_fits_4 15 rfl rfl)
theorem dX3_fits_109 : decode cX3_fits 109 = .ok (.goto 4, 3) := dk_167 0 4 (dk_at dksX3_fits_4 16 rfl rfl)
theorem dX3_fits_112 : decode cX3_fits 112 = .ok (.iconst 0, 1) := dk_3 (dk_at dksX3_fits_4 19 rfl rfl)
theorem dX3_fits_113 : decode cX3_fits 113 = .ok (.aload_n 0, 1) := dk_42 (dk_at dksX3_fits_4 20 rfl rfl)
theorem dX3_fits_114 : decode cX3_fits 114 = .ok (.getfield 64, 3) := dk_180 0 64 (dk_at dksX3_fits_4 21 rfl rfl)
theorem dX3_fits_117 : decode cX3_fits 117 = .ok (.iload 6, 2) := dk_21 6 (dk_at dksX3_fits_5 0 rfl rfl)
theorem dX3_fits_119 : decode cX3_fits 119 = .ok (.iaload, 1) := dk_46 (dk_at dksX3_fits_5 2 rfl rfl)
theorem dX3_fits_120 : decode cX3_fits 120 = .ok (.if_icmp .ne 7, 3) := dk_160 0 7 (dk_at dksX3_fits_5 3 rfl rfl)
theorem dX3_fits_123 : decode cX3_fits 123 = .ok (.iconst 1, 1) := dk_4 (dk_at dksX3_fits_5 6 rfl rfl)
theorem dX3_fits_124 : decode cX3_fits 124 = .ok (.goto 4, 3) := dk_167 0 4 (dk_at dksX3_fits_5 7 rfl rfl)
theorem dX3_fits_127 : decode cX3_fits 127 = .ok (.iconst 0, 1) := dk_3 (dk_at dksX3_fits_5 10 rfl rfl)
theorem dX3_fits_128 : decode cX3_fits 128 = .ok (.istore 5, 2) := dk_54 5 (dk_at dksX3_fits_5 11 rfl rfl)
theorem dX3_fits_130 : decode cX3_fits 130 = .ok (.iinc 6 1, 3) := dk_132 6 1 (dk_at dksX3_fits_5 13 rfl rfl)
theorem dX3_fits_133 : decode cX3_fits 133 = .ok (.goto (-76), 3) := dk_167 255 180 (dk_at dksX3_fits_5 16 rfl rfl)
theorem dX3_fits_136 : decode cX3_fits 136 = .ok (.iload_n 3, 1) := dk_29 (dk_at dksX3_fits_5 19 rfl rfl)
theorem dX3_fits_137 : decode cX3_fits 137 = .ok (.iload 5, 2) := dk_21 5 (dk_at dksX3_fits_5 20 rfl rfl)
theorem dX3_fits_139 : decode cX3_fits 139 = .ok (.ifCond .eq 10, 3) := dk_153 0 10 (dk_at dksX3_fits_6 0 rfl rfl)
theorem dX3_fits_142 : decode cX3_fits 142 = .ok (.iconst 1, 1) := dk_4 (dk_at dksX3_fits_6 3 rfl rfl)
theorem dX3_fits_143 : decode cX3_fits 143 = .ok (.iload 4, 2) := dk_21 4 (dk_at dksX3_fits_6 4 rfl rfl)
theorem dX3_fits_145 : decode cX3_fits 145 = .ok (.ishl, 1) := dk_120 (dk_at dksX3_fits_6 6 rfl rfl)
theorem dX3_fits_146 : decode cX3_fits 146 = .ok (.goto 4, 3) := dk_167 0 4 (dk_at dksX3_fits_6 7 rfl rfl)
theorem dX3_fits_149 : decode cX3_fits 149 = .ok (.iconst 0, 1) := dk_3 (dk_at dksX3_fits_6 10 rfl rfl)
theorem dX3_fits_150 : decode cX3_fits 150 = .ok (.ior, 1) := dk_128 (dk_at dksX3_fits_6 11 rfl rfl)
theorem dX3_fits_151 : decode cX3_fits 151 = .ok (.istore_n 3, 1) := dk_62 (dk_at dksX3_fits_6 12 rfl rfl)
theorem dX3_fits_152 : decode cX3_fits 152 = .ok (.iinc 4 1, 3) := dk_132 4 1 (dk_at dksX3_fits_6 13 rfl rfl)
theorem dX3_fits_155 : decode cX3_fits 155 = .ok (.goto (-133), 3) := dk_167 255 123 (dk_at dksX3_fits_6 16 rfl rfl)
theorem dX3_fits_158 : decode cX3_fits 158 = .ok (.aload_n 0, 1) := dk_42 (dk_at dksX3_fits_6 19 rfl rfl)
theorem dX3_fits_159 : decode cX3_fits 159 = .ok (.getfield 40, 3) := dk_180 0 40 (dk_at dksX3_fits_6 20 rfl rfl)
theorem dX3_fits_162 : decode cX3_fits 162 = .ok (.iload_n 1, 1) := dk_27 (dk_at dksX3_fits_6 23 rfl rfl)
theorem dX3_fits_163 : decode cX3_fits 163 = .ok (.iload_n 2, 1) := dk_28 (dk_at dksX3_fits_7 0 rfl rfl)
theorem dX3_fits_164 : decode cX3_fits 164 = .ok (.iastore, 1) := dk_79 (dk_at dksX3_fits_7 1 rfl rfl)
theorem dX3_fits_165 : decode cX3_fits 165 = .ok (.iload_n 3, 1) := dk_29 (dk_at dksX3_fits_7 2 rfl rfl)
theorem dX3_fits_166 : decode cX3_fits 166 = .ok (.ireturn, 1) := dk_172 (dk_at dksX3_fits_7 3 rfl rfl)
abbrev cX3_keep : ByteArray := prog_7_method_51_code
def yX3_keep : MethodName := ⟨RX3, "keep", "(I)I"⟩
def dkwX3_keep_2 : List UInt8 := [167, 255, 228, 42, 180, 0, 49, 17, 0, 144, 46, 172]
abbrev dktX3_keep_2 : List UInt8 := dkwX3_keep_2 ++ []
def dkwX3_keep_1 : List UInt8 := [162, 0, 27, 42, 180, 0, 71, 17, 1, 70, 27, 104, 28, 96, 42, 180, 0, 49, 28, 46, 79, 132, 2, 1]
abbrev dktX3_keep_1 : List UInt8 := dkwX3_keep_1 ++ dktX3_keep_2
def dkwX3_keep_0 : List UInt8 := [27, 3, 4, 184, 0, 80, 154, 0, 5, 2, 172, 42, 180, 0, 67, 27, 4, 84, 3, 61, 28, 17, 1, 70]
abbrev dktX3_keep_0 : List UInt8 := dkwX3_keep_0 ++ dktX3_keep_1
theorem dksX3_keep_0 : cX3_keep.data.toList.drop 0 = dktX3_keep_0 := by decide +kernel
theorem dksX3_keep_1 : cX3_keep.data.toList.drop 24 = dktX3_keep_1 := dk_seg dksX3_keep_0 24 rfl rfl
theorem dksX3_keep_2 : cX3_keep.data.toList.drop 48 = dktX3_keep_2 := dk_seg dksX3_keep_1 24 rfl rfl
theorem dX3_keep_0 : decode cX3_keep 0 = .ok (.iload_n 1, 1) := dk_27 (dk_at dksX3_keep_0 0 rfl rfl)
theorem dX3_keep_1 : decode cX3_keep 1 = .ok (.iconst 0, 1) := dk_3 (dk_at dksX3_keep_0 1 rfl rfl)
theorem dX3_keep_2 : decode cX3_keep 2 = .ok (.iconst 1, 1) := dk_4 (dk_at dksX3_keep_0 2 rfl rfl)
theorem dX3_keep_3 : decode cX3_keep 3 = .ok (.invokestatic 80, 3) := dk_184 0 80 (dk_at dksX3_keep_0 3 rfl rfl)
theorem dX3_keep_6 : decode cX3_keep 6 = .ok (.ifCond .ne 5, 3) := dk_154 0 5 (dk_at dksX3_keep_0 6 rfl rfl)
theorem dX3_keep_9 : decode cX3_keep 9 = .ok (.iconst (-1), 1) := dk_2 (dk_at dksX3_keep_0 9 rfl rfl)
theorem dX3_keep_10 : decode cX3_keep 10 = .ok (.ireturn, 1) := dk_172 (dk_at dksX3_keep_0 10 rfl rfl)
theorem dX3_keep_11 : decode cX3_keep 11 = .ok (.aload_n 0, 1) := dk_42 (dk_at dksX3_keep_0 11 rfl rfl)
theorem dX3_keep_12 : decode cX3_keep 12 = .ok (.getfield 67, 3) := dk_180 0 67 (dk_at dksX3_keep_0 12 rfl rfl)
theorem dX3_keep_15 : decode cX3_keep 15 = .ok (.iload_n 1, 1) := dk_27 (dk_at dksX3_keep_0 15 rfl rfl)
theorem dX3_keep_16 : decode cX3_keep 16 = .ok (.iconst 1, 1) := dk_4 (dk_at dksX3_keep_0 16 rfl rfl)
theorem dX3_keep_17 : decode cX3_keep 17 = .ok (.bastore, 1) := dk_84 (dk_at dksX3_keep_0 17 rfl rfl)
theorem dX3_keep_18 : decode cX3_keep 18 = .ok (.iconst 0, 1) := dk_3 (dk_at dksX3_keep_0 18 rfl rfl)
theorem dX3_keep_19 : decode cX3_keep 19 = .ok (.istore_n 2, 1) := dk_61 (dk_at dksX3_keep_0 19 rfl rfl)
theorem dX3_keep_20 : decode cX3_keep 20 = .ok (.iload_n 2, 1) := dk_28 (dk_at dksX3_keep_0 20 rfl rfl)
theorem dX3_keep_21 : decode cX3_keep 21 = .ok (.sipush 326, 3) := dk_17 1 70 (dk_at dksX3_keep_0 21 rfl rfl)
theorem dX3_keep_24 : decode cX3_keep 24 = .ok (.if_icmp .ge 27, 3) := dk_162 0 27 (dk_at dksX3_keep_1 0 rfl rfl)
theorem dX3_keep_27 : decode cX3_keep 27 = .ok (.aload_n 0, 1) := dk_42 (dk_at dksX3_keep_1 3 rfl rfl)
theorem dX3_keep_28 : decode cX3_keep 28 = .ok (.getfield 71, 3) := dk_180 0 71 (dk_at dksX3_keep_1 4 rfl rfl)
theorem dX3_keep_31 : decode cX3_keep 31 = .ok (.sipush 326, 3) := dk_17 1 70 (dk_at dksX3_keep_1 7 rfl rfl)
theorem dX3_keep_34 : decode cX3_keep 34 = .ok (.iload_n 1, 1) := dk_27 (dk_at dksX3_keep_1 10 rfl rfl)
theorem dX3_keep_35 : decode cX3_keep 35 = .ok (.imul, 1) := dk_104 (dk_at dksX3_keep_1 11 rfl rfl)
theorem dX3_keep_36 : decode cX3_keep 36 = .ok (.iload_n 2, 1) := dk_28 (dk_at dksX3_keep_1 12 rfl rfl)
theorem dX3_keep_37 : decode cX3_keep 37 = .ok (.iadd, 1) := dk_96 (dk_at dksX3_keep_1 13 rfl rfl)
theorem dX3_keep_38 : decode cX3_keep 38 = .ok (.aload_n 0, 1) := dk_42 (dk_at dksX3_keep_1 14 rfl rfl)
theorem dX3_keep_39 : decode cX3_keep 39 = .ok (.getfield 49, 3) := dk_180 0 49 (dk_at dksX3_keep_1 15 rfl rfl)
theorem dX3_keep_42 : decode cX3_keep 42 = .ok (.iload_n 2, 1) := dk_28 (dk_at dksX3_keep_1 18 rfl rfl)
theorem dX3_keep_43 : decode cX3_keep 43 = .ok (.iaload, 1) := dk_46 (dk_at dksX3_keep_1 19 rfl rfl)
theorem dX3_keep_44 : decode cX3_keep 44 = .ok (.iastore, 1) := dk_79 (dk_at dksX3_keep_1 20 rfl rfl)
theorem dX3_keep_45 : decode cX3_keep 45 = .ok (.iinc 2 1, 3) := dk_132 2 1 (dk_at dksX3_keep_1 21 rfl rfl)
theorem dX3_keep_48 : decode cX3_keep 48 = .ok (.goto (-28), 3) := dk_167 255 228 (dk_at dksX3_keep_2 0 rfl rfl)
theorem dX3_keep_51 : decode cX3_keep 51 = .ok (.aload_n 0, 1) := dk_42 (dk_at dksX3_keep_2 3 rfl rfl)
theorem dX3_keep_52 : decode cX3_keep 52 = .ok (.getfield 49, 3) := dk_180 0 49 (dk_at dksX3_keep_2 4 rfl rfl)
theorem dX3_keep_55 : decode cX3_keep 55 = .ok (.sipush 144, 3) := dk_17 0 144 (dk_at dksX3_keep_2 7 rfl rfl)
theorem dX3_keep_58 : decode cX3_keep 58 = .ok (.iaload, 1) := dk_46 (dk_at dksX3_keep_2 10 rfl rfl)
theorem dX3_keep_59 : decode cX3_keep 59 = .ok (.ireturn, 1) := dk_172 (dk_at dksX3_keep_2 11 rfl rfl)
abbrev cX3_back : ByteArray := prog_7_method_52_code
def yX3_back : MethodName := ⟨RX3, "back", "(I)I"⟩
def dkwX3_back_2 : List UInt8 := [46, 79, 132, 2, 1, 167, 255, 228, 42, 3, 181, 0, 152, 42, 180, 0, 49, 17, 0, 144, 46, 172]
abbrev dktX3_back_2 : List UInt8 := dkwX3_back_2 ++ []
def dkwX3_back_1 : List UInt8 := [61, 28, 17, 1, 70, 162, 0, 27, 42, 180, 0, 49, 28, 42, 180, 0, 71, 17, 1, 70, 27, 104, 28, 96]
abbrev dktX3_back_1 : List UInt8 := dkwX3_back_1 ++ dktX3_back_2
def dkwX3_back_0 : List UInt8 := [27, 3, 4, 184, 0, 80, 154, 0, 5, 2, 172, 42, 180, 0, 67, 27, 51, 154, 0, 6, 16, 254, 172, 3]
abbrev dktX3_back_0 : List UInt8 := dkwX3_back_0 ++ dktX3_back_1
theorem dksX3_back_0 : cX3_back.data.toList.drop 0 = dktX3_back_0 := by decide +kernel
theorem dksX3_back_1 : cX3_back.data.toList.drop 24 = dktX3_back_1 := dk_seg dksX3_back_0 24 rfl rfl
theorem dksX3_back_2 : cX3_back.data.toList.drop 48 = dktX3_back_2 := dk_seg dksX3_back_1 24 rfl rfl
theorem dX3_back_0 : decode cX3_back 0 = .ok (.iload_n 1, 1) := dk_27 (dk_at dksX3_back_0 0 rfl rfl)
theorem dX3_back_1 : decode cX3_back 1 = .ok (.iconst 0, 1) := dk_3 (dk_at dksX3_back_0 1 rfl rfl)
theorem dX3_back_2 : decode cX3_back 2 = .ok (.iconst 1, 1) := dk_4 (dk_at dksX3_back_0 2 rfl rfl)
theorem dX3_back_3 : decode cX3_back 3 = .ok (.invokestatic 80, 3) := dk_184 0 80 (dk_at dksX3_back_0 3 rfl rfl)
theorem dX3_back_6 : decode cX3_back 6 = .ok (.ifCond .ne 5, 3) := dk_154 0 5 (dk_at dksX3_back_0 6 rfl rfl)
theorem dX3_back_9 : decode cX3_back 9 = .ok (.iconst (-1), 1) := dk_2 (dk_at dksX3_back_0 9 rfl rfl)
theorem dX3_back_10 : decode cX3_back 10 = .ok (.ireturn, 1) := dk_172 (dk_at dksX3_back_0 10 rfl rfl)
theorem dX3_back_11 : decode cX3_back 11 = .ok (.aload_n 0, 1) := dk_42 (dk_at dksX3_back_0 11 rfl rfl)
theorem dX3_back_12 : decode cX3_back 12 = .ok (.getfield 67, 3) := dk_180 0 67 (dk_at dksX3_back_0 12 rfl rfl)
theorem dX3_back_15 : decode cX3_back 15 = .ok (.iload_n 1, 1) := dk_27 (dk_at dksX3_back_0 15 rfl rfl)
theorem dX3_back_16 : decode cX3_back 16 = .ok (.baload, 1) := dk_51 (dk_at dksX3_back_0 16 rfl rfl)
theorem dX3_back_17 : decode cX3_back 17 = .ok (.ifCond .ne 6, 3) := dk_154 0 6 (dk_at dksX3_back_0 17 rfl rfl)
theorem dX3_back_20 : decode cX3_back 20 = .ok (.bipush (-2), 2) := dk_16 254 (dk_at dksX3_back_0 20 rfl rfl)
theorem dX3_back_22 : decode cX3_back 22 = .ok (.ireturn, 1) := dk_172 (dk_at dksX3_back_0 22 rfl rfl)
theorem dX3_back_23 : decode cX3_back 23 = .ok (.iconst 0, 1) := dk_3 (dk_at dksX3_back_0 23 rfl rfl)
theorem dX3_back_24 : decode cX3_back 24 = .ok (.istore_n 2, 1) := dk_61 (dk_at dksX3_back_1 0 rfl rfl)
theorem dX3_back_25 : decode cX3_back 25 = .ok (.iload_n 2, 1) := dk_28 (dk_at dksX3_back_1 1 rfl rfl)
theorem dX3_back_26 : decode cX3_back 26 = .ok (.sipush 326, 3) := dk_17 1 70 (dk_at dksX3_back_1 2 rfl rfl)
theorem dX3_back_29 : decode cX3_back 29 = .ok (.if_icmp .ge 27, 3) := dk_162 0 27 (dk_at dksX3_back_1 5 rfl rfl)
theorem dX3_back_32 : decode cX3_back 32 = .ok (.aload_n 0, 1) := dk_42 (dk_at dksX3_back_1 8 rfl rfl)
theorem dX3_back_33 : decode cX3_back 33 = .ok (.getfield 49, 3) := dk_180 0 49 (dk_at dksX3_back_1 9 rfl rfl)
theorem dX3_back_36 : decode cX3_back 36 = .ok (.iload_n 2, 1) := dk_28 (dk_at dksX3_back_1 12 rfl rfl)
theorem dX3_back_37 : decode cX3_back 37 = .ok (.aload_n 0, 1) := dk_42 (dk_at dksX3_back_1 13 rfl rfl)
theorem dX3_back_38 : decode cX3_back 38 = .ok (.getfield 71, 3) := dk_180 0 71 (dk_at dksX3_back_1 14 rfl rfl)
theorem dX3_back_41 : decode cX3_back 41 = .ok (.sipush 326, 3) := dk_17 1 70 (dk_at dksX3_back_1 17 rfl rfl)
theorem dX3_back_44 : decode cX3_back 44 = .ok (.iload_n 1, 1) := dk_27 (dk_at dksX3_back_1 20 rfl rfl)
theorem dX3_back_45 : decode cX3_back 45 = .ok (.imul, 1) := dk_104 (dk_at dksX3_back_1 21 rfl rfl)
theorem dX3_back_46 : decode cX3_back 46 = .ok (.iload_n 2, 1) := dk_28 (dk_at dksX3_back_1 22 rfl rfl)
theorem dX3_back_47 : decode cX3_back 47 = .ok (.iadd, 1) := dk_96 (dk_at dksX3_back_1 23 rfl rfl)
theorem dX3_back_48 : decode cX3_back 48 = .ok (.iaload, 1) := dk_46 (dk_at dksX3_back_2 0 rfl rfl)
theorem dX3_back_49 : decode cX3_back 49 = .ok (.iastore, 1) := dk_79 (dk_at dksX3_back_2 1 rfl rfl)
theorem dX3_back_50 : decode cX3_back 50 = .ok (.iinc 2 1, 3) := dk_132 2 1 (dk_at dksX3_back_2 2 rfl rfl)
theorem dX3_back_53 : decode cX3_back 53 = .ok (.goto (-28), 3) := dk_167 255 228 (dk_at dksX3_back_2 5 rfl rfl)
theorem dX3_back_56 : decode cX3_back 56 = .ok (.aload_n 0, 1) := dk_42 (dk_at dksX3_back_2 8 rfl rfl)
theorem dX3_back_57 : decode cX3_back 57 = .ok (.iconst 0, 1) := dk_3 (dk_at dksX3_back_2 9 rfl rfl)
theorem dX3_back_58 : decode cX3_back 58 = .ok (.putfield 152, 3) := dk_181 0 152 (dk_at dksX3_back_2 10 rfl rfl)
theorem dX3_back_61 : decode cX3_back 61 = .ok (.aload_n 0, 1) := dk_42 (dk_at dksX3_back_2 13 rfl rfl)
theorem dX3_back_62 : decode cX3_back 62 = .ok (.getfield 49, 3) := dk_180 0 49 (dk_at dksX3_back_2 14 rfl rfl)
theorem dX3_back_65 : decode cX3_back 65 = .ok (.sipush 144, 3) := dk_17 0 144 (dk_at dksX3_back_2 17 rfl rfl)
theorem dX3_back_68 : decode cX3_back 68 = .ok (.iaload, 1) := dk_46 (dk_at dksX3_back_2 20 rfl rfl)
theorem dX3_back_69 : decode cX3_back 69 = .ok (.ireturn, 1) := dk_172 (dk_at dksX3_back_2 21 rfl rfl)
abbrev cX3_count : ByteArray := prog_7_method_54_code
def yX3_count : MethodName := ⟨RX3, "count", "(I)I"⟩
def dkwX3_count_4 : List UInt8 := [42, 180, 0, 84, 172, 42, 180, 0, 152, 172, 2, 172]
abbrev dktX3_count_4 : List UInt8 := dkwX3_count_4 ++ []
def dkwX3_count_3 : List UInt8 := [182, 0, 230, 172, 42, 6, 182, 0, 230, 172, 42, 180, 0, 49, 17, 0, 145, 46, 172, 42, 180, 0, 155, 172]
abbrev dktX3_count_3 : List UInt8 := dkwX3_count_3 ++ dktX3_count_4
def dkwX3_count_2 : List UInt8 := [42, 180, 0, 142, 172, 42, 180, 0, 49, 17, 0, 144, 46, 172, 42, 4, 182, 0, 230, 172, 42, 5]
abbrev dktX3_count_2 : List UInt8 := dkwX3_count_2 ++ dktX3_count_3
def dkwX3_count_1 : List UInt8 := [170, 0, 0, 0, 0, 0, 107, 0, 0, 0, 0, 0, 0, 0, 8, 0, 0, 0, 51, 0, 0, 0, 56, 0, 0, 0, 65, 0, 0, 0, 71, 0, 0, 0, 77, 0, 0, 0, 83, 0, 0, 0, 92, 0, 0, 0, 97, 0, 0, 0, 102]
abbrev dktX3_count_1 : List UInt8 := dkwX3_count_1 ++ dktX3_count_2
def dkwX3_count_0 : List UInt8 := [27]
abbrev dktX3_count_0 : List UInt8 := dkwX3_count_0 ++ dktX3_count_1
theorem dksX3_count_0 : cX3_count.data.toList.drop 0 = dktX3_count_0 := by decide +kernel
theorem dksX3_count_1 : cX3_count.data.toList.drop 1 = dktX3_count_1 := dk_seg dksX3_count_0 1 rfl rfl
theorem dksX3_count_2 : cX3_count.data.toList.drop 52 = dktX3_count_2 := dk_seg dksX3_count_1 51 rfl rfl
theorem dksX3_count_3 : cX3_count.data.toList.drop 74 = dktX3_count_3 := dk_seg dksX3_count_2 22 rfl rfl
theorem dksX3_count_4 : cX3_count.data.toList.drop 98 = dktX3_count_4 := dk_seg dksX3_count_3 24 rfl rfl
theorem dX3_count_0 : decode cX3_count 0 = .ok (.iload_n 1, 1) := dk_27 (dk_at dksX3_count_0 0 rfl rfl)
theorem dX3_count_1 : decode cX3_count 1 = .ok (.tableswitch 107 0 8 #[51, 56, 65, 71, 77, 83, 92, 97, 102], 51) := by decide +kernel
theorem dX3_count_52 : decode cX3_count 52 = .ok (.aload_n 0, 1) := dk_42 (dk_at dksX3_count_2 0 rfl rfl)
theorem dX3_count_53 : decode cX3_count 53 = .ok (.getfield 142, 3) := dk_180 0 142 (dk_at dksX3_count_2 1 rfl rfl)
theorem dX3_count_56 : decode cX3_count 56 = .ok (.ireturn, 1) := dk_172 (dk_at dksX3_count_2 4 rfl rfl)
theorem dX3_count_57 : decode cX3_count 57 = .ok (.aload_n 0, 1) := dk_42 (dk_at dksX3_count_2 5 rfl rfl)
theorem dX3_count_58 : decode cX3_count 58 = .ok (.getfield 49, 3) := dk_180 0 49 (dk_at dksX3_count_2 6 rfl rfl)
theorem dX3_count_61 : decode cX3_count 61 = .ok (.sipush 144, 3) := dk_17 0 144 (dk_at dksX3_count_2 9 rfl rfl)
theorem dX3_count_64 : decode cX3_count 64 = .ok (.iaload, 1) := dk_46 (dk_at dksX3_count_2 12 rfl rfl)
theorem dX3_count_65 : decode cX3_count 65 = .ok (.ireturn, 1) := dk_172 (dk_at dksX3_count_2 13 rfl rfl)
theorem dX3_count_66 : decode cX3_count 66 = .ok (.aload_n 0, 1) := dk_42 (dk_at dksX3_count_2 14 rfl rfl)
theorem dX3_count_67 : decode cX3_count 67 = .ok (.iconst 1, 1) := dk_4 (dk_at dksX3_count_2 15 rfl rfl)
theorem dX3_count_68 : decode cX3_count 68 = .ok (.invokevirtual 230, 3) := dk_182 0 230 (dk_at dksX3_count_2 16 rfl rfl)
theorem dX3_count_71 : decode cX3_count 71 = .ok (.ireturn, 1) := dk_172 (dk_at dksX3_count_2 19 rfl rfl)
theorem dX3_count_72 : decode cX3_count 72 = .ok (.aload_n 0, 1) := dk_42 (dk_at dksX3_count_2 20 rfl rfl)
theorem dX3_count_73 : decode cX3_count 73 = .ok (.iconst 2, 1) := dk_5 (dk_at dksX3_count_2 21 rfl rfl)
theorem dX3_count_74 : decode cX3_count 74 = .ok (.invokevirtual 230, 3) := dk_182 0 230 (dk_at dksX3_count_3 0 rfl rfl)
theorem dX3_count_77 : decode cX3_count 77 = .ok (.ireturn, 1) := dk_172 (dk_at dksX3_count_3 3 rfl rfl)
theorem dX3_count_78 : decode cX3_count 78 = .ok (.aload_n 0, 1) := dk_42 (dk_at dksX3_count_3 4 rfl rfl)
theorem dX3_count_79 : decode cX3_count 79 = .ok (.iconst 3, 1) := dk_6 (dk_at dksX3_count_3 5 rfl rfl)
theorem dX3_count_80 : decode cX3_count 80 = .ok (.invokevirtual 230, 3) := dk_182 0 230 (dk_at dksX3_count_3 6 rfl rfl)
theorem dX3_count_83 : decode cX3_count 83 = .ok (.ireturn, 1) := dk_172 (dk_at dksX3_count_3 9 rfl rfl)
theorem dX3_count_84 : decode cX3_count 84 = .ok (.aload_n 0, 1) := dk_42 (dk_at dksX3_count_3 10 rfl rfl)
theorem dX3_count_85 : decode cX3_count 85 = .ok (.getfield 49, 3) := dk_180 0 49 (dk_at dksX3_count_3 11 rfl rfl)
theorem dX3_count_88 : decode cX3_count 88 = .ok (.sipush 145, 3) := dk_17 0 145 (dk_at dksX3_count_3 14 rfl rfl)
theorem dX3_count_91 : decode cX3_count 91 = .ok (.iaload, 1) := dk_46 (dk_at dksX3_count_3 17 rfl rfl)
theorem dX3_count_92 : decode cX3_count 92 = .ok (.ireturn, 1) := dk_172 (dk_at dksX3_count_3 18 rfl rfl)
theorem dX3_count_93 : decode cX3_count 93 = .ok (.aload_n 0, 1) := dk_42 (dk_at dksX3_count_3 19 rfl rfl)
theorem dX3_count_94 : decode cX3_count 94 = .ok (.getfield 155, 3) := dk_180 0 155 (dk_at dksX3_count_3 20 rfl rfl)
theorem dX3_count_97 : decode cX3_count 97 = .ok (.ireturn, 1) := dk_172 (dk_at dksX3_count_3 23 rfl rfl)
theorem dX3_count_98 : decode cX3_count 98 = .ok (.aload_n 0, 1) := dk_42 (dk_at dksX3_count_4 0 rfl rfl)
theorem dX3_count_99 : decode cX3_count 99 = .ok (.getfield 84, 3) := dk_180 0 84 (dk_at dksX3_count_4 1 rfl rfl)
theorem dX3_count_102 : decode cX3_count 102 = .ok (.ireturn, 1) := dk_172 (dk_at dksX3_count_4 4 rfl rfl)
theorem dX3_count_103 : decode cX3_count 103 = .ok (.aload_n 0, 1) := dk_42 (dk_at dksX3_count_4 5 rfl rfl)
theorem dX3_count_104 : decode cX3_count 104 = .ok (.getfield 152, 3) := dk_180 0 152 (dk_at dksX3_count_4 6 rfl rfl)
theorem dX3_count_107 : decode cX3_count 107 = .ok (.ireturn, 1) := dk_172 (dk_at dksX3_count_4 9 rfl rfl)
theorem dX3_count_108 : decode cX3_count 108 = .ok (.iconst (-1), 1) := dk_2 (dk_at dksX3_count_4 10 rfl rfl)
theorem dX3_count_109 : decode cX3_count 109 = .ok (.ireturn, 1) := dk_172 (dk_at dksX3_count_4 11 rfl rfl)
abbrev cX3_howMany : ByteArray := prog_7_method_53_code
def yX3_howMany : MethodName := ⟨RX3, "howMany", "(I)I"⟩
def dkwX3_howMany_1 : List UInt8 := [153, 0, 7, 4, 167, 0, 4, 3, 96, 61, 132, 3, 1, 167, 255, 225, 28, 172]
abbrev dktX3_howMany_1 : List UInt8 := dkwX3_howMany_1 ++ []
def dkwX3_howMany_0 : List UInt8 := [3, 61, 3, 62, 29, 42, 180, 0, 142, 162, 0, 29, 28, 42, 180, 0, 49, 29, 27, 184, 0, 165]
abbrev dktX3_howMany_0 : List UInt8 := dkwX3_howMany_0 ++ dktX3_howMany_1
theorem dksX3_howMany_0 : cX3_howMany.data.toList.drop 0 = dktX3_howMany_0 := by decide +kernel
theorem dksX3_howMany_1 : cX3_howMany.data.toList.drop 22 = dktX3_howMany_1 := dk_seg dksX3_howMany_0 22 rfl rfl
theorem dX3_howMany_0 : decode cX3_howMany 0 = .ok (.iconst 0, 1) := dk_3 (dk_at dksX3_howMany_0 0 rfl rfl)
theorem dX3_howMany_1 : decode cX3_howMany 1 = .ok (.istore_n 2, 1) := dk_61 (dk_at dksX3_howMany_0 1 rfl rfl)
theorem dX3_howMany_2 : decode cX3_howMany 2 = .ok (.iconst 0, 1) := dk_3 (dk_at dksX3_howMany_0 2 rfl rfl)
theorem dX3_howMany_3 : decode cX3_howMany 3 = .ok (.istore_n 3, 1) := dk_62 (dk_at dksX3_howMany_0 3 rfl rfl)
theorem dX3_howMany_4 : decode cX3_howMany 4 = .ok (.iload_n 3, 1) := dk_29 (dk_at dksX3_howMany_0 4 rfl rfl)
theorem dX3_howMany_5 : decode cX3_howMany 5 = .ok (.aload_n 0, 1) := dk_42 (dk_at dksX3_howMany_0 5 rfl rfl)
theorem dX3_howMany_6 : decode cX3_howMany 6 = .ok (.getfield 142, 3) := dk_180 0 142 (dk_at dksX3_howMany_0 6 rfl rfl)
theorem dX3_howMany_9 : decode cX3_howMany 9 = .ok (.if_icmp .ge 29, 3) := dk_162 0 29 (dk_at dksX3_howMany_0 9 rfl rfl)
theorem dX3_howMany_12 : decode cX3_howMany 12 = .ok (.iload_n 2, 1) := dk_28 (dk_at dksX3_howMany_0 12 rfl rfl)
theorem dX3_howMany_13 : decode cX3_howMany 13 = .ok (.aload_n 0, 1) := dk_42 (dk_at dksX3_howMany_0 13 rfl rfl)
theorem dX3_howMany_14 : decode cX3_howMany 14 = .ok (.getfield 49, 3) := dk_180 0 49 (dk_at dksX3_howMany_0 14 rfl rfl)
theorem dX3_howMany_17 : decode cX3_howMany 17 = .ok (.iload_n 3, 1) := dk_29 (dk_at dksX3_howMany_0 17 rfl rfl)
theorem dX3_howMany_18 : decode cX3_howMany 18 = .ok (.iload_n 1, 1) := dk_27 (dk_at dksX3_howMany_0 18 rfl rfl)
theorem dX3_howMany_19 : decode cX3_howMany 19 = .ok (.invokestatic 165, 3) := dk_184 0 165 (dk_at dksX3_howMany_0 19 rfl rfl)
theorem dX3_howMany_22 : decode cX3_howMany 22 = .ok (.ifCond .eq 7, 3) := dk_153 0 7 (dk_at dksX3_howMany_1 0 rfl rfl)
theorem dX3_howMany_25 : decode cX3_howMany 25 = .ok (.iconst 1, 1) := dk_4 (dk_at dksX3_howMany_1 3 rfl rfl)
theorem dX3_howMany_26 : decode cX3_howMany 26 = .ok (.goto 4, 3) := dk_167 0 4 (dk_at dksX3_howMany_1 4 rfl rfl)
theorem dX3_howMany_29 : decode cX3_howMany 29 = .ok (.iconst 0, 1) := dk_3 (dk_at dksX3_howMany_1 7 rfl rfl)
theorem dX3_howMany_30 : decode cX3_howMany 30 = .ok (.iadd, 1) := dk_96 (dk_at dksX3_howMany_1 8 rfl rfl)
theorem dX3_howMany_31 : decode cX3_howMany 31 = .ok (.istore_n 2, 1) := dk_61 (dk_at dksX3_howMany_1 9 rfl rfl)
theorem dX3_howMany_32 : decode cX3_howMany 32 = .ok (.iinc 3 1, 3) := dk_132 3 1 (dk_at dksX3_howMany_1 10 rfl rfl)
theorem dX3_howMany_35 : decode cX3_howMany 35 = .ok (.goto (-31), 3) := dk_167 255 225 (dk_at dksX3_howMany_1 13 rfl rfl)
theorem dX3_howMany_38 : decode cX3_howMany 38 = .ok (.iload_n 2, 1) := dk_28 (dk_at dksX3_howMany_1 16 rfl rfl)
theorem dX3_howMany_39 : decode cX3_howMany 39 = .ok (.ireturn, 1) := dk_172 (dk_at dksX3_howMany_1 17 rfl rfl)
theorem q69 : (Jvm.Cond.initialized "ScopeTasksModel") ∈ lw_all := lw_g (lw_at lw_m1 10 rfl) rfl
theorem q306 : (Jvm.Cond.selects "ScopeTasksModel" ({ cls := "java/lang/Object", name := "getClass", desc := "()Ljava/lang/Class;" } : Jvm.MethodName) ({ cls := "java/lang/Object", name := "getClass", desc := "()Ljava/lang/Class;" } : Jvm.MethodName)) ∈ lw_all := lw_g (lw_at lw_m2 7 rfl) rfl
theorem q931 : (Jvm.Cond.instantiable "ScopeTasksModel" (34 : Nat)) ∈ lw_all := lw_g (lw_at lw_m4 152 rfl) rfl
theorem q933 : (Jvm.Cond.instanceMethod ({ cls := "ScopeTasksModel", name := "<init>", desc := "()V" } : Jvm.MethodName)) ∈ lw_all := lw_g (lw_at lw_m4 154 rfl) rfl
theorem q934 : (Jvm.Cond.code ({ cls := "ScopeTasksModel", name := "<init>", desc := "()V" } : Jvm.MethodName) prog_7_method_1_code (1 : Nat) (Option.none : Option Jvm.ClassFile.FieldType)) ∈ lw_all := lw_g (lw_at lw_m4 155 rfl) rfl
theorem q935 : (Jvm.Cond.methodLink "ScopeTasksModel" (1 : Nat) ({ cls := "java/lang/Object", name := "<init>", desc := "()V" } : Jvm.MethodName)) ∈ lw_all := lw_g (lw_at lw_m4 156 rfl) rfl
theorem q936 : (Jvm.Cond.methodLink "ScopeTasksModel" (74 : Nat) ({ cls := "ScopeTasksModel", name := "begins", desc := "()V" } : Jvm.MethodName)) ∈ lw_all := lw_g (lw_at lw_m4 157 rfl) rfl
theorem q937 : (Jvm.Cond.privateMethod ({ cls := "ScopeTasksModel", name := "begins", desc := "()V" } : Jvm.MethodName)) ∈ lw_tbl := lw_at lw_m4 158 rfl
theorem q938 : (Jvm.Cond.instanceMethod ({ cls := "ScopeTasksModel", name := "begins", desc := "()V" } : Jvm.MethodName)) ∈ lw_all := lw_g (lw_at lw_m4 159 rfl) rfl
theorem q939 : (Jvm.Cond.code ({ cls := "ScopeTasksModel", name := "begins", desc := "()V" } : Jvm.MethodName) prog_7_method_12_code (2 : Nat) (Option.none : Option Jvm.ClassFile.FieldType)) ∈ lw_all := lw_g (lw_at lw_m4 160 rfl) rfl
theorem q940 : (Jvm.Cond.methodLink "ScopeTasksModel" (77 : Nat) ({ cls := "ScopeTasksModel", name := "tellsAll", desc := "()V" } : Jvm.MethodName)) ∈ lw_all := lw_g (lw_at lw_m4 161 rfl) rfl
theorem q941 : (Jvm.Cond.privateMethod ({ cls := "ScopeTasksModel", name := "tellsAll", desc := "()V" } : Jvm.MethodName)) ∈ lw_tbl := lw_at lw_m4 162 rfl
theorem q942 : (Jvm.Cond.instanceMethod ({ cls := "ScopeTasksModel", name := "tellsAll", desc := "()V" } : Jvm.MethodName)) ∈ lw_all := lw_g (lw_at lw_m4 163 rfl) rfl
theorem q943 : (Jvm.Cond.code ({ cls := "ScopeTasksModel", name := "tellsAll", desc := "()V" } : Jvm.MethodName) prog_7_method_17_code (3 : Nat) (Option.none : Option Jvm.ClassFile.FieldType)) ∈ lw_all := lw_g (lw_at lw_m4 164 rfl) rfl
theorem q944 : (Jvm.Cond.methodLink "ScopeTasksModel" (148 : Nat) ({ cls := "ScopeTasksModel", name := "starts", desc := "([I)V" } : Jvm.MethodName)) ∈ lw_all := lw_g (lw_at lw_m4 165 rfl) rfl
theorem q945 : (Jvm.Cond.privateMethod ({ cls := "ScopeTasksModel", name := "starts", desc := "([I)V" } : Jvm.MethodName)) ∈ lw_tbl := lw_at lw_m4 166 rfl
theorem q946 : (Jvm.Cond.instanceMethod ({ cls := "ScopeTasksModel", name := "starts", desc := "([I)V" } : Jvm.MethodName)) ∈ lw_all := lw_g (lw_at lw_m4 167 rfl) rfl
theorem q947 : (Jvm.Cond.code ({ cls := "ScopeTasksModel", name := "starts", desc := "([I)V" } : Jvm.MethodName) prog_7_method_20_code (3 : Nat) (Option.none : Option Jvm.ClassFile.FieldType)) ∈ lw_all := lw_g (lw_at lw_m4 168 rfl) rfl
theorem q948 : (Jvm.Cond.fieldLink "ScopeTasksModel" (84 : Nat) "ScopeTasksModel" "letterMany" "I") ∈ lw_all := lw_g (lw_at lw_m4 169 rfl) rfl
theorem q949 : (Jvm.Cond.fieldLink "ScopeTasksModel" (7 : Nat) "ScopeTasksModel" "text" "[I") ∈ lw_all := lw_g (lw_at lw_m4 170 rfl) rfl
theorem q950 : (Jvm.Cond.fieldLink "ScopeTasksModel" (88 : Nat) "ScopeTasksModel" "readAt" "I") ∈ lw_all := lw_g (lw_at lw_m4 171 rfl) rfl
theorem q951 : (Jvm.Cond.fieldLink "ScopeTasksModel" (94 : Nat) "ScopeTasksModel" "tokenAt" "I") ∈ lw_all := lw_g (lw_at lw_m4 172 rfl) rfl
theorem q952 : (Jvm.Cond.fieldLink "ScopeTasksModel" (97 : Nat) "ScopeTasksModel" "token" "I") ∈ lw_all := lw_g (lw_at lw_m4 173 rfl) rfl
theorem q953 : (Jvm.Cond.fieldLink "ScopeTasksModel" (104 : Nat) "ScopeTasksModel" "value" "I") ∈ lw_all := lw_g (lw_at lw_m4 174 rfl) rfl
theorem q954 : (Jvm.Cond.fieldLink "ScopeTasksModel" (111 : Nat) "ScopeTasksModel" "faultAt" "I") ∈ lw_all := lw_g (lw_at lw_m4 175 rfl) rfl
theorem q955 : (Jvm.Cond.fieldLink "ScopeTasksModel" (120 : Nat) "ScopeTasksModel" "readMany" "I") ∈ lw_all := lw_g (lw_at lw_m4 176 rfl) rfl
theorem q956 : (Jvm.Cond.fieldLink "ScopeTasksModel" (123 : Nat) "ScopeTasksModel" "readGathers" "I") ∈ lw_all := lw_g (lw_at lw_m4 177 rfl) rfl
theorem q957 : (Jvm.Cond.fieldLink "ScopeTasksModel" (13 : Nat) "ScopeTasksModel" "readParent" "[I") ∈ lw_all := lw_g (lw_at lw_m4 178 rfl) rfl
theorem q958 : (Jvm.Cond.fieldLink "ScopeTasksModel" (16 : Nat) "ScopeTasksModel" "readSizes" "[I") ∈ lw_all := lw_g (lw_at lw_m4 179 rfl) rfl
theorem q959 : (Jvm.Cond.fieldLink "ScopeTasksModel" (19 : Nat) "ScopeTasksModel" "readActs" "[I") ∈ lw_all := lw_g (lw_at lw_m4 180 rfl) rfl
theorem q960 : (Jvm.Cond.fieldLink "ScopeTasksModel" (22 : Nat) "ScopeTasksModel" "readDeadlines" "[I") ∈ lw_all := lw_g (lw_at lw_m4 181 rfl) rfl
theorem q961 : (Jvm.Cond.fieldLink "ScopeTasksModel" (25 : Nat) "ScopeTasksModel" "readShields" "[I") ∈ lw_all := lw_g (lw_at lw_m4 182 rfl) rfl
theorem q962 : (Jvm.Cond.fieldLink "ScopeTasksModel" (28 : Nat) "ScopeTasksModel" "readCleans" "[I") ∈ lw_all := lw_g (lw_at lw_m4 183 rfl) rfl
theorem q963 : (Jvm.Cond.fieldLink "ScopeTasksModel" (142 : Nat) "ScopeTasksModel" "taskMany" "I") ∈ lw_all := lw_g (lw_at lw_m4 184 rfl) rfl
theorem q964 : (Jvm.Cond.fieldLink "ScopeTasksModel" (145 : Nat) "ScopeTasksModel" "gathers" "I") ∈ lw_all := lw_g (lw_at lw_m4 185 rfl) rfl
theorem q965 : (Jvm.Cond.fieldLink "ScopeTasksModel" (31 : Nat) "ScopeTasksModel" "parent" "[I") ∈ lw_all := lw_g (lw_at lw_m4 186 rfl) rfl
theorem q966 : (Jvm.Cond.fieldLink "ScopeTasksModel" (34 : Nat) "ScopeTasksModel" "sizes" "[I") ∈ lw_all := lw_g (lw_at lw_m4 187 rfl) rfl
theorem q967 : (Jvm.Cond.fieldLink "ScopeTasksModel" (37 : Nat) "ScopeTasksModel" "acts" "[I") ∈ lw_all := lw_g (lw_at lw_m4 188 rfl) rfl
theorem q968 : (Jvm.Cond.fieldLink "ScopeTasksModel" (40 : Nat) "ScopeTasksModel" "deadlines" "[I") ∈ lw_all := lw_g (lw_at lw_m4 189 rfl) rfl
theorem q969 : (Jvm.Cond.fieldLink "ScopeTasksModel" (43 : Nat) "ScopeTasksModel" "shields" "[I") ∈ lw_all := lw_g (lw_at lw_m4 190 rfl) rfl
theorem q970 : (Jvm.Cond.fieldLink "ScopeTasksModel" (46 : Nat) "ScopeTasksModel" "cleans" "[I") ∈ lw_all := lw_g (lw_at lw_m4 191 rfl) rfl
theorem q971 : (Jvm.Cond.fieldLink "ScopeTasksModel" (49 : Nat) "ScopeTasksModel" "now" "[I") ∈ lw_all := lw_g (lw_at lw_m4 192 rfl) rfl
theorem q972 : (Jvm.Cond.fieldLink "ScopeTasksModel" (52 : Nat) "ScopeTasksModel" "tried" "[I") ∈ lw_all := lw_g (lw_at lw_m4 193 rfl) rfl
theorem q973 : (Jvm.Cond.fieldLink "ScopeTasksModel" (152 : Nat) "ScopeTasksModel" "undoMany" "I") ∈ lw_all := lw_g (lw_at lw_m4 194 rfl) rfl
theorem q974 : (Jvm.Cond.fieldLink "ScopeTasksModel" (205 : Nat) "ScopeTasksModel" "undoAt" "I") ∈ lw_all := lw_g (lw_at lw_m4 195 rfl) rfl
theorem q975 : (Jvm.Cond.fieldLink "ScopeTasksModel" (55 : Nat) "ScopeTasksModel" "undos" "[I") ∈ lw_all := lw_g (lw_at lw_m4 196 rfl) rfl
theorem q976 : (Jvm.Cond.fieldLink "ScopeTasksModel" (155 : Nat) "ScopeTasksModel" "seenMany" "I") ∈ lw_all := lw_g (lw_at lw_m4 197 rfl) rfl
theorem q977 : (Jvm.Cond.fieldLink "ScopeTasksModel" (58 : Nat) "ScopeTasksModel" "seenTask" "[I") ∈ lw_all := lw_g (lw_at lw_m4 198 rfl) rfl
theorem q978 : (Jvm.Cond.fieldLink "ScopeTasksModel" (61 : Nat) "ScopeTasksModel" "seenTicks" "[I") ∈ lw_all := lw_g (lw_at lw_m4 199 rfl) rfl
theorem q979 : (Jvm.Cond.fieldLink "ScopeTasksModel" (64 : Nat) "ScopeTasksModel" "seenEnded" "[I") ∈ lw_all := lw_g (lw_at lw_m4 200 rfl) rfl
theorem q980 : (Jvm.Cond.fieldLink "ScopeTasksModel" (67 : Nat) "ScopeTasksModel" "isKept" "[Z") ∈ lw_all := lw_g (lw_at lw_m4 201 rfl) rfl
theorem q981 : (Jvm.Cond.fieldLink "ScopeTasksModel" (71 : Nat) "ScopeTasksModel" "kept" "[I") ∈ lw_all := lw_g (lw_at lw_m4 202 rfl) rfl
theorem q982 : (Jvm.Cond.lays "ScopeTasksModel" "ScopeTasksModel" "letterMany" "I") ∈ lw_all := lw_g (lw_at lw_m4 203 rfl) rfl
theorem q983 : (Jvm.Cond.soleField "ScopeTasksModel" "letterMany") ∈ lw_all := lw_g (lw_at lw_m4 204 rfl) rfl
theorem q984 : (Jvm.Cond.laysFinal "ScopeTasksModel" "ScopeTasksModel" "text" "[I") ∈ lw_all := lw_g (lw_at lw_m4 205 rfl) rfl
theorem q985 : (Jvm.Cond.soleField "ScopeTasksModel" "text") ∈ lw_all := lw_g (lw_at lw_m4 206 rfl) rfl
theorem q986 : (Jvm.Cond.lays "ScopeTasksModel" "ScopeTasksModel" "readAt" "I") ∈ lw_all := lw_g (lw_at lw_m4 207 rfl) rfl
theorem q987 : (Jvm.Cond.soleField "ScopeTasksModel" "readAt") ∈ lw_all := lw_g (lw_at lw_m4 208 rfl) rfl
theorem q988 : (Jvm.Cond.lays "ScopeTasksModel" "ScopeTasksModel" "tokenAt" "I") ∈ lw_all := lw_g (lw_at lw_m4 209 rfl) rfl
theorem q989 : (Jvm.Cond.soleField "ScopeTasksModel" "tokenAt") ∈ lw_all := lw_g (lw_at lw_m4 210 rfl) rfl
theorem q990 : (Jvm.Cond.lays "ScopeTasksModel" "ScopeTasksModel" "token" "I") ∈ lw_all := lw_g (lw_at lw_m4 211 rfl) rfl
theorem q991 : (Jvm.Cond.soleField "ScopeTasksModel" "token") ∈ lw_all := lw_g (lw_at lw_m4 212 rfl) rfl
theorem q992 : (Jvm.Cond.lays "ScopeTasksModel" "ScopeTasksModel" "value" "I") ∈ lw_all := lw_g (lw_at lw_m4 213 rfl) rfl
theorem q993 : (Jvm.Cond.soleField "ScopeTasksModel" "value") ∈ lw_all := lw_g (lw_at lw_m4 214 rfl) rfl
theorem q994 : (Jvm.Cond.lays "ScopeTasksModel" "ScopeTasksModel" "faultAt" "I") ∈ lw_all := lw_g (lw_at lw_m4 215 rfl) rfl
theorem q995 : (Jvm.Cond.soleField "ScopeTasksModel" "faultAt") ∈ lw_all := lw_g (lw_at lw_m4 216 rfl) rfl
theorem q996 : (Jvm.Cond.lays "ScopeTasksModel" "ScopeTasksModel" "readMany" "I") ∈ lw_all := lw_g (lw_at lw_m4 217 rfl) rfl
theorem q997 : (Jvm.Cond.soleField "ScopeTasksModel" "readMany") ∈ lw_all := lw_g (lw_at lw_m4 218 rfl) rfl
theorem q998 : (Jvm.Cond.lays "ScopeTasksModel" "ScopeTasksModel" "readGathers" "I") ∈ lw_all := lw_g (lw_at lw_m4 219 rfl) rfl
theorem q999 : (Jvm.Cond.soleField "ScopeTasksModel" "readGathers") ∈ lw_all := lw_g (lw_at lw_m4 220 rfl) rfl
theorem q1000 : (Jvm.Cond.laysFinal "ScopeTasksModel" "ScopeTasksModel" "readParent" "[I") ∈ lw_all := lw_g (lw_at lw_m4 221 rfl) rfl
theorem q1001 : (Jvm.Cond.soleField "ScopeTasksModel" "readParent") ∈ lw_all := lw_g (lw_at lw_m4 222 rfl) rfl
theorem q1002 : (Jvm.Cond.laysFinal "ScopeTasksModel" "ScopeTasksModel" "readSizes" "[I") ∈ lw_all := lw_g (lw_at lw_m4 223 rfl) rfl
theorem q1003 : (Jvm.Cond.soleField "ScopeTasksModel" "readSizes") ∈ lw_all := lw_g (lw_at lw_m4 224 rfl) rfl
theorem q1004 : (Jvm.Cond.laysFinal "ScopeTasksModel" "ScopeTasksModel" "readActs" "[I") ∈ lw_all := lw_g (lw_at lw_m4 225 rfl) rfl
theorem q1005 : (Jvm.Cond.soleField "ScopeTasksModel" "readActs") ∈ lw_all := lw_g (lw_at lw_m4 226 rfl) rfl
theorem q1006 : (Jvm.Cond.laysFinal "ScopeTasksModel" "ScopeTasksModel" "readDeadlines" "[I") ∈ lw_all := lw_g (lw_at lw_m4 227 rfl) rfl
theorem q1007 : (Jvm.Cond.soleField "ScopeTasksModel" "readDeadlines") ∈ lw_all := lw_g (lw_at lw_m4 228 rfl) rfl
theorem q1008 : (Jvm.Cond.laysFinal "ScopeTasksModel" "ScopeTasksModel" "readShields" "[I") ∈ lw_all := lw_g (lw_at lw_m4 229 rfl) rfl
theorem q1009 : (Jvm.Cond.soleField "ScopeTasksModel" "readShields") ∈ lw_all := lw_g (lw_at lw_m4 230 rfl) rfl
theorem q1010 : (Jvm.Cond.laysFinal "ScopeTasksModel" "ScopeTasksModel" "readCleans" "[I") ∈ lw_all := lw_g (lw_at lw_m4 231 rfl) rfl
theorem q1011 : (Jvm.Cond.soleField "ScopeTasksModel" "readCleans") ∈ lw_all := lw_g (lw_at lw_m4 232 rfl) rfl
theorem q1012 : (Jvm.Cond.lays "ScopeTasksModel" "ScopeTasksModel" "taskMany" "I") ∈ lw_all := lw_g (lw_at lw_m4 233 rfl) rfl
theorem q1013 : (Jvm.Cond.soleField "ScopeTasksModel" "taskMany") ∈ lw_all := lw_g (lw_at lw_m4 234 rfl) rfl
theorem q1014 : (Jvm.Cond.lays "ScopeTasksModel" "ScopeTasksModel" "gathers" "I") ∈ lw_all := lw_g (lw_at lw_m4 235 rfl) rfl
theorem q1015 : (Jvm.Cond.soleField "ScopeTasksModel" "gathers") ∈ lw_all := lw_g (lw_at lw_m4 236 rfl) rfl
theorem q1016 : (Jvm.Cond.laysFinal "ScopeTasksModel" "ScopeTasksModel" "parent" "[I") ∈ lw_all := lw_g (lw_at lw_m4 237 rfl) rfl
theorem q1017 : (Jvm.Cond.soleField "ScopeTasksModel" "parent") ∈ lw_all := lw_g (lw_at lw_m4 238 rfl) rfl
theorem q1018 : (Jvm.Cond.laysFinal "ScopeTasksModel" "ScopeTasksModel" "sizes" "[I") ∈ lw_all := lw_g (lw_at lw_m4 239 rfl) rfl
theorem q1019 : (Jvm.Cond.soleField "ScopeTasksModel" "sizes") ∈ lw_all := lw_g (lw_at lw_m5 0 rfl) rfl
theorem q1020 : (Jvm.Cond.laysFinal "ScopeTasksModel" "ScopeTasksModel" "acts" "[I") ∈ lw_all := lw_g (lw_at lw_m5 1 rfl) rfl
theorem q1021 : (Jvm.Cond.soleField "ScopeTasksModel" "acts") ∈ lw_all := lw_g (lw_at lw_m5 2 rfl) rfl
theorem q1022 : (Jvm.Cond.laysFinal "ScopeTasksModel" "ScopeTasksModel" "deadlines" "[I") ∈ lw_all := lw_g (lw_at lw_m5 3 rfl) rfl
theorem q1023 : (Jvm.Cond.soleField "ScopeTasksModel" "deadlines") ∈ lw_all := lw_g (lw_at lw_m5 4 rfl) rfl
theorem q1024 : (Jvm.Cond.laysFinal "ScopeTasksModel" "ScopeTasksModel" "shields" "[I") ∈ lw_all := lw_g (lw_at lw_m5 5 rfl) rfl
theorem q1025 : (Jvm.Cond.soleField "ScopeTasksModel" "shields") ∈ lw_all := lw_g (lw_at lw_m5 6 rfl) rfl
theorem q1026 : (Jvm.Cond.laysFinal "ScopeTasksModel" "ScopeTasksModel" "cleans" "[I") ∈ lw_all := lw_g (lw_at lw_m5 7 rfl) rfl
theorem q1027 : (Jvm.Cond.soleField "ScopeTasksModel" "cleans") ∈ lw_all := lw_g (lw_at lw_m5 8 rfl) rfl
theorem q1028 : (Jvm.Cond.laysFinal "ScopeTasksModel" "ScopeTasksModel" "now" "[I") ∈ lw_all := lw_g (lw_at lw_m5 9 rfl) rfl
theorem q1029 : (Jvm.Cond.soleField "ScopeTasksModel" "now") ∈ lw_all := lw_g (lw_at lw_m5 10 rfl) rfl
theorem q1030 : (Jvm.Cond.laysFinal "ScopeTasksModel" "ScopeTasksModel" "tried" "[I") ∈ lw_all := lw_g (lw_at lw_m5 11 rfl) rfl
theorem q1031 : (Jvm.Cond.soleField "ScopeTasksModel" "tried") ∈ lw_all := lw_g (lw_at lw_m5 12 rfl) rfl
theorem q1032 : (Jvm.Cond.lays "ScopeTasksModel" "ScopeTasksModel" "undoMany" "I") ∈ lw_all := lw_g (lw_at lw_m5 13 rfl) rfl
theorem q1033 : (Jvm.Cond.soleField "ScopeTasksModel" "undoMany") ∈ lw_all := lw_g (lw_at lw_m5 14 rfl) rfl
theorem q1034 : (Jvm.Cond.lays "ScopeTasksModel" "ScopeTasksModel" "undoAt" "I") ∈ lw_all := lw_g (lw_at lw_m5 15 rfl) rfl
theorem q1035 : (Jvm.Cond.soleField "ScopeTasksModel" "undoAt") ∈ lw_all := lw_g (lw_at lw_m5 16 rfl) rfl
theorem q1036 : (Jvm.Cond.laysFinal "ScopeTasksModel" "ScopeTasksModel" "undos" "[I") ∈ lw_all := lw_g (lw_at lw_m5 17 rfl) rfl
theorem q1037 : (Jvm.Cond.soleField "ScopeTasksModel" "undos") ∈ lw_all := lw_g (lw_at lw_m5 18 rfl) rfl
theorem q1038 : (Jvm.Cond.lays "ScopeTasksModel" "ScopeTasksModel" "seenMany" "I") ∈ lw_all := lw_g (lw_at lw_m5 19 rfl) rfl
theorem q1039 : (Jvm.Cond.soleField "ScopeTasksModel" "seenMany") ∈ lw_all := lw_g (lw_at lw_m5 20 rfl) rfl
theorem q1040 : (Jvm.Cond.laysFinal "ScopeTasksModel" "ScopeTasksModel" "seenTask" "[I") ∈ lw_all := lw_g (lw_at lw_m5 21 rfl) rfl
theorem q1041 : (Jvm.Cond.soleField "ScopeTasksModel" "seenTask") ∈ lw_all := lw_g (lw_at lw_m5 22 rfl) rfl
theorem q1042 : (Jvm.Cond.laysFinal "ScopeTasksModel" "ScopeTasksModel" "seenTicks" "[I") ∈ lw_all := lw_g (lw_at lw_m5 23 rfl) rfl
theorem q1043 : (Jvm.Cond.soleField "ScopeTasksModel" "seenTicks") ∈ lw_all := lw_g (lw_at lw_m5 24 rfl) rfl
theorem q1044 : (Jvm.Cond.laysFinal "ScopeTasksModel" "ScopeTasksModel" "seenEnded" "[I") ∈ lw_all := lw_g (lw_at lw_m5 25 rfl) rfl
theorem q1045 : (Jvm.Cond.soleField "ScopeTasksModel" "seenEnded") ∈ lw_all := lw_g (lw_at lw_m5 26 rfl) rfl
theorem q1046 : (Jvm.Cond.laysFinal "ScopeTasksModel" "ScopeTasksModel" "isKept" "[Z") ∈ lw_all := lw_g (lw_at lw_m5 27 rfl) rfl
theorem q1047 : (Jvm.Cond.soleField "ScopeTasksModel" "isKept") ∈ lw_all := lw_g (lw_at lw_m5 28 rfl) rfl
theorem q1048 : (Jvm.Cond.laysFinal "ScopeTasksModel" "ScopeTasksModel" "kept" "[I") ∈ lw_all := lw_g (lw_at lw_m5 29 rfl) rfl
theorem q1049 : (Jvm.Cond.soleField "ScopeTasksModel" "kept") ∈ lw_all := lw_g (lw_at lw_m5 30 rfl) rfl
theorem q1050 : (Jvm.Cond.superclass "ScopeTasksModel" "java/lang/Object") ∈ lw_all := lw_g (lw_at lw_m5 31 rfl) rfl
theorem q1052 : (Jvm.Cond.instanceMethod ({ cls := "ScopeTasksModel", name := "type", desc := "(I)I" } : Jvm.MethodName)) ∈ lw_all := lw_g (lw_at lw_m5 33 rfl) rfl
theorem q1053 : (Jvm.Cond.selects "ScopeTasksModel" ({ cls := "ScopeTasksModel", name := "type", desc := "(I)I" } : Jvm.MethodName) ({ cls := "ScopeTasksModel", name := "type", desc := "(I)I" } : Jvm.MethodName)) ∈ lw_all := lw_g (lw_at lw_m5 34 rfl) rfl
theorem q1054 : (Jvm.Cond.code ({ cls := "ScopeTasksModel", name := "type", desc := "(I)I" } : Jvm.MethodName) prog_7_method_3_code (2 : Nat) (Option.some Jvm.ClassFile.FieldType.int)) ∈ lw_all := lw_g (lw_at lw_m5 35 rfl) rfl
theorem q1055 : (Jvm.Cond.methodLink "ScopeTasksModel" (80 : Nat) ({ cls := "ScopeTasksModel", name := "in", desc := "(III)Z" } : Jvm.MethodName)) ∈ lw_all := lw_g (lw_at lw_m5 36 rfl) rfl
theorem q1056 : (Jvm.Cond.static ({ cls := "ScopeTasksModel", name := "in", desc := "(III)Z" } : Jvm.MethodName)) ∈ lw_all := lw_g (lw_at lw_m5 37 rfl) rfl
theorem q1057 : (Jvm.Cond.code ({ cls := "ScopeTasksModel", name := "in", desc := "(III)Z" } : Jvm.MethodName) prog_7_method_2_code (3 : Nat) (Option.some Jvm.ClassFile.FieldType.boolean)) ∈ lw_all := lw_g (lw_at lw_m5 38 rfl) rfl
theorem q1059 : (Jvm.Cond.instanceMethod ({ cls := "ScopeTasksModel", name := "clear", desc := "()I" } : Jvm.MethodName)) ∈ lw_all := lw_g (lw_at lw_m5 40 rfl) rfl
theorem q1060 : (Jvm.Cond.selects "ScopeTasksModel" ({ cls := "ScopeTasksModel", name := "clear", desc := "()I" } : Jvm.MethodName) ({ cls := "ScopeTasksModel", name := "clear", desc := "()I" } : Jvm.MethodName)) ∈ lw_all := lw_g (lw_at lw_m5 41 rfl) rfl
theorem q1061 : (Jvm.Cond.code ({ cls := "ScopeTasksModel", name := "clear", desc := "()I" } : Jvm.MethodName) prog_7_method_4_code (2 : Nat) (Option.some Jvm.ClassFile.FieldType.int)) ∈ lw_all := lw_g (lw_at lw_m5 42 rfl) rfl
theorem q1063 : (Jvm.Cond.instanceMethod ({ cls := "ScopeTasksModel", name := "tree", desc := "()I" } : Jvm.MethodName)) ∈ lw_all := lw_g (lw_at lw_m5 44 rfl) rfl
theorem q1064 : (Jvm.Cond.selects "ScopeTasksModel" ({ cls := "ScopeTasksModel", name := "tree", desc := "()I" } : Jvm.MethodName) ({ cls := "ScopeTasksModel", name := "tree", desc := "()I" } : Jvm.MethodName)) ∈ lw_all := lw_g (lw_at lw_m5 45 rfl) rfl
theorem q1065 : (Jvm.Cond.code ({ cls := "ScopeTasksModel", name := "tree", desc := "()I" } : Jvm.MethodName) prog_7_method_18_code (2 : Nat) (Option.some Jvm.ClassFile.FieldType.int)) ∈ lw_all := lw_g (lw_at lw_m5 46 rfl) rfl
theorem q1066 : (Jvm.Cond.methodLink "ScopeTasksModel" (91 : Nat) ({ cls := "ScopeTasksModel", name := "blanks", desc := "()V" } : Jvm.MethodName)) ∈ lw_all := lw_g (lw_at lw_m5 47 rfl) rfl
theorem q1067 : (Jvm.Cond.privateMethod ({ cls := "ScopeTasksModel", name := "blanks", desc := "()V" } : Jvm.MethodName)) ∈ lw_tbl := lw_at lw_m5 48 rfl
theorem q1068 : (Jvm.Cond.instanceMethod ({ cls := "ScopeTasksModel", name := "blanks", desc := "()V" } : Jvm.MethodName)) ∈ lw_all := lw_g (lw_at lw_m5 49 rfl) rfl
theorem q1069 : (Jvm.Cond.code ({ cls := "ScopeTasksModel", name := "blanks", desc := "()V" } : Jvm.MethodName) prog_7_method_6_code (1 : Nat) (Option.none : Option Jvm.ClassFile.FieldType)) ∈ lw_all := lw_g (lw_at lw_m5 50 rfl) rfl
theorem q1070 : (Jvm.Cond.methodLink "ScopeTasksModel" (158 : Nat) ({ cls := "ScopeTasksModel", name := "readsItem", desc := "()Z" } : Jvm.MethodName)) ∈ lw_all := lw_g (lw_at lw_m5 51 rfl) rfl
theorem q1071 : (Jvm.Cond.privateMethod ({ cls := "ScopeTasksModel", name := "readsItem", desc := "()Z" } : Jvm.MethodName)) ∈ lw_tbl := lw_at lw_m5 52 rfl
theorem q1072 : (Jvm.Cond.instanceMethod ({ cls := "ScopeTasksModel", name := "readsItem", desc := "()Z" } : Jvm.MethodName)) ∈ lw_all := lw_g (lw_at lw_m5 53 rfl) rfl
theorem q1073 : (Jvm.Cond.code ({ cls := "ScopeTasksModel", name := "readsItem", desc := "()Z" } : Jvm.MethodName) prog_7_method_16_code (2 : Nat) (Option.some Jvm.ClassFile.FieldType.boolean)) ∈ lw_all := lw_g (lw_at lw_m5 54 rfl) rfl
theorem q1074 : (Jvm.Cond.methodLink "ScopeTasksModel" (114 : Nat) ({ cls := "ScopeTasksModel", name := "next", desc := "()V" } : Jvm.MethodName)) ∈ lw_all := lw_g (lw_at lw_m5 55 rfl) rfl
theorem q1075 : (Jvm.Cond.privateMethod ({ cls := "ScopeTasksModel", name := "next", desc := "()V" } : Jvm.MethodName)) ∈ lw_tbl := lw_at lw_m5 56 rfl
theorem q1076 : (Jvm.Cond.instanceMethod ({ cls := "ScopeTasksModel", name := "next", desc := "()V" } : Jvm.MethodName)) ∈ lw_all := lw_g (lw_at lw_m5 57 rfl) rfl
theorem q1077 : (Jvm.Cond.code ({ cls := "ScopeTasksModel", name := "next", desc := "()V" } : Jvm.MethodName) prog_7_method_8_code (1 : Nat) (Option.none : Option Jvm.ClassFile.FieldType)) ∈ lw_all := lw_g (lw_at lw_m5 58 rfl) rfl
theorem q1078 : (Jvm.Cond.methodLink "ScopeTasksModel" (100 : Nat) ({ cls := "ScopeTasksModel", name := "isFigure", desc := "()Z" } : Jvm.MethodName)) ∈ lw_all := lw_g (lw_at lw_m5 59 rfl) rfl
theorem q1079 : (Jvm.Cond.privateMethod ({ cls := "ScopeTasksModel", name := "isFigure", desc := "()Z" } : Jvm.MethodName)) ∈ lw_tbl := lw_at lw_m5 60 rfl
theorem q1080 : (Jvm.Cond.instanceMethod ({ cls := "ScopeTasksModel", name := "isFigure", desc := "()Z" } : Jvm.MethodName)) ∈ lw_all := lw_g (lw_at lw_m5 61 rfl) rfl
theorem q1081 : (Jvm.Cond.code ({ cls := "ScopeTasksModel", name := "isFigure", desc := "()Z" } : Jvm.MethodName) prog_7_method_5_code (1 : Nat) (Option.some Jvm.ClassFile.FieldType.boolean)) ∈ lw_all := lw_g (lw_at lw_m5 62 rfl) rfl
theorem q1082 : (Jvm.Cond.methodLink "ScopeTasksModel" (107 : Nat) ({ cls := "ScopeTasksModel", name := "isToken", desc := "(I)Z" } : Jvm.MethodName)) ∈ lw_all := lw_g (lw_at lw_m5 63 rfl) rfl
theorem q1083 : (Jvm.Cond.static ({ cls := "ScopeTasksModel", name := "isToken", desc := "(I)Z" } : Jvm.MethodName)) ∈ lw_all := lw_g (lw_at lw_m5 64 rfl) rfl
theorem q1084 : (Jvm.Cond.code ({ cls := "ScopeTasksModel", name := "isToken", desc := "(I)Z" } : Jvm.MethodName) prog_7_method_7_code (1 : Nat) (Option.some Jvm.ClassFile.FieldType.boolean)) ∈ lw_all := lw_g (lw_at lw_m5 65 rfl) rfl
theorem q1085 : (Jvm.Cond.methodLink "ScopeTasksModel" (117 : Nat) ({ cls := "ScopeTasksModel", name := "fails", desc := "()Z" } : Jvm.MethodName)) ∈ lw_all := lw_g (lw_at lw_m5 66 rfl) rfl
theorem q1086 : (Jvm.Cond.privateMethod ({ cls := "ScopeTasksModel", name := "fails", desc := "()Z" } : Jvm.MethodName)) ∈ lw_tbl := lw_at lw_m5 67 rfl
theorem q1087 : (Jvm.Cond.instanceMethod ({ cls := "ScopeTasksModel", name := "fails", desc := "()Z" } : Jvm.MethodName)) ∈ lw_all := lw_g (lw_at lw_m5 68 rfl) rfl
theorem q1088 : (Jvm.Cond.code ({ cls := "ScopeTasksModel", name := "fails", desc := "()Z" } : Jvm.MethodName) prog_7_method_9_code (1 : Nat) (Option.some Jvm.ClassFile.FieldType.boolean)) ∈ lw_all := lw_g (lw_at lw_m5 69 rfl) rfl
theorem q1089 : (Jvm.Cond.methodLink "ScopeTasksModel" (130 : Nat) ({ cls := "ScopeTasksModel", name := "readsProgram", desc := "(I)Z" } : Jvm.MethodName)) ∈ lw_all := lw_g (lw_at lw_m5 70 rfl) rfl
theorem q1090 : (Jvm.Cond.privateMethod ({ cls := "ScopeTasksModel", name := "readsProgram", desc := "(I)Z" } : Jvm.MethodName)) ∈ lw_tbl := lw_at lw_m5 71 rfl
theorem q1091 : (Jvm.Cond.instanceMethod ({ cls := "ScopeTasksModel", name := "readsProgram", desc := "(I)Z" } : Jvm.MethodName)) ∈ lw_all := lw_g (lw_at lw_m5 72 rfl) rfl
theorem q1092 : (Jvm.Cond.code ({ cls := "ScopeTasksModel", name := "readsProgram", desc := "(I)Z" } : Jvm.MethodName) prog_7_method_13_code (5 : Nat) (Option.some Jvm.ClassFile.FieldType.boolean)) ∈ lw_all := lw_g (lw_at lw_m5 73 rfl) rfl
theorem q1093 : (Jvm.Cond.methodLink "ScopeTasksModel" (126 : Nat) ({ cls := "ScopeTasksModel", name := "number", desc := "(II)Z" } : Jvm.MethodName)) ∈ lw_all := lw_g (lw_at lw_m5 74 rfl) rfl
theorem q1094 : (Jvm.Cond.privateMethod ({ cls := "ScopeTasksModel", name := "number", desc := "(II)Z" } : Jvm.MethodName)) ∈ lw_tbl := lw_at lw_m5 75 rfl
theorem q1095 : (Jvm.Cond.instanceMethod ({ cls := "ScopeTasksModel", name := "number", desc := "(II)Z" } : Jvm.MethodName)) ∈ lw_all := lw_g (lw_at lw_m5 76 rfl) rfl
theorem q1096 : (Jvm.Cond.code ({ cls := "ScopeTasksModel", name := "number", desc := "(II)Z" } : Jvm.MethodName) prog_7_method_10_code (3 : Nat) (Option.some Jvm.ClassFile.FieldType.boolean)) ∈ lw_all := lw_g (lw_at lw_m5 77 rfl) rfl
theorem q1097 : (Jvm.Cond.methodLink "ScopeTasksModel" (136 : Nat) ({ cls := "ScopeTasksModel", name := "readsTask", desc := "()Z" } : Jvm.MethodName)) ∈ lw_all := lw_g (lw_at lw_m5 78 rfl) rfl
theorem q1098 : (Jvm.Cond.privateMethod ({ cls := "ScopeTasksModel", name := "readsTask", desc := "()Z" } : Jvm.MethodName)) ∈ lw_tbl := lw_at lw_m5 79 rfl
theorem q1099 : (Jvm.Cond.instanceMethod ({ cls := "ScopeTasksModel", name := "readsTask", desc := "()Z" } : Jvm.MethodName)) ∈ lw_all := lw_g (lw_at lw_m5 80 rfl) rfl
theorem q1100 : (Jvm.Cond.code ({ cls := "ScopeTasksModel", name := "readsTask", desc := "()Z" } : Jvm.MethodName) prog_7_method_14_code (1 : Nat) (Option.some Jvm.ClassFile.FieldType.boolean)) ∈ lw_all := lw_g (lw_at lw_m5 81 rfl) rfl
theorem q1101 : (Jvm.Cond.methodLink "ScopeTasksModel" (139 : Nat) ({ cls := "ScopeTasksModel", name := "readsOf", desc := "(I)Z" } : Jvm.MethodName)) ∈ lw_all := lw_g (lw_at lw_m5 82 rfl) rfl
theorem q1102 : (Jvm.Cond.privateMethod ({ cls := "ScopeTasksModel", name := "readsOf", desc := "(I)Z" } : Jvm.MethodName)) ∈ lw_tbl := lw_at lw_m5 83 rfl
theorem q1103 : (Jvm.Cond.instanceMethod ({ cls := "ScopeTasksModel", name := "readsOf", desc := "(I)Z" } : Jvm.MethodName)) ∈ lw_all := lw_g (lw_at lw_m5 84 rfl) rfl
theorem q1104 : (Jvm.Cond.code ({ cls := "ScopeTasksModel", name := "readsOf", desc := "(I)Z" } : Jvm.MethodName) prog_7_method_15_code (3 : Nat) (Option.some Jvm.ClassFile.FieldType.boolean)) ∈ lw_all := lw_g (lw_at lw_m5 85 rfl) rfl
theorem q1105 : (Jvm.Cond.methodLink "ScopeTasksModel" (133 : Nat) ({ cls := "ScopeTasksModel", name := "ends", desc := "()Z" } : Jvm.MethodName)) ∈ lw_all := lw_g (lw_at lw_m5 86 rfl) rfl
theorem q1106 : (Jvm.Cond.privateMethod ({ cls := "ScopeTasksModel", name := "ends", desc := "()Z" } : Jvm.MethodName)) ∈ lw_tbl := lw_at lw_m5 87 rfl
theorem q1107 : (Jvm.Cond.instanceMethod ({ cls := "ScopeTasksModel", name := "ends", desc := "()Z" } : Jvm.MethodName)) ∈ lw_all := lw_g (lw_at lw_m5 88 rfl) rfl
theorem q1108 : (Jvm.Cond.code ({ cls := "ScopeTasksModel", name := "ends", desc := "()Z" } : Jvm.MethodName) prog_7_method_11_code (1 : Nat) (Option.some Jvm.ClassFile.FieldType.boolean)) ∈ lw_all := lw_g (lw_at lw_m5 89 rfl) rfl
theorem q1110 : (Jvm.Cond.instanceMethod ({ cls := "ScopeTasksModel", name := "ticks", desc := "(I)I" } : Jvm.MethodName)) ∈ lw_all := lw_g (lw_at lw_m5 91 rfl) rfl
theorem q1111 : (Jvm.Cond.selects "ScopeTasksModel" ({ cls := "ScopeTasksModel", name := "ticks", desc := "(I)I" } : Jvm.MethodName) ({ cls := "ScopeTasksModel", name := "ticks", desc := "(I)I" } : Jvm.MethodName)) ∈ lw_all := lw_g (lw_at lw_m5 92 rfl) rfl
theorem q1112 : (Jvm.Cond.code ({ cls := "ScopeTasksModel", name := "ticks", desc := "(I)I" } : Jvm.MethodName) prog_7_method_37_code (3 : Nat) (Option.some Jvm.ClassFile.FieldType.int)) ∈ lw_all := lw_g (lw_at lw_m5 93 rfl) rfl
theorem q1113 : (Jvm.Cond.methodLink "ScopeTasksModel" (165 : Nat) ({ cls := "ScopeTasksModel", name := "isHow", desc := "([III)Z" } : Jvm.MethodName)) ∈ lw_all := lw_g (lw_at lw_m5 94 rfl) rfl
theorem q1114 : (Jvm.Cond.static ({ cls := "ScopeTasksModel", name := "isHow", desc := "([III)Z" } : Jvm.MethodName)) ∈ lw_all := lw_g (lw_at lw_m5 95 rfl) rfl
theorem q1115 : (Jvm.Cond.code ({ cls := "ScopeTasksModel", name := "isHow", desc := "([III)Z" } : Jvm.MethodName) prog_7_method_22_code (3 : Nat) (Option.some Jvm.ClassFile.FieldType.boolean)) ∈ lw_all := lw_g (lw_at lw_m5 96 rfl) rfl
theorem q1116 : (Jvm.Cond.methodLink "ScopeTasksModel" (208 : Nat) ({ cls := "ScopeTasksModel", name := "remember", desc := "()V" } : Jvm.MethodName)) ∈ lw_all := lw_g (lw_at lw_m5 97 rfl) rfl
theorem q1117 : (Jvm.Cond.privateMethod ({ cls := "ScopeTasksModel", name := "remember", desc := "()V" } : Jvm.MethodName)) ∈ lw_tbl := lw_at lw_m5 98 rfl
theorem q1118 : (Jvm.Cond.instanceMethod ({ cls := "ScopeTasksModel", name := "remember", desc := "()V" } : Jvm.MethodName)) ∈ lw_all := lw_g (lw_at lw_m5 99 rfl) rfl
theorem q1119 : (Jvm.Cond.code ({ cls := "ScopeTasksModel", name := "remember", desc := "()V" } : Jvm.MethodName) prog_7_method_36_code (2 : Nat) (Option.none : Option Jvm.ClassFile.FieldType)) ∈ lw_all := lw_g (lw_at lw_m5 100 rfl) rfl
theorem q1120 : (Jvm.Cond.methodLink "ScopeTasksModel" (211 : Nat) ({ cls := "ScopeTasksModel", name := "tick", desc := "([I)V" } : Jvm.MethodName)) ∈ lw_all := lw_g (lw_at lw_m5 101 rfl) rfl
theorem q1121 : (Jvm.Cond.privateMethod ({ cls := "ScopeTasksModel", name := "tick", desc := "([I)V" } : Jvm.MethodName)) ∈ lw_tbl := lw_at lw_m5 102 rfl
theorem q1122 : (Jvm.Cond.instanceMethod ({ cls := "ScopeTasksModel", name := "tick", desc := "([I)V" } : Jvm.MethodName)) ∈ lw_all := lw_g (lw_at lw_m5 103 rfl) rfl
theorem q1123 : (Jvm.Cond.code ({ cls := "ScopeTasksModel", name := "tick", desc := "([I)V" } : Jvm.MethodName) prog_7_method_34_code (3 : Nat) (Option.none : Option Jvm.ClassFile.FieldType)) ∈ lw_all := lw_g (lw_at lw_m5 104 rfl) rfl
theorem q1124 : (Jvm.Cond.methodLink "ScopeTasksModel" (161 : Nat) ({ cls := "ScopeTasksModel", name := "at", desc := "([III)I" } : Jvm.MethodName)) ∈ lw_all := lw_g (lw_at lw_m5 105 rfl) rfl
theorem q1125 : (Jvm.Cond.static ({ cls := "ScopeTasksModel", name := "at", desc := "([III)I" } : Jvm.MethodName)) ∈ lw_all := lw_g (lw_at lw_m5 106 rfl) rfl
theorem q1126 : (Jvm.Cond.code ({ cls := "ScopeTasksModel", name := "at", desc := "([III)I" } : Jvm.MethodName) prog_7_method_21_code (3 : Nat) (Option.some Jvm.ClassFile.FieldType.int)) ∈ lw_all := lw_g (lw_at lw_m5 107 rfl) rfl
theorem q1127 : (Jvm.Cond.methodLink "ScopeTasksModel" (187 : Nat) ({ cls := "ScopeTasksModel", name := "codes", desc := "([III)V" } : Jvm.MethodName)) ∈ lw_all := lw_g (lw_at lw_m5 108 rfl) rfl
theorem q1128 : (Jvm.Cond.static ({ cls := "ScopeTasksModel", name := "codes", desc := "([III)V" } : Jvm.MethodName)) ∈ lw_all := lw_g (lw_at lw_m5 109 rfl) rfl
theorem q1129 : (Jvm.Cond.code ({ cls := "ScopeTasksModel", name := "codes", desc := "([III)V" } : Jvm.MethodName) prog_7_method_24_code (3 : Nat) (Option.none : Option Jvm.ClassFile.FieldType)) ∈ lw_all := lw_g (lw_at lw_m5 110 rfl) rfl
theorem q1130 : (Jvm.Cond.methodLink "ScopeTasksModel" (190 : Nat) ({ cls := "ScopeTasksModel", name := "closes", desc := "([III)V" } : Jvm.MethodName)) ∈ lw_all := lw_g (lw_at lw_m5 111 rfl) rfl
theorem q1131 : (Jvm.Cond.privateMethod ({ cls := "ScopeTasksModel", name := "closes", desc := "([III)V" } : Jvm.MethodName)) ∈ lw_tbl := lw_at lw_m5 112 rfl
theorem q1132 : (Jvm.Cond.instanceMethod ({ cls := "ScopeTasksModel", name := "closes", desc := "([III)V" } : Jvm.MethodName)) ∈ lw_all := lw_g (lw_at lw_m5 113 rfl) rfl
theorem q1133 : (Jvm.Cond.code ({ cls := "ScopeTasksModel", name := "closes", desc := "([III)V" } : Jvm.MethodName) prog_7_method_26_code (5 : Nat) (Option.none : Option Jvm.ClassFile.FieldType)) ∈ lw_all := lw_g (lw_at lw_m5 114 rfl) rfl
theorem q1134 : (Jvm.Cond.methodLink "ScopeTasksModel" (169 : Nat) ({ cls := "ScopeTasksModel", name := "asksChildren", desc := "([II)V" } : Jvm.MethodName)) ∈ lw_all := lw_g (lw_at lw_m5 115 rfl) rfl
theorem q1135 : (Jvm.Cond.privateMethod ({ cls := "ScopeTasksModel", name := "asksChildren", desc := "([II)V" } : Jvm.MethodName)) ∈ lw_tbl := lw_at lw_m5 116 rfl
theorem q1136 : (Jvm.Cond.instanceMethod ({ cls := "ScopeTasksModel", name := "asksChildren", desc := "([II)V" } : Jvm.MethodName)) ∈ lw_all := lw_g (lw_at lw_m5 117 rfl) rfl
theorem q1137 : (Jvm.Cond.code ({ cls := "ScopeTasksModel", name := "asksChildren", desc := "([II)V" } : Jvm.MethodName) prog_7_method_25_code (4 : Nat) (Option.none : Option Jvm.ClassFile.FieldType)) ∈ lw_all := lw_g (lw_at lw_m5 118 rfl) rfl
theorem q1138 : (Jvm.Cond.methodLink "ScopeTasksModel" (173 : Nat) ({ cls := "ScopeTasksModel", name := "traces", desc := "([III)V" } : Jvm.MethodName)) ∈ lw_all := lw_g (lw_at lw_m5 119 rfl) rfl
theorem q1139 : (Jvm.Cond.static ({ cls := "ScopeTasksModel", name := "traces", desc := "([III)V" } : Jvm.MethodName)) ∈ lw_all := lw_g (lw_at lw_m5 120 rfl) rfl
theorem q1140 : (Jvm.Cond.code ({ cls := "ScopeTasksModel", name := "traces", desc := "([III)V" } : Jvm.MethodName) prog_7_method_23_code (4 : Nat) (Option.none : Option Jvm.ClassFile.FieldType)) ∈ lw_all := lw_g (lw_at lw_m5 121 rfl) rfl
theorem q1141 : (Jvm.Cond.methodLink "ScopeTasksModel" (199 : Nat) ({ cls := "ScopeTasksModel", name := "moves", desc := "([II)V" } : Jvm.MethodName)) ∈ lw_all := lw_g (lw_at lw_m5 122 rfl) rfl
theorem q1142 : (Jvm.Cond.privateMethod ({ cls := "ScopeTasksModel", name := "moves", desc := "([II)V" } : Jvm.MethodName)) ∈ lw_tbl := lw_at lw_m5 123 rfl
theorem q1143 : (Jvm.Cond.instanceMethod ({ cls := "ScopeTasksModel", name := "moves", desc := "([II)V" } : Jvm.MethodName)) ∈ lw_all := lw_g (lw_at lw_m5 124 rfl) rfl
theorem q1144 : (Jvm.Cond.code ({ cls := "ScopeTasksModel", name := "moves", desc := "([II)V" } : Jvm.MethodName) prog_7_method_31_code (3 : Nat) (Option.none : Option Jvm.ClassFile.FieldType)) ∈ lw_all := lw_g (lw_at lw_m5 125 rfl) rfl
theorem q1145 : (Jvm.Cond.methodLink "ScopeTasksModel" (193 : Nat) ({ cls := "ScopeTasksModel", name := "works", desc := "([II)V" } : Jvm.MethodName)) ∈ lw_all := lw_g (lw_at lw_m5 126 rfl) rfl
theorem q1146 : (Jvm.Cond.privateMethod ({ cls := "ScopeTasksModel", name := "works", desc := "([II)V" } : Jvm.MethodName)) ∈ lw_tbl := lw_at lw_m5 127 rfl
theorem q1147 : (Jvm.Cond.instanceMethod ({ cls := "ScopeTasksModel", name := "works", desc := "([II)V" } : Jvm.MethodName)) ∈ lw_all := lw_g (lw_at lw_m5 128 rfl) rfl
theorem q1148 : (Jvm.Cond.code ({ cls := "ScopeTasksModel", name := "works", desc := "([II)V" } : Jvm.MethodName) prog_7_method_30_code (5 : Nat) (Option.none : Option Jvm.ClassFile.FieldType)) ∈ lw_all := lw_g (lw_at lw_m5 129 rfl) rfl
theorem q1149 : (Jvm.Cond.methodLink "ScopeTasksModel" (180 : Nat) ({ cls := "ScopeTasksModel", name := "beginsChild", desc := "([II)V" } : Jvm.MethodName)) ∈ lw_all := lw_g (lw_at lw_m5 130 rfl) rfl
theorem q1150 : (Jvm.Cond.privateMethod ({ cls := "ScopeTasksModel", name := "beginsChild", desc := "([II)V" } : Jvm.MethodName)) ∈ lw_tbl := lw_at lw_m5 131 rfl
theorem q1151 : (Jvm.Cond.instanceMethod ({ cls := "ScopeTasksModel", name := "beginsChild", desc := "([II)V" } : Jvm.MethodName)) ∈ lw_all := lw_g (lw_at lw_m5 132 rfl) rfl
theorem q1152 : (Jvm.Cond.code ({ cls := "ScopeTasksModel", name := "beginsChild", desc := "([II)V" } : Jvm.MethodName) prog_7_method_28_code (4 : Nat) (Option.none : Option Jvm.ClassFile.FieldType)) ∈ lw_all := lw_g (lw_at lw_m5 133 rfl) rfl
theorem q1153 : (Jvm.Cond.methodLink "ScopeTasksModel" (177 : Nat) ({ cls := "ScopeTasksModel", name := "begin", desc := "([II)V" } : Jvm.MethodName)) ∈ lw_all := lw_g (lw_at lw_m5 134 rfl) rfl
theorem q1154 : (Jvm.Cond.privateMethod ({ cls := "ScopeTasksModel", name := "begin", desc := "([II)V" } : Jvm.MethodName)) ∈ lw_tbl := lw_at lw_m5 135 rfl
theorem q1155 : (Jvm.Cond.instanceMethod ({ cls := "ScopeTasksModel", name := "begin", desc := "([II)V" } : Jvm.MethodName)) ∈ lw_all := lw_g (lw_at lw_m5 136 rfl) rfl
theorem q1156 : (Jvm.Cond.code ({ cls := "ScopeTasksModel", name := "begin", desc := "([II)V" } : Jvm.MethodName) prog_7_method_27_code (5 : Nat) (Option.none : Option Jvm.ClassFile.FieldType)) ∈ lw_all := lw_g (lw_at lw_m5 137 rfl) rfl
theorem q1157 : (Jvm.Cond.methodLink "ScopeTasksModel" (183 : Nat) ({ cls := "ScopeTasksModel", name := "isBusy", desc := "([II)Z" } : Jvm.MethodName)) ∈ lw_all := lw_g (lw_at lw_m5 138 rfl) rfl
theorem q1158 : (Jvm.Cond.privateMethod ({ cls := "ScopeTasksModel", name := "isBusy", desc := "([II)Z" } : Jvm.MethodName)) ∈ lw_tbl := lw_at lw_m5 139 rfl
theorem q1159 : (Jvm.Cond.instanceMethod ({ cls := "ScopeTasksModel", name := "isBusy", desc := "([II)Z" } : Jvm.MethodName)) ∈ lw_all := lw_g (lw_at lw_m5 140 rfl) rfl
theorem q1160 : (Jvm.Cond.code ({ cls := "ScopeTasksModel", name := "isBusy", desc := "([II)Z" } : Jvm.MethodName) prog_7_method_29_code (5 : Nat) (Option.some Jvm.ClassFile.FieldType.boolean)) ∈ lw_all := lw_g (lw_at lw_m5 141 rfl) rfl
theorem q1161 : (Jvm.Cond.methodLink "ScopeTasksModel" (202 : Nat) ({ cls := "ScopeTasksModel", name := "cleansUp", desc := "([II)V" } : Jvm.MethodName)) ∈ lw_all := lw_g (lw_at lw_m5 142 rfl) rfl
theorem q1162 : (Jvm.Cond.privateMethod ({ cls := "ScopeTasksModel", name := "cleansUp", desc := "([II)V" } : Jvm.MethodName)) ∈ lw_tbl := lw_at lw_m5 143 rfl
theorem q1163 : (Jvm.Cond.instanceMethod ({ cls := "ScopeTasksModel", name := "cleansUp", desc := "([II)V" } : Jvm.MethodName)) ∈ lw_all := lw_g (lw_at lw_m5 144 rfl) rfl
theorem q1164 : (Jvm.Cond.code ({ cls := "ScopeTasksModel", name := "cleansUp", desc := "([II)V" } : Jvm.MethodName) prog_7_method_33_code (4 : Nat) (Option.none : Option Jvm.ClassFile.FieldType)) ∈ lw_all := lw_g (lw_at lw_m5 145 rfl) rfl
theorem q1165 : (Jvm.Cond.methodLink "ScopeTasksModel" (196 : Nat) ({ cls := "ScopeTasksModel", name := "gives", desc := "([II)V" } : Jvm.MethodName)) ∈ lw_all := lw_g (lw_at lw_m5 146 rfl) rfl
theorem q1166 : (Jvm.Cond.privateMethod ({ cls := "ScopeTasksModel", name := "gives", desc := "([II)V" } : Jvm.MethodName)) ∈ lw_tbl := lw_at lw_m5 147 rfl
theorem q1167 : (Jvm.Cond.instanceMethod ({ cls := "ScopeTasksModel", name := "gives", desc := "([II)V" } : Jvm.MethodName)) ∈ lw_all := lw_g (lw_at lw_m5 148 rfl) rfl
theorem q1168 : (Jvm.Cond.code ({ cls := "ScopeTasksModel", name := "gives", desc := "([II)V" } : Jvm.MethodName) prog_7_method_32_code (5 : Nat) (Option.none : Option Jvm.ClassFile.FieldType)) ∈ lw_all := lw_g (lw_at lw_m5 149 rfl) rfl
theorem q1170 : (Jvm.Cond.instanceMethod ({ cls := "ScopeTasksModel", name := "asks", desc := "(I)I" } : Jvm.MethodName)) ∈ lw_all := lw_g (lw_at lw_m5 151 rfl) rfl
theorem q1171 : (Jvm.Cond.selects "ScopeTasksModel" ({ cls := "ScopeTasksModel", name := "asks", desc := "(I)I" } : Jvm.MethodName) ({ cls := "ScopeTasksModel", name := "asks", desc := "(I)I" } : Jvm.MethodName)) ∈ lw_all := lw_g (lw_at lw_m5 152 rfl) rfl
theorem q1172 : (Jvm.Cond.code ({ cls := "ScopeTasksModel", name := "asks", desc := "(I)I" } : Jvm.MethodName) prog_7_method_38_code (2 : Nat) (Option.some Jvm.ClassFile.FieldType.int)) ∈ lw_all := lw_g (lw_at lw_m5 153 rfl) rfl
theorem q1173 : (Jvm.Cond.methodLink "ScopeTasksModel" (214 : Nat) ({ cls := "ScopeTasksModel", name := "isTask", desc := "(I)Z" } : Jvm.MethodName)) ∈ lw_all := lw_g (lw_at lw_m5 154 rfl) rfl
theorem q1174 : (Jvm.Cond.privateMethod ({ cls := "ScopeTasksModel", name := "isTask", desc := "(I)Z" } : Jvm.MethodName)) ∈ lw_tbl := lw_at lw_m5 155 rfl
theorem q1175 : (Jvm.Cond.instanceMethod ({ cls := "ScopeTasksModel", name := "isTask", desc := "(I)Z" } : Jvm.MethodName)) ∈ lw_all := lw_g (lw_at lw_m5 156 rfl) rfl
theorem q1176 : (Jvm.Cond.code ({ cls := "ScopeTasksModel", name := "isTask", desc := "(I)Z" } : Jvm.MethodName) prog_7_method_35_code (2 : Nat) (Option.some Jvm.ClassFile.FieldType.boolean)) ∈ lw_all := lw_g (lw_at lw_m5 157 rfl) rfl
theorem q1178 : (Jvm.Cond.instanceMethod ({ cls := "ScopeTasksModel", name := "undo", desc := "()I" } : Jvm.MethodName)) ∈ lw_all := lw_g (lw_at lw_m5 159 rfl) rfl
theorem q1179 : (Jvm.Cond.selects "ScopeTasksModel" ({ cls := "ScopeTasksModel", name := "undo", desc := "()I" } : Jvm.MethodName) ({ cls := "ScopeTasksModel", name := "undo", desc := "()I" } : Jvm.MethodName)) ∈ lw_all := lw_g (lw_at lw_m5 160 rfl) rfl
theorem q1180 : (Jvm.Cond.code ({ cls := "ScopeTasksModel", name := "undo", desc := "()I" } : Jvm.MethodName) prog_7_method_39_code (2 : Nat) (Option.some Jvm.ClassFile.FieldType.int)) ∈ lw_all := lw_g (lw_at lw_m5 161 rfl) rfl
theorem q1182 : (Jvm.Cond.instanceMethod ({ cls := "ScopeTasksModel", name := "task", desc := "(II)I" } : Jvm.MethodName)) ∈ lw_all := lw_g (lw_at lw_m5 163 rfl) rfl
theorem q1183 : (Jvm.Cond.selects "ScopeTasksModel" ({ cls := "ScopeTasksModel", name := "task", desc := "(II)I" } : Jvm.MethodName) ({ cls := "ScopeTasksModel", name := "task", desc := "(II)I" } : Jvm.MethodName)) ∈ lw_all := lw_g (lw_at lw_m5 164 rfl) rfl
theorem q1184 : (Jvm.Cond.code ({ cls := "ScopeTasksModel", name := "task", desc := "(II)I" } : Jvm.MethodName) prog_7_method_41_code (3 : Nat) (Option.some Jvm.ClassFile.FieldType.int)) ∈ lw_all := lw_g (lw_at lw_m5 165 rfl) rfl
theorem q1185 : (Jvm.Cond.methodLink "ScopeTasksModel" (217 : Nat) ({ cls := "ScopeTasksModel", name := "busySet", desc := "(I)I" } : Jvm.MethodName)) ∈ lw_all := lw_g (lw_at lw_m5 166 rfl) rfl
theorem q1186 : (Jvm.Cond.privateMethod ({ cls := "ScopeTasksModel", name := "busySet", desc := "(I)I" } : Jvm.MethodName)) ∈ lw_tbl := lw_at lw_m5 167 rfl
theorem q1187 : (Jvm.Cond.instanceMethod ({ cls := "ScopeTasksModel", name := "busySet", desc := "(I)I" } : Jvm.MethodName)) ∈ lw_all := lw_g (lw_at lw_m5 168 rfl) rfl
theorem q1188 : (Jvm.Cond.code ({ cls := "ScopeTasksModel", name := "busySet", desc := "(I)I" } : Jvm.MethodName) prog_7_method_40_code (4 : Nat) (Option.some Jvm.ClassFile.FieldType.int)) ∈ lw_all := lw_g (lw_at lw_m5 169 rfl) rfl
theorem q1190 : (Jvm.Cond.instanceMethod ({ cls := "ScopeTasksModel", name := "failure", desc := "(II)I" } : Jvm.MethodName)) ∈ lw_all := lw_g (lw_at lw_m5 171 rfl) rfl
theorem q1191 : (Jvm.Cond.selects "ScopeTasksModel" ({ cls := "ScopeTasksModel", name := "failure", desc := "(II)I" } : Jvm.MethodName) ({ cls := "ScopeTasksModel", name := "failure", desc := "(II)I" } : Jvm.MethodName)) ∈ lw_all := lw_g (lw_at lw_m5 172 rfl) rfl
theorem q1192 : (Jvm.Cond.code ({ cls := "ScopeTasksModel", name := "failure", desc := "(II)I" } : Jvm.MethodName) prog_7_method_42_code (3 : Nat) (Option.some Jvm.ClassFile.FieldType.int)) ∈ lw_all := lw_g (lw_at lw_m5 173 rfl) rfl
theorem q1194 : (Jvm.Cond.instanceMethod ({ cls := "ScopeTasksModel", name := "trace", desc := "(II)I" } : Jvm.MethodName)) ∈ lw_all := lw_g (lw_at lw_m5 175 rfl) rfl
theorem q1195 : (Jvm.Cond.selects "ScopeTasksModel" ({ cls := "ScopeTasksModel", name := "trace", desc := "(II)I" } : Jvm.MethodName) ({ cls := "ScopeTasksModel", name := "trace", desc := "(II)I" } : Jvm.MethodName)) ∈ lw_all := lw_g (lw_at lw_m5 176 rfl) rfl
theorem q1196 : (Jvm.Cond.code ({ cls := "ScopeTasksModel", name := "trace", desc := "(II)I" } : Jvm.MethodName) prog_7_method_43_code (3 : Nat) (Option.some Jvm.ClassFile.FieldType.int)) ∈ lw_all := lw_g (lw_at lw_m5 177 rfl) rfl
theorem q1198 : (Jvm.Cond.instanceMethod ({ cls := "ScopeTasksModel", name := "ends", desc := "(II)I" } : Jvm.MethodName)) ∈ lw_all := lw_g (lw_at lw_m5 179 rfl) rfl
theorem q1199 : (Jvm.Cond.selects "ScopeTasksModel" ({ cls := "ScopeTasksModel", name := "ends", desc := "(II)I" } : Jvm.MethodName) ({ cls := "ScopeTasksModel", name := "ends", desc := "(II)I" } : Jvm.MethodName)) ∈ lw_all := lw_g (lw_at lw_m5 180 rfl) rfl
theorem q1200 : (Jvm.Cond.code ({ cls := "ScopeTasksModel", name := "ends", desc := "(II)I" } : Jvm.MethodName) prog_7_method_45_code (3 : Nat) (Option.some Jvm.ClassFile.FieldType.int)) ∈ lw_all := lw_g (lw_at lw_m5 181 rfl) rfl
theorem q1201 : (Jvm.Cond.methodLink "ScopeTasksModel" (221 : Nat) ({ cls := "ScopeTasksModel", name := "copies", desc := "([I[I)V" } : Jvm.MethodName)) ∈ lw_all := lw_g (lw_at lw_m5 182 rfl) rfl
theorem q1202 : (Jvm.Cond.static ({ cls := "ScopeTasksModel", name := "copies", desc := "([I[I)V" } : Jvm.MethodName)) ∈ lw_all := lw_g (lw_at lw_m5 183 rfl) rfl
theorem q1203 : (Jvm.Cond.code ({ cls := "ScopeTasksModel", name := "copies", desc := "([I[I)V" } : Jvm.MethodName) prog_7_method_19_code (3 : Nat) (Option.none : Option Jvm.ClassFile.FieldType)) ∈ lw_all := lw_g (lw_at lw_m5 184 rfl) rfl
theorem q1204 : (Jvm.Cond.methodLink "ScopeTasksModel" (225 : Nat) ({ cls := "ScopeTasksModel", name := "goesOn", desc := "(I)V" } : Jvm.MethodName)) ∈ lw_all := lw_g (lw_at lw_m5 185 rfl) rfl
theorem q1205 : (Jvm.Cond.privateMethod ({ cls := "ScopeTasksModel", name := "goesOn", desc := "(I)V" } : Jvm.MethodName)) ∈ lw_tbl := lw_at lw_m5 186 rfl
theorem q1206 : (Jvm.Cond.instanceMethod ({ cls := "ScopeTasksModel", name := "goesOn", desc := "(I)V" } : Jvm.MethodName)) ∈ lw_all := lw_g (lw_at lw_m5 187 rfl) rfl
theorem q1207 : (Jvm.Cond.code ({ cls := "ScopeTasksModel", name := "goesOn", desc := "(I)V" } : Jvm.MethodName) prog_7_method_44_code (3 : Nat) (Option.none : Option Jvm.ClassFile.FieldType)) ∈ lw_all := lw_g (lw_at lw_m5 188 rfl) rfl
theorem q1209 : (Jvm.Cond.instanceMethod ({ cls := "ScopeTasksModel", name := "wellBy", desc := "()I" } : Jvm.MethodName)) ∈ lw_all := lw_g (lw_at lw_m5 190 rfl) rfl
theorem q1210 : (Jvm.Cond.selects "ScopeTasksModel" ({ cls := "ScopeTasksModel", name := "wellBy", desc := "()I" } : Jvm.MethodName) ({ cls := "ScopeTasksModel", name := "wellBy", desc := "()I" } : Jvm.MethodName)) ∈ lw_all := lw_g (lw_at lw_m5 191 rfl) rfl
theorem q1211 : (Jvm.Cond.code ({ cls := "ScopeTasksModel", name := "wellBy", desc := "()I" } : Jvm.MethodName) prog_7_method_46_code (4 : Nat) (Option.some Jvm.ClassFile.FieldType.int)) ∈ lw_all := lw_g (lw_at lw_m5 192 rfl) rfl
theorem q1213 : (Jvm.Cond.instanceMethod ({ cls := "ScopeTasksModel", name := "spares", desc := "(I)I" } : Jvm.MethodName)) ∈ lw_all := lw_g (lw_at lw_m5 194 rfl) rfl
theorem q1214 : (Jvm.Cond.selects "ScopeTasksModel" ({ cls := "ScopeTasksModel", name := "spares", desc := "(I)I" } : Jvm.MethodName) ({ cls := "ScopeTasksModel", name := "spares", desc := "(I)I" } : Jvm.MethodName)) ∈ lw_all := lw_g (lw_at lw_m5 195 rfl) rfl
theorem q1215 : (Jvm.Cond.code ({ cls := "ScopeTasksModel", name := "spares", desc := "(I)I" } : Jvm.MethodName) prog_7_method_47_code (3 : Nat) (Option.some Jvm.ClassFile.FieldType.int)) ∈ lw_all := lw_g (lw_at lw_m5 196 rfl) rfl
theorem q1216 : (Jvm.Cond.constant "ScopeTasksModel" (229 : Nat) (-1000000 : Int32)) ∈ lw_all := lw_g (lw_at lw_m5 197 rfl) rfl
theorem q1218 : (Jvm.Cond.instanceMethod ({ cls := "ScopeTasksModel", name := "sees", desc := "(III)I" } : Jvm.MethodName)) ∈ lw_all := lw_g (lw_at lw_m5 199 rfl) rfl
theorem q1219 : (Jvm.Cond.selects "ScopeTasksModel" ({ cls := "ScopeTasksModel", name := "sees", desc := "(III)I" } : Jvm.MethodName) ({ cls := "ScopeTasksModel", name := "sees", desc := "(III)I" } : Jvm.MethodName)) ∈ lw_all := lw_g (lw_at lw_m5 200 rfl) rfl
theorem q1220 : (Jvm.Cond.code ({ cls := "ScopeTasksModel", name := "sees", desc := "(III)I" } : Jvm.MethodName) prog_7_method_48_code (4 : Nat) (Option.some Jvm.ClassFile.FieldType.int)) ∈ lw_all := lw_g (lw_at lw_m5 201 rfl) rfl
theorem q1222 : (Jvm.Cond.instanceMethod ({ cls := "ScopeTasksModel", name := "forget", desc := "()I" } : Jvm.MethodName)) ∈ lw_all := lw_g (lw_at lw_m5 203 rfl) rfl
theorem q1223 : (Jvm.Cond.selects "ScopeTasksModel" ({ cls := "ScopeTasksModel", name := "forget", desc := "()I" } : Jvm.MethodName) ({ cls := "ScopeTasksModel", name := "forget", desc := "()I" } : Jvm.MethodName)) ∈ lw_all := lw_g (lw_at lw_m5 204 rfl) rfl
theorem q1224 : (Jvm.Cond.code ({ cls := "ScopeTasksModel", name := "forget", desc := "()I" } : Jvm.MethodName) prog_7_method_49_code (2 : Nat) (Option.some Jvm.ClassFile.FieldType.int)) ∈ lw_all := lw_g (lw_at lw_m5 205 rfl) rfl
theorem q1226 : (Jvm.Cond.instanceMethod ({ cls := "ScopeTasksModel", name := "fits", desc := "(I)I" } : Jvm.MethodName)) ∈ lw_all := lw_g (lw_at lw_m5 207 rfl) rfl
theorem q1227 : (Jvm.Cond.selects "ScopeTasksModel" ({ cls := "ScopeTasksModel", name := "fits", desc := "(I)I" } : Jvm.MethodName) ({ cls := "ScopeTasksModel", name := "fits", desc := "(I)I" } : Jvm.MethodName)) ∈ lw_all := lw_g (lw_at lw_m5 208 rfl) rfl
theorem q1228 : (Jvm.Cond.code ({ cls := "ScopeTasksModel", name := "fits", desc := "(I)I" } : Jvm.MethodName) prog_7_method_50_code (8 : Nat) (Option.some Jvm.ClassFile.FieldType.int)) ∈ lw_all := lw_g (lw_at lw_m5 209 rfl) rfl
theorem q1230 : (Jvm.Cond.instanceMethod ({ cls := "ScopeTasksModel", name := "keep", desc := "(I)I" } : Jvm.MethodName)) ∈ lw_all := lw_g (lw_at lw_m5 211 rfl) rfl
theorem q1231 : (Jvm.Cond.selects "ScopeTasksModel" ({ cls := "ScopeTasksModel", name := "keep", desc := "(I)I" } : Jvm.MethodName) ({ cls := "ScopeTasksModel", name := "keep", desc := "(I)I" } : Jvm.MethodName)) ∈ lw_all := lw_g (lw_at lw_m5 212 rfl) rfl
theorem q1232 : (Jvm.Cond.code ({ cls := "ScopeTasksModel", name := "keep", desc := "(I)I" } : Jvm.MethodName) prog_7_method_51_code (3 : Nat) (Option.some Jvm.ClassFile.FieldType.int)) ∈ lw_all := lw_g (lw_at lw_m5 213 rfl) rfl
theorem q1234 : (Jvm.Cond.instanceMethod ({ cls := "ScopeTasksModel", name := "back", desc := "(I)I" } : Jvm.MethodName)) ∈ lw_all := lw_g (lw_at lw_m5 215 rfl) rfl
theorem q1235 : (Jvm.Cond.selects "ScopeTasksModel" ({ cls := "ScopeTasksModel", name := "back", desc := "(I)I" } : Jvm.MethodName) ({ cls := "ScopeTasksModel", name := "back", desc := "(I)I" } : Jvm.MethodName)) ∈ lw_all := lw_g (lw_at lw_m5 216 rfl) rfl
theorem q1236 : (Jvm.Cond.code ({ cls := "ScopeTasksModel", name := "back", desc := "(I)I" } : Jvm.MethodName) prog_7_method_52_code (3 : Nat) (Option.some Jvm.ClassFile.FieldType.int)) ∈ lw_all := lw_g (lw_at lw_m5 217 rfl) rfl
theorem q1238 : (Jvm.Cond.instanceMethod ({ cls := "ScopeTasksModel", name := "count", desc := "(I)I" } : Jvm.MethodName)) ∈ lw_all := lw_g (lw_at lw_m5 219 rfl) rfl
theorem q1239 : (Jvm.Cond.selects "ScopeTasksModel" ({ cls := "ScopeTasksModel", name := "count", desc := "(I)I" } : Jvm.MethodName) ({ cls := "ScopeTasksModel", name := "count", desc := "(I)I" } : Jvm.MethodName)) ∈ lw_all := lw_g (lw_at lw_m5 220 rfl) rfl
theorem q1240 : (Jvm.Cond.code ({ cls := "ScopeTasksModel", name := "count", desc := "(I)I" } : Jvm.MethodName) prog_7_method_54_code (2 : Nat) (Option.some Jvm.ClassFile.FieldType.int)) ∈ lw_all := lw_g (lw_at lw_m5 221 rfl) rfl
theorem q1241 : (Jvm.Cond.methodLink "ScopeTasksModel" (230 : Nat) ({ cls := "ScopeTasksModel", name := "howMany", desc := "(I)I" } : Jvm.MethodName)) ∈ lw_all := lw_g (lw_at lw_m5 222 rfl) rfl
theorem q1242 : (Jvm.Cond.privateMethod ({ cls := "ScopeTasksModel", name := "howMany", desc := "(I)I" } : Jvm.MethodName)) ∈ lw_tbl := lw_at lw_m5 223 rfl
theorem q1243 : (Jvm.Cond.instanceMethod ({ cls := "ScopeTasksModel", name := "howMany", desc := "(I)I" } : Jvm.MethodName)) ∈ lw_all := lw_g (lw_at lw_m5 224 rfl) rfl
theorem q1244 : (Jvm.Cond.code ({ cls := "ScopeTasksModel", name := "howMany", desc := "(I)I" } : Jvm.MethodName) prog_7_method_53_code (4 : Nat) (Option.some Jvm.ClassFile.FieldType.int)) ∈ lw_all := lw_g (lw_at lw_m5 225 rfl) rfl
theorem q1252 : (Jvm.Cond.castable "ScopeTasksModel" "java/lang/Object") ∈ lw_tbl := lw_at lw_m5 233 rfl
theorem in_X3 : ∀ w ∈ wsX30, w ∈ lw_all := lw_in wsX30 [982, 984, 986, 988, 990, 992, 994, 996, 998, 1000, 1002, 1004, 1006, 1008, 1010, 1012, 1014, 1016, 1018, 1020, 1022, 1024, 1026, 1028, 1030, 1032, 1034, 1036, 1038, 1040, 1042, 1044, 1046, 1048] (by decide +kernel) (by decide +kernel)
