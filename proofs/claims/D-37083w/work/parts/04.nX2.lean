/-! ReversalCourtModel -/
set_option maxRecDepth 100000
def RX2 : String := "ReversalCourtModel"
def TX2 : u_T := fun k => match k with
  | 0 => ("ReversalCourtModel", "thrown", "I", false)
  | 1 => ("ReversalCourtModel", "letters", "I", false)
  | 2 => ("ReversalCourtModel", "page", "[C", true)
  | 3 => ("ReversalCourtModel", "parts", "I", false)
  | 4 => ("ReversalCourtModel", "what", "[I", true)
  | 5 => ("ReversalCourtModel", "left", "[I", true)
  | 6 => ("ReversalCourtModel", "right", "[I", true)
  | 7 => ("ReversalCourtModel", "variable", "[I", true)
  | 8 => ("ReversalCourtModel", "bound", "[I", true)
  | 9 => ("ReversalCourtModel", "sigma", "[I", true)
  | 10 => ("ReversalCourtModel", "pi", "[I", true)
  | 11 => ("ReversalCourtModel", "free", "[I", true)
  | 12 => ("ReversalCourtModel", "begun", "I", false)
  | 13 => ("ReversalCourtModel", "kind", "[I", true)
  | 14 => ("ReversalCourtModel", "its", "[I", true)
  | 15 => ("ReversalCourtModel", "other", "[I", true)
  | 16 => ("ReversalCourtModel", "looks", "I", false)
  | 17 => ("ReversalCourtModel", "table", "[Z", true)
  | 18 => ("ReversalCourtModel", "principles", "I", false)
  | 19 => ("ReversalCourtModel", "hasSigma", "[I", true)
  | 20 => ("ReversalCourtModel", "hasPi", "[I", true)
  | 21 => ("ReversalCourtModel", "rules", "I", false)
  | 22 => ("ReversalCourtModel", "premises", "[I", true)
  | 23 => ("ReversalCourtModel", "conclusion", "[I", true)
  | 24 => ("ReversalCourtModel", "models", "I", false)
  | 25 => ("ReversalCourtModel", "model", "[I", true)
  | 26 => ("ReversalCourtModel", "steps", "[I", true)
  | 27 => ("ReversalCourtModel", "problems", "I", false)
  | 28 => ("ReversalCourtModel", "instances", "[I", true)
  | 29 => ("ReversalCourtModel", "answers", "[I", true)
  | 30 => ("ReversalCourtModel", "solves", "[I", true)
  | _ => ("ReversalCourtModel", "wins", "[Z", true)
def tyX2 : Nat → FieldType := fun k => match k with
  | 0 => .int
  | 1 => .int
  | 2 => .array .char
  | 3 => .int
  | 4 => .array .int
  | 5 => .array .int
  | 6 => .array .int
  | 7 => .array .int
  | 8 => .array .int
  | 9 => .array .int
  | 10 => .array .int
  | 11 => .array .int
  | 12 => .int
  | 13 => .array .int
  | 14 => .array .int
  | 15 => .array .int
  | 16 => .int
  | 17 => .array .boolean
  | 18 => .int
  | 19 => .array .int
  | 20 => .array .int
  | 21 => .int
  | 22 => .array .int
  | 23 => .array .int
  | 24 => .int
  | 25 => .array .int
  | 26 => .array .int
  | 27 => .int
  | 28 => .array .int
  | 29 => .array .int
  | 30 => .array .int
  | _ => .array .boolean
abbrev wsX20 : List Cond := u_ws RX2 TX2 32
set_option maxRecDepth 100000 in
theorem nmX2 : ∀ a, a < 32 → ∀ b, b < 32 → a ≠ b → (TX2 a).2.1 ≠ (TX2 b).2.1 := by decide +kernel
set_option maxRecDepth 100000 in
theorem tyX2_ok : ∀ k, k < 32 → parseFieldDescriptor (TX2 k).2.2.1 = some (tyX2 k) := by decide +kernel
abbrev cX2_init : ByteArray := prog_17_method_1_code
def yX2_init : MethodName := ⟨RX2, "<init>", "()V"⟩
def dkwX2_init_7 : List UInt8 := [16, 6, 188, 10, 181, 0, 72, 42, 16, 6, 188, 10, 181, 0, 75, 42, 16, 16, 188, 4, 181, 0, 78, 177]
abbrev dktX2_init_7 : List UInt8 := dkwX2_init_7 ++ []
def dkwX2_init_6 : List UInt8 := [16, 10, 188, 10, 181, 0, 63, 42, 16, 30, 188, 10, 181, 0, 66, 42, 16, 6, 188, 10, 181, 0, 69, 42]
abbrev dktX2_init_6 : List UInt8 := dkwX2_init_6 ++ dktX2_init_7
def dkwX2_init_5 : List UInt8 := [16, 10, 188, 10, 181, 0, 54, 42, 16, 30, 188, 10, 181, 0, 57, 42, 16, 30, 188, 10, 181, 0, 60, 42]
abbrev dktX2_init_5 : List UInt8 := dkwX2_init_5 ++ dktX2_init_6
def dkwX2_init_4 : List UInt8 := [188, 10, 181, 0, 44, 42, 17, 19, 136, 188, 4, 181, 0, 47, 42, 16, 10, 188, 10, 181, 0, 51, 42]
abbrev dktX2_init_4 : List UInt8 := dkwX2_init_4 ++ dktX2_init_5
def dkwX2_init_3 : List UInt8 := [188, 10, 181, 0, 35, 42, 16, 41, 188, 10, 181, 0, 38, 42, 16, 41, 188, 10, 181, 0, 41, 42, 16, 41]
abbrev dktX2_init_3 : List UInt8 := dkwX2_init_3 ++ dktX2_init_4
def dkwX2_init_2 : List UInt8 := [188, 10, 181, 0, 26, 42, 16, 40, 188, 10, 181, 0, 29, 42, 16, 40, 188, 10, 181, 0, 32, 42, 16, 40]
abbrev dktX2_init_2 : List UInt8 := dkwX2_init_2 ++ dktX2_init_3
def dkwX2_init_1 : List UInt8 := [188, 10, 181, 0, 17, 42, 16, 40, 188, 10, 181, 0, 20, 42, 16, 40, 188, 10, 181, 0, 23, 42, 16, 40]
abbrev dktX2_init_1 : List UInt8 := dkwX2_init_1 ++ dktX2_init_2
def dkwX2_init_0 : List UInt8 := [42, 183, 0, 1, 42, 16, 40, 188, 5, 181, 0, 7, 42, 16, 40, 188, 10, 181, 0, 13, 42, 16, 40]
abbrev dktX2_init_0 : List UInt8 := dkwX2_init_0 ++ dktX2_init_1
theorem dksX2_init_0 : cX2_init.data.toList.drop 0 = dktX2_init_0 := by decide +kernel
theorem dksX2_init_1 : cX2_init.data.toList.drop 23 = dktX2_init_1 := dk_seg dksX2_init_0 23 rfl rfl
theorem dksX2_init_2 : cX2_init.data.toList.drop 47 = dktX2_init_2 := dk_seg dksX2_init_1 24 rfl rfl
theorem dksX2_init_3 : cX2_init.data.toList.drop 71 = dktX2_init_3 := dk_seg dksX2_init_2 24 rfl rfl
theorem dksX2_init_4 : cX2_init.data.toList.drop 95 = dktX2_init_4 := dk_seg dksX2_init_3 24 rfl rfl
theorem dksX2_init_5 : cX2_init.data.toList.drop 118 = dktX2_init_5 := dk_seg dksX2_init_4 23 rfl rfl
theorem dksX2_init_6 : cX2_init.data.toList.drop 142 = dktX2_init_6 := dk_seg dksX2_init_5 24 rfl rfl
theorem dksX2_init_7 : cX2_init.data.toList.drop 166 = dktX2_init_7 := dk_seg dksX2_init_6 24 rfl rfl
theorem dX2_init_0 : decode cX2_init 0 = .ok (.aload_n 0, 1) := dk_42 (dk_at dksX2_init_0 0 rfl rfl)
theorem dX2_init_1 : decode cX2_init 1 = .ok (.invokespecial 1, 3) := dk_183 0 1 (dk_at dksX2_init_0 1 rfl rfl)
theorem dX2_init_4 : decode cX2_init 4 = .ok (.aload_n 0, 1) := dk_42 (dk_at dksX2_init_0 4 rfl rfl)
theorem dX2_init_5 : decode cX2_init 5 = .ok (.bipush 40, 2) := dk_16 40 (dk_at dksX2_init_0 5 rfl rfl)
theorem dX2_init_7 : decode cX2_init 7 = .ok (.newarray .char, 2) := dk_188_5 (dk_at dksX2_init_0 7 rfl rfl)
theorem dX2_init_9 : decode cX2_init 9 = .ok (.putfield 7, 3) := dk_181 0 7 (dk_at dksX2_init_0 9 rfl rfl)
theorem dX2_init_12 : decode cX2_init 12 = .ok (.aload_n 0, 1) := dk_42 (dk_at dksX2_init_0 12 rfl rfl)
theorem dX2_init_13 : decode cX2_init 13 = .ok (.bipush 40, 2) := dk_16 40 (dk_at dksX2_init_0 13 rfl rfl)
theorem dX2_init_15 : decode cX2_init 15 = .ok (.newarray .int, 2) := dk_188_10 (dk_at dksX2_init_0 15 rfl rfl)
theorem dX2_init_17 : decode cX2_init 17 = .ok (.putfield 13, 3) := dk_181 0 13 (dk_at dksX2_init_0 17 rfl rfl)
theorem dX2_init_20 : decode cX2_init 20 = .ok (.aload_n 0, 1) := dk_42 (dk_at dksX2_init_0 20 rfl rfl)
theorem dX2_init_21 : decode cX2_init 21 = .ok (.bipush 40, 2) := dk_16 40 (dk_at dksX2_init_0 21 rfl rfl)
theorem dX2_init_23 : decode cX2_init 23 = .ok (.newarray .int, 2) := dk_188_10 (dk_at dksX2_init_1 0 rfl rfl)
theorem dX2_init_25 : decode cX2_init 25 = .ok (.putfield 17, 3) := dk_181 0 17 (dk_at dksX2_init_1 2 rfl rfl)
theorem dX2_init_28 : decode cX2_init 28 = .ok (.aload_n 0, 1) := dk_42 (dk_at dksX2_init_1 5 rfl rfl)
theorem dX2_init_29 : decode cX2_init 29 = .ok (.bipush 40, 2) := dk_16 40 (dk_at dksX2_init_1 6 rfl rfl)
theorem dX2_init_31 : decode cX2_init 31 = .ok (.newarray .int, 2) := dk_188_10 (dk_at dksX2_init_1 8 rfl rfl)
theorem dX2_init_33 : decode cX2_init 33 = .ok (.putfield 20, 3) := dk_181 0 20 (dk_at dksX2_init_1 10 rfl rfl)
theorem dX2_init_36 : decode cX2_init 36 = .ok (.aload_n 0, 1) := dk_42 (dk_at dksX2_init_1 13 rfl rfl)
theorem dX2_init_37 : decode cX2_init 37 = .ok (.bipush 40, 2) := dk_16 40 (dk_at dksX2_init_1 14 rfl rfl)
theorem dX2_init_39 : decode cX2_init 39 = .ok (.newarray .int, 2) := dk_188_10 (dk_at dksX2_init_1 16 rfl rfl)
theorem dX2_init_41 : decode cX2_init 41 = .ok (.putfield 23, 3) := dk_181 0 23 (dk_at dksX2_init_1 18 rfl rfl)
theorem dX2_init_44 : decode cX2_init 44 = .ok (.aload_n 0, 1) := dk_42 (dk_at dksX2_init_1 21 rfl rfl)
theorem dX2_init_45 : decode cX2_init 45 = .ok (.bipush 40, 2) := dk_16 40 (dk_at dksX2_init_1 22 rfl rfl)
theorem dX2_init_47 : decode cX2_init 47 = .ok (.newarray .int, 2) := dk_188_10 (dk_at dksX2_init_2 0 rfl rfl)
theorem dX2_init_49 : decode cX2_init 49 = .ok (.putfield 26, 3) := dk_181 0 26 (dk_at dksX2_init_2 2 rfl rfl)
theorem dX2_init_52 : decode cX2_init 52 = .ok (.aload_n 0, 1) := dk_42 (dk_at dksX2_init_2 5 rfl rfl)
theorem dX2_init_53 : decode cX2_init 53 = .ok (.bipush 40, 2) := dk_16 40 (dk_at dksX2_init_2 6 rfl rfl)
theorem dX2_init_55 : decode cX2_init 55 = .ok (.newarray .int, 2) := dk_188_10 (dk_at dksX2_init_2 8 rfl rfl)
theorem dX2_init_57 : decode cX2_init 57 = .ok (.putfield 29, 3) := dk_181 0 29 (dk_at dksX2_init_2 10 rfl rfl)
theorem dX2_init_60 : decode cX2_init 60 = .ok (.aload_n 0, 1) := dk_42 (dk_at dksX2_init_2 13 rfl rfl)
theorem dX2_init_61 : decode cX2_init 61 = .ok (.bipush 40, 2) := dk_16 40 (dk_at dksX2_init_2 14 rfl rfl)
theorem dX2_init_63 : decode cX2_init 63 = .ok (.newarray .int, 2) := dk_188_10 (dk_at dksX2_init_2 16 rfl rfl)
theorem dX2_init_65 : decode cX2_init 65 = .ok (.putfield 32, 3) := dk_181 0 32 (dk_at dksX2_init_2 18 rfl rfl)
theorem dX2_init_68 : decode cX2_init 68 = .ok (.aload_n 0, 1) := dk_42 (dk_at dksX2_init_2 21 rfl rfl)
theorem dX2_init_69 : decode cX2_init 69 = .ok (.bipush 40, 2) := dk_16 40 (dk_at dksX2_init_2 22 rfl rfl)
theorem dX2_init_71 : decode cX2_init 71 = .ok (.newarray .int, 2) := dk_188_10 (dk_at dksX2_init_3 0 rfl rfl)
theorem dX2_init_73 : decode cX2_init 73 = .ok (.putfield 35, 3) := dk_181 0 35 (dk_at dksX2_init_3 2 rfl rfl)
theorem dX2_init_76 : decode cX2_init 76 = .ok (.aload_n 0, 1) := dk_42 (dk_at dksX2_init_3 5 rfl rfl)
theorem dX2_init_77 : decode cX2_init 77 = .ok (.bipush 41, 2) := dk_16 41 (dk_at dksX2_init_3 6 rfl rfl)
theorem dX2_init_79 : decode cX2_init 79 = .ok (.newarray .int, 2) := dk_188_10 (dk_at dksX2_init_3 8 rfl rfl)
theorem dX2_init_81 : decode cX2_init 81 = .ok (.putfield 38, 3) := dk_181 0 38 (dk_at dksX2_init_3 10 rfl rfl)
theorem dX2_init_84 : decode cX2_init 84 = .ok (.aload_n 0, 1) := dk_42 (dk_at dksX2_init_3 13 rfl rfl)
theorem dX2_init_85 : decode cX2_init 85 = .ok (.bipush 41, 2) := dk_16 41 (dk_at dksX2_init_3 14 rfl rfl)
theorem dX2_init_87 : decode cX2_init 87 = .ok (.newarray .int, 2) := dk_188_10 (dk_at dksX2_init_3 16 rfl rfl)
theorem dX2_init_89 : decode cX2_init 89 = .ok (.putfield 41, 3) := dk_181 0 41 (dk_at dksX2_init_3 18 rfl rfl)
theorem dX2_init_92 : decode cX2_init 92 = .ok (.aload_n 0, 1) := dk_42 (dk_at dksX2_init_3 21 rfl rfl)
theorem dX2_init_93 : decode cX2_init 93 = .ok (.bipush 41, 2) := dk_16 41 (dk_at dksX2_init_3 22 rfl rfl)
theorem dX2_init_95 : decode cX2_init 95 = .ok (.newarray .int, 2) := dk_188_10 (dk_at dksX2_init_4 0 rfl rfl)
theorem dX2_init_97 : decode cX2_init 97 = .ok (.putfield 44, 3) := dk_181 0 44 (dk_at dksX2_init_4 2 rfl rfl)
theorem dX2_init_100 : decode cX2_init 100 = .ok (.aload_n 0, 1) := dk_42 (dk_at dksX2_init_4 5 rfl rfl)
theorem dX2_init_101 : decode cX2_init 101 = .ok (.sipush 5000, 3) := dk_17 19 136 (dk_at dksX2_init_4 6 rfl rfl)
theorem dX2_init_104 : decode cX2_init 104 = .ok (.newarray .boolean, 2) := dk_188_4 (dk_at dksX2_init_4 9 rfl rfl)
theorem dX2_init_106 : decode cX2_init 106 = .ok (.putfield 47, 3) := dk_181 0 47 (dk_at dksX2_init_4 11 rfl rfl)
theorem dX2_init_109 : decode cX2_init 109 = .ok (.aload_n 0, 1) := dk_42 (dk_at dksX2_init_4 14 rfl rfl)
theorem dX2_init_110 : decode cX2_init 110 = .ok (.bipush 10, 2) := dk_16 10 (dk_at dksX2_init_4 15 rfl rfl)
theorem dX2_init_112 : decode cX2_init 112 = .ok (.newarray .int, 2) := dk_188_10 (dk_at dksX2_init_4 17 rfl rfl)
theorem dX2_init_114 : decode cX2_init 114 = .ok (.putfield 51, 3) := dk_181 0 51 (dk_at dksX2_init_4 19 rfl rfl)
theorem dX2_init_117 : decode cX2_init 117 = .ok (.aload_n 0, 1) := dk_42 (dk_at dksX2_init_4 22 rfl rfl)
theorem dX2_init_118 : decode cX2_init 118 = .ok (.bipush 10, 2) := dk_16 10 (dk_at dksX2_init_5 0 rfl rfl)
theorem dX2_init_120 : decode cX2_init 120 = .ok (.newarray .int, 2) := dk_188_10 (dk_at dksX2_init_5 2 rfl rfl)
theorem dX2_init_122 : decode cX2_init 122 = .ok (.putfield 54, 3) := dk_181 0 54 (dk_at dksX2_init_5 4 rfl rfl)
theorem dX2_init_125 : decode cX2_init 125 = .ok (.aload_n 0, 1) := dk_42 (dk_at dksX2_init_5 7 rfl rfl)
theorem dX2_init_126 : decode cX2_init 126 = .ok (.bipush 30, 2) := dk_16 30 (dk_at dksX2_init_5 8 rfl rfl)
theorem dX2_init_128 : decode cX2_init 128 = .ok (.newarray .int, 2) := dk_188_10 (dk_at dksX2_init_5 10 rfl rfl)
theorem dX2_init_130 : decode cX2_init 130 = .ok (.putfield 57, 3) := dk_181 0 57 (dk_at dksX2_init_5 12 rfl rfl)
theorem dX2_init_133 : decode cX2_init 133 = .ok (.aload_n 0, 1) := dk_42 (dk_at dksX2_init_5 15 rfl rfl)
theorem dX2_init_134 : decode cX2_init 134 = .ok (.bipush 30, 2) := dk_16 30 (dk_at dksX2_init_5 16 rfl rfl)
theorem dX2_init_136 : decode cX2_init 136 = .ok (.newarray .int, 2) := dk_188_10 (dk_at dksX2_init_5 18 rfl rfl)
theorem dX2_init_138 : decode cX2_init 138 = .ok (.putfield 60, 3) := dk_181 0 60 (dk_at dksX2_init_5 20 rfl rfl)
theorem dX2_init_141 : decode cX2_init 141 = .ok (.aload_n 0, 1) := dk_42 (dk_at dksX2_init_5 23 rfl rfl)
theorem dX2_init_142 : decode cX2_init 142 = .ok (.bipush 10, 2) := dk_16 10 (dk_at dksX2_init_6 0 rfl rfl)
theorem dX2_init_144 : decode cX2_init 144 = .ok (.newarray .int, 2) := dk_188_10 (dk_at dksX2_init_6 2 rfl rfl)
theorem dX2_init_146 : decode cX2_init 146 = .ok (.putfield 63, 3) := dk_181 0 63 (dk_at dksX2_init_6 4 rfl rfl)
theorem dX2_init_149 : decode cX2_init 149 = .ok (.aload_n 0, 1) := dk_42 (dk_at dksX2_init_6 7 rfl rfl)
theorem dX2_init_150 : decode cX2_init 150 = .ok (.bipush 30, 2) := dk_16 30 (dk_at dksX2_init_6 8 rfl rfl)
theorem dX2_init_152 : decode cX2_init 152 = .ok (.newarray .int, 2) := dk_188_10 (dk_at dksX2_init_6 10 rfl rfl)
theorem dX2_init_154 : decode cX2_init 154 = .ok (.putfield 66, 3) := dk_181 0 66 (dk_at dksX2_init_6 12 rfl rfl)
theorem dX2_init_157 : decode cX2_init 157 = .ok (.aload_n 0, 1) := dk_42 (dk_at dksX2_init_6 15 rfl rfl)
theorem dX2_init_158 : decode cX2_init 158 = .ok (.bipush 6, 2) := dk_16 6 (dk_at dksX2_init_6 16 rfl rfl)
theorem dX2_init_160 : decode cX2_init 160 = .ok (.newarray .int, 2) := dk_188_10 (dk_at dksX2_init_6 18 rfl rfl)
theorem dX2_init_162 : decode cX2_init 162 = .ok (.putfield 69, 3) := dk_181 0 69 (dk_at dksX2_init_6 20 rfl rfl)
theorem dX2_init_165 : decode cX2_init 165 = .ok (.aload_n 0, 1) := dk_42 (dk_at dksX2_init_6 23 rfl rfl)
theorem dX2_init_166 : decode cX2_init 166 = .ok (.bipush 6, 2) := dk_16 6 (dk_at dksX2_init_7 0 rfl rfl)
theorem dX2_init_168 : decode cX2_init 168 = .ok (.newarray .int, 2) := dk_188_10 (dk_at dksX2_init_7 2 rfl rfl)
theorem dX2_init_170 : decode cX2_init 170 = .ok (.putfield 72, 3) := dk_181 0 72 (dk_at dksX2_init_7 4 rfl rfl)
theorem dX2_init_173 : decode cX2_init 173 = .ok (.aload_n 0, 1) := dk_42 (dk_at dksX2_init_7 7 rfl rfl)
theorem dX2_init_174 : decode cX2_init 174 = .ok (.bipush 6, 2) := dk_16 6 (dk_at dksX2_init_7 8 rfl rfl)
theorem dX2_init_176 : decode cX2_init 176 = .ok (.newarray .int, 2) := dk_188_10 (dk_at dksX2_init_7 10 rfl rfl)
theorem dX2_init_178 : decode cX2_init 178 = .ok (.putfield 75, 3) := dk_181 0 75 (dk_at dksX2_init_7 12 rfl rfl)
theorem dX2_init_181 : decode cX2_init 181 = .ok (.aload_n 0, 1) := dk_42 (dk_at dksX2_init_7 15 rfl rfl)
theorem dX2_init_182 : decode cX2_init 182 = .ok (.bipush 16, 2) := dk_16 16 (dk_at dksX2_init_7 16 rfl rfl)
theorem dX2_init_184 : decode cX2_init 184 = .ok (.newarray .boolean, 2) := dk_188_4 (dk_at dksX2_init_7 18 rfl rfl)
theorem dX2_init_186 : decode cX2_init 186 = .ok (.putfield 78, 3) := dk_181 0 78 (dk_at dksX2_init_7 20 rfl rfl)
theorem dX2_init_189 : decode cX2_init 189 = .ok (.return_, 1) := dk_177 (dk_at dksX2_init_7 23 rfl rfl)
abbrev cX2_thrown : ByteArray := prog_17_method_2_code
def yX2_thrown : MethodName := ⟨RX2, "thrown", "()I"⟩
theorem dX2_thrown_0 : decode cX2_thrown 0 = .ok (.aload_n 0, 1) := by decide +kernel
theorem dX2_thrown_1 : decode cX2_thrown 1 = .ok (.getfield 81, 3) := by decide +kernel
theorem dX2_thrown_4 : decode cX2_thrown 4 = .ok (.ireturn, 1) := by decide +kernel
abbrev cX2_letter : ByteArray := prog_17_method_7_code
def yX2_letter : MethodName := ⟨RX2, "letter", "(C)I"⟩
def dkwX2_letter_3 : List UInt8 := [180, 0, 96, 4, 96, 181, 0, 96, 42, 180, 0, 96, 172]
abbrev dktX2_letter_3 : List UInt8 := dkwX2_letter_3 ++ []
def dkwX2_letter_2 : List UInt8 := [167, 0, 4, 3, 182, 0, 99, 154, 0, 5, 3, 172, 42, 180, 0, 7, 42, 180, 0, 96, 27, 85, 42, 89]
abbrev dktX2_letter_2 : List UInt8 := dkwX2_letter_2 ++ dktX2_letter_3
def dkwX2_letter_1 : List UInt8 := [167, 0, 4, 3, 61, 42, 28, 154, 0, 7, 4, 167, 0, 17, 42, 180, 0, 96, 16, 40, 160, 0, 7, 5]
abbrev dktX2_letter_1 : List UInt8 := dkwX2_letter_1 ++ dktX2_letter_2
def dkwX2_letter_0 : List UInt8 := [27, 184, 0, 89, 2, 160, 0, 17, 27, 184, 0, 93, 2, 160, 0, 9, 27, 16, 41, 160, 0, 7, 4]
abbrev dktX2_letter_0 : List UInt8 := dkwX2_letter_0 ++ dktX2_letter_1
theorem dksX2_letter_0 : cX2_letter.data.toList.drop 0 = dktX2_letter_0 := by decide +kernel
theorem dksX2_letter_1 : cX2_letter.data.toList.drop 23 = dktX2_letter_1 := dk_seg dksX2_letter_0 23 rfl rfl
theorem dksX2_letter_2 : cX2_letter.data.toList.drop 47 = dktX2_letter_2 := dk_seg dksX2_letter_1 24 rfl rfl
theorem dksX2_letter_3 : cX2_letter.data.toList.drop 71 = dktX2_letter_3 := dk_seg dksX2_letter_2 24 rfl rfl
theorem dX2_letter_0 : decode cX2_letter 0 = .ok (.iload_n 1, 1) := dk_27 (dk_at dksX2_letter_0 0 rfl rfl)
theorem dX2_letter_1 : decode cX2_letter 1 = .ok (.invokestatic 89, 3) := dk_184 0 89 (dk_at dksX2_letter_0 1 rfl rfl)
theorem dX2_letter_4 : decode cX2_letter 4 = .ok (.iconst (-1), 1) := dk_2 (dk_at dksX2_letter_0 4 rfl rfl)
theorem dX2_letter_5 : decode cX2_letter 5 = .ok (.if_icmp .ne 17, 3) := dk_160 0 17 (dk_at dksX2_letter_0 5 rfl rfl)
theorem dX2_letter_8 : decode cX2_letter 8 = .ok (.iload_n 1, 1) := dk_27 (dk_at dksX2_letter_0 8 rfl rfl)
theorem dX2_letter_9 : decode cX2_letter 9 = .ok (.invokestatic 93, 3) := dk_184 0 93 (dk_at dksX2_letter_0 9 rfl rfl)
theorem dX2_letter_12 : decode cX2_letter 12 = .ok (.iconst (-1), 1) := dk_2 (dk_at dksX2_letter_0 12 rfl rfl)
theorem dX2_letter_13 : decode cX2_letter 13 = .ok (.if_icmp .ne 9, 3) := dk_160 0 9 (dk_at dksX2_letter_0 13 rfl rfl)
theorem dX2_letter_16 : decode cX2_letter 16 = .ok (.iload_n 1, 1) := dk_27 (dk_at dksX2_letter_0 16 rfl rfl)
theorem dX2_letter_17 : decode cX2_letter 17 = .ok (.bipush 41, 2) := dk_16 41 (dk_at dksX2_letter_0 17 rfl rfl)
theorem dX2_letter_19 : decode cX2_letter 19 = .ok (.if_icmp .ne 7, 3) := dk_160 0 7 (dk_at dksX2_letter_0 19 rfl rfl)
theorem dX2_letter_22 : decode cX2_letter 22 = .ok (.iconst 1, 1) := dk_4 (dk_at dksX2_letter_0 22 rfl rfl)
theorem dX2_letter_23 : decode cX2_letter 23 = .ok (.goto 4, 3) := dk_167 0 4 (dk_at dksX2_letter_1 0 rfl rfl)
theorem dX2_letter_26 : decode cX2_letter 26 = .ok (.iconst 0, 1) := dk_3 (dk_at dksX2_letter_1 3 rfl rfl)
theorem dX2_letter_27 : decode cX2_letter 27 = .ok (.istore_n 2, 1) := dk_61 (dk_at dksX2_letter_1 4 rfl rfl)
theorem dX2_letter_28 : decode cX2_letter 28 = .ok (.aload_n 0, 1) := dk_42 (dk_at dksX2_letter_1 5 rfl rfl)
theorem dX2_letter_29 : decode cX2_letter 29 = .ok (.iload_n 2, 1) := dk_28 (dk_at dksX2_letter_1 6 rfl rfl)
theorem dX2_letter_30 : decode cX2_letter 30 = .ok (.ifCond .ne 7, 3) := dk_154 0 7 (dk_at dksX2_letter_1 7 rfl rfl)
theorem dX2_letter_33 : decode cX2_letter 33 = .ok (.iconst 1, 1) := dk_4 (dk_at dksX2_letter_1 10 rfl rfl)
theorem dX2_letter_34 : decode cX2_letter 34 = .ok (.goto 17, 3) := dk_167 0 17 (dk_at dksX2_letter_1 11 rfl rfl)
theorem dX2_letter_37 : decode cX2_letter 37 = .ok (.aload_n 0, 1) := dk_42 (dk_at dksX2_letter_1 14 rfl rfl)
theorem dX2_letter_38 : decode cX2_letter 38 = .ok (.getfield 96, 3) := dk_180 0 96 (dk_at dksX2_letter_1 15 rfl rfl)
theorem dX2_letter_41 : decode cX2_letter 41 = .ok (.bipush 40, 2) := dk_16 40 (dk_at dksX2_letter_1 18 rfl rfl)
theorem dX2_letter_43 : decode cX2_letter 43 = .ok (.if_icmp .ne 7, 3) := dk_160 0 7 (dk_at dksX2_letter_1 20 rfl rfl)
theorem dX2_letter_46 : decode cX2_letter 46 = .ok (.iconst 2, 1) := dk_5 (dk_at dksX2_letter_1 23 rfl rfl)
theorem dX2_letter_47 : decode cX2_letter 47 = .ok (.goto 4, 3) := dk_167 0 4 (dk_at dksX2_letter_2 0 rfl rfl)
theorem dX2_letter_50 : decode cX2_letter 50 = .ok (.iconst 0, 1) := dk_3 (dk_at dksX2_letter_2 3 rfl rfl)
theorem dX2_letter_51 : decode cX2_letter 51 = .ok (.invokevirtual 99, 3) := dk_182 0 99 (dk_at dksX2_letter_2 4 rfl rfl)
theorem dX2_letter_54 : decode cX2_letter 54 = .ok (.ifCond .ne 5, 3) := dk_154 0 5 (dk_at dksX2_letter_2 7 rfl rfl)
theorem dX2_letter_57 : decode cX2_letter 57 = .ok (.iconst 0, 1) := dk_3 (dk_at dksX2_letter_2 10 rfl rfl)
theorem dX2_letter_58 : decode cX2_letter 58 = .ok (.ireturn, 1) := dk_172 (dk_at dksX2_letter_2 11 rfl rfl)
theorem dX2_letter_59 : decode cX2_letter 59 = .ok (.aload_n 0, 1) := dk_42 (dk_at dksX2_letter_2 12 rfl rfl)
theorem dX2_letter_60 : decode cX2_letter 60 = .ok (.getfield 7, 3) := dk_180 0 7 (dk_at dksX2_letter_2 13 rfl rfl)
theorem dX2_letter_63 : decode cX2_letter 63 = .ok (.aload_n 0, 1) := dk_42 (dk_at dksX2_letter_2 16 rfl rfl)
theorem dX2_letter_64 : decode cX2_letter 64 = .ok (.getfield 96, 3) := dk_180 0 96 (dk_at dksX2_letter_2 17 rfl rfl)
theorem dX2_letter_67 : decode cX2_letter 67 = .ok (.iload_n 1, 1) := dk_27 (dk_at dksX2_letter_2 20 rfl rfl)
theorem dX2_letter_68 : decode cX2_letter 68 = .ok (.castore, 1) := dk_85 (dk_at dksX2_letter_2 21 rfl rfl)
theorem dX2_letter_69 : decode cX2_letter 69 = .ok (.aload_n 0, 1) := dk_42 (dk_at dksX2_letter_2 22 rfl rfl)
theorem dX2_letter_70 : decode cX2_letter 70 = .ok (.dup, 1) := dk_89 (dk_at dksX2_letter_2 23 rfl rfl)
theorem dX2_letter_71 : decode cX2_letter 71 = .ok (.getfield 96, 3) := dk_180 0 96 (dk_at dksX2_letter_3 0 rfl rfl)
theorem dX2_letter_74 : decode cX2_letter 74 = .ok (.iconst 1, 1) := dk_4 (dk_at dksX2_letter_3 3 rfl rfl)
theorem dX2_letter_75 : decode cX2_letter 75 = .ok (.iadd, 1) := dk_96 (dk_at dksX2_letter_3 4 rfl rfl)
theorem dX2_letter_76 : decode cX2_letter 76 = .ok (.putfield 96, 3) := dk_181 0 96 (dk_at dksX2_letter_3 5 rfl rfl)
theorem dX2_letter_79 : decode cX2_letter 79 = .ok (.aload_n 0, 1) := dk_42 (dk_at dksX2_letter_3 8 rfl rfl)
theorem dX2_letter_80 : decode cX2_letter 80 = .ok (.getfield 96, 3) := dk_180 0 96 (dk_at dksX2_letter_3 9 rfl rfl)
theorem dX2_letter_83 : decode cX2_letter 83 = .ok (.ireturn, 1) := dk_172 (dk_at dksX2_letter_3 12 rfl rfl)
abbrev cX2_variableOf : ByteArray := prog_17_method_5_code
def yX2_variableOf : MethodName := ⟨RX2, "variableOf", "(C)I"⟩
def dkwX2_variableOf_0 : List UInt8 := [26, 16, 120, 16, 122, 184, 0, 85, 153, 0, 10, 26, 16, 120, 100, 167, 0, 4, 2, 172]
abbrev dktX2_variableOf_0 : List UInt8 := dkwX2_variableOf_0 ++ []
theorem dksX2_variableOf_0 : cX2_variableOf.data.toList.drop 0 = dktX2_variableOf_0 := by decide +kernel
theorem dX2_variableOf_0 : decode cX2_variableOf 0 = .ok (.iload_n 0, 1) := dk_26 (dk_at dksX2_variableOf_0 0 rfl rfl)
theorem dX2_variableOf_1 : decode cX2_variableOf 1 = .ok (.bipush 120, 2) := dk_16 120 (dk_at dksX2_variableOf_0 1 rfl rfl)
theorem dX2_variableOf_3 : decode cX2_variableOf 3 = .ok (.bipush 122, 2) := dk_16 122 (dk_at dksX2_variableOf_0 3 rfl rfl)
theorem dX2_variableOf_5 : decode cX2_variableOf 5 = .ok (.invokestatic 85, 3) := dk_184 0 85 (dk_at dksX2_variableOf_0 5 rfl rfl)
theorem dX2_variableOf_8 : decode cX2_variableOf 8 = .ok (.ifCond .eq 10, 3) := dk_153 0 10 (dk_at dksX2_variableOf_0 8 rfl rfl)
theorem dX2_variableOf_11 : decode cX2_variableOf 11 = .ok (.iload_n 0, 1) := dk_26 (dk_at dksX2_variableOf_0 11 rfl rfl)
theorem dX2_variableOf_12 : decode cX2_variableOf 12 = .ok (.bipush 120, 2) := dk_16 120 (dk_at dksX2_variableOf_0 12 rfl rfl)
theorem dX2_variableOf_14 : decode cX2_variableOf 14 = .ok (.isub, 1) := dk_100 (dk_at dksX2_variableOf_0 14 rfl rfl)
theorem dX2_variableOf_15 : decode cX2_variableOf 15 = .ok (.goto 4, 3) := dk_167 0 4 (dk_at dksX2_variableOf_0 15 rfl rfl)
theorem dX2_variableOf_18 : decode cX2_variableOf 18 = .ok (.iconst (-1), 1) := dk_2 (dk_at dksX2_variableOf_0 18 rfl rfl)
theorem dX2_variableOf_19 : decode cX2_variableOf 19 = .ok (.ireturn, 1) := dk_172 (dk_at dksX2_variableOf_0 19 rfl rfl)
abbrev cX2_in : ByteArray := prog_17_method_4_code
def yX2_in : MethodName := ⟨RX2, "in", "(III)Z"⟩
def dkwX2_in_0 : List UInt8 := [26, 27, 161, 0, 12, 26, 28, 163, 0, 7, 4, 167, 0, 4, 3, 172]
abbrev dktX2_in_0 : List UInt8 := dkwX2_in_0 ++ []
theorem dksX2_in_0 : cX2_in.data.toList.drop 0 = dktX2_in_0 := by decide +kernel
theorem dX2_in_0 : decode cX2_in 0 = .ok (.iload_n 0, 1) := dk_26 (dk_at dksX2_in_0 0 rfl rfl)
theorem dX2_in_1 : decode cX2_in 1 = .ok (.iload_n 1, 1) := dk_27 (dk_at dksX2_in_0 1 rfl rfl)
theorem dX2_in_2 : decode cX2_in 2 = .ok (.if_icmp .lt 12, 3) := dk_161 0 12 (dk_at dksX2_in_0 2 rfl rfl)
theorem dX2_in_5 : decode cX2_in 5 = .ok (.iload_n 0, 1) := dk_26 (dk_at dksX2_in_0 5 rfl rfl)
theorem dX2_in_6 : decode cX2_in 6 = .ok (.iload_n 2, 1) := dk_28 (dk_at dksX2_in_0 6 rfl rfl)
theorem dX2_in_7 : decode cX2_in 7 = .ok (.if_icmp .gt 7, 3) := dk_163 0 7 (dk_at dksX2_in_0 7 rfl rfl)
theorem dX2_in_10 : decode cX2_in 10 = .ok (.iconst 1, 1) := dk_4 (dk_at dksX2_in_0 10 rfl rfl)
theorem dX2_in_11 : decode cX2_in 11 = .ok (.goto 4, 3) := dk_167 0 4 (dk_at dksX2_in_0 11 rfl rfl)
theorem dX2_in_14 : decode cX2_in 14 = .ok (.iconst 0, 1) := dk_3 (dk_at dksX2_in_0 14 rfl rfl)
theorem dX2_in_15 : decode cX2_in 15 = .ok (.ireturn, 1) := dk_172 (dk_at dksX2_in_0 15 rfl rfl)
abbrev cX2_kindOf : ByteArray := prog_17_method_6_code
def yX2_kindOf : MethodName := ⟨RX2, "kindOf", "(C)I"⟩
def dkwX2_kindOf_3 : List UInt8 := [16, 10, 172, 2, 172]
abbrev dktX2_kindOf_3 : List UInt8 := dkwX2_kindOf_3 ++ []
def dkwX2_kindOf_2 : List UInt8 := [3, 172, 4, 172, 5, 172, 6, 172, 7, 172, 8, 172, 16, 6, 172, 16, 7, 172, 16, 8, 172, 16, 9, 172]
abbrev dktX2_kindOf_2 : List UInt8 := dkwX2_kindOf_2 ++ dktX2_kindOf_3
def dkwX2_kindOf_1 : List UInt8 := [171, 0, 0, 0, 0, 0, 126, 0, 0, 0, 11, 0, 0, 0, 33, 0, 0, 0, 103, 0, 0, 0, 38, 0, 0, 0, 105, 0, 0, 0, 40, 0, 0, 0, 123, 0, 0, 0, 60, 0, 0, 0, 99, 0, 0, 0, 61, 0, 0, 0, 101, 0, 0, 0, 62, 0, 0, 0, 109, 0, 0, 0, 65, 0, 0, 0, 111, 0, 0, 0, 69, 0, 0, 0, 114, 0, 0, 0, 97, 0, 0, 0, 117, 0, 0, 0, 101, 0, 0, 0, 120, 0, 0, 0, 124, 0, 0, 0, 107]
abbrev dktX2_kindOf_1 : List UInt8 := dkwX2_kindOf_1 ++ dktX2_kindOf_2
def dkwX2_kindOf_0 : List UInt8 := [26]
abbrev dktX2_kindOf_0 : List UInt8 := dkwX2_kindOf_0 ++ dktX2_kindOf_1
theorem dksX2_kindOf_0 : cX2_kindOf.data.toList.drop 0 = dktX2_kindOf_0 := by decide +kernel
theorem dksX2_kindOf_1 : cX2_kindOf.data.toList.drop 1 = dktX2_kindOf_1 := dk_seg dksX2_kindOf_0 1 rfl rfl
theorem dksX2_kindOf_2 : cX2_kindOf.data.toList.drop 100 = dktX2_kindOf_2 := dk_seg dksX2_kindOf_1 99 rfl rfl
theorem dksX2_kindOf_3 : cX2_kindOf.data.toList.drop 124 = dktX2_kindOf_3 := dk_seg dksX2_kindOf_2 24 rfl rfl
theorem dX2_kindOf_0 : decode cX2_kindOf 0 = .ok (.iload_n 0, 1) := dk_26 (dk_at dksX2_kindOf_0 0 rfl rfl)
theorem dX2_kindOf_1 : decode cX2_kindOf 1 = .ok (.lookupswitch 126 #[(33, 103), (38, 105), (40, 123), (60, 99), (61, 101), (62, 109), (65, 111), (69, 114), (97, 117), (101, 120), (124, 107)], 99) := by decide +kernel
theorem dX2_kindOf_100 : decode cX2_kindOf 100 = .ok (.iconst 0, 1) := dk_3 (dk_at dksX2_kindOf_2 0 rfl rfl)
theorem dX2_kindOf_101 : decode cX2_kindOf 101 = .ok (.ireturn, 1) := dk_172 (dk_at dksX2_kindOf_2 1 rfl rfl)
theorem dX2_kindOf_102 : decode cX2_kindOf 102 = .ok (.iconst 1, 1) := dk_4 (dk_at dksX2_kindOf_2 2 rfl rfl)
theorem dX2_kindOf_103 : decode cX2_kindOf 103 = .ok (.ireturn, 1) := dk_172 (dk_at dksX2_kindOf_2 3 rfl rfl)
theorem dX2_kindOf_104 : decode cX2_kindOf 104 = .ok (.iconst 2, 1) := dk_5 (dk_at dksX2_kindOf_2 4 rfl rfl)
theorem dX2_kindOf_105 : decode cX2_kindOf 105 = .ok (.ireturn, 1) := dk_172 (dk_at dksX2_kindOf_2 5 rfl rfl)
theorem dX2_kindOf_106 : decode cX2_kindOf 106 = .ok (.iconst 3, 1) := dk_6 (dk_at dksX2_kindOf_2 6 rfl rfl)
theorem dX2_kindOf_107 : decode cX2_kindOf 107 = .ok (.ireturn, 1) := dk_172 (dk_at dksX2_kindOf_2 7 rfl rfl)
theorem dX2_kindOf_108 : decode cX2_kindOf 108 = .ok (.iconst 4, 1) := dk_7 (dk_at dksX2_kindOf_2 8 rfl rfl)
theorem dX2_kindOf_109 : decode cX2_kindOf 109 = .ok (.ireturn, 1) := dk_172 (dk_at dksX2_kindOf_2 9 rfl rfl)
theorem dX2_kindOf_110 : decode cX2_kindOf 110 = .ok (.iconst 5, 1) := dk_8 (dk_at dksX2_kindOf_2 10 rfl rfl)
theorem dX2_kindOf_111 : decode cX2_kindOf 111 = .ok (.ireturn, 1) := dk_172 (dk_at dksX2_kindOf_2 11 rfl rfl)
theorem dX2_kindOf_112 : decode cX2_kindOf 112 = .ok (.bipush 6, 2) := dk_16 6 (dk_at dksX2_kindOf_2 12 rfl rfl)
theorem dX2_kindOf_114 : decode cX2_kindOf 114 = .ok (.ireturn, 1) := dk_172 (dk_at dksX2_kindOf_2 14 rfl rfl)
theorem dX2_kindOf_115 : decode cX2_kindOf 115 = .ok (.bipush 7, 2) := dk_16 7 (dk_at dksX2_kindOf_2 15 rfl rfl)
theorem dX2_kindOf_117 : decode cX2_kindOf 117 = .ok (.ireturn, 1) := dk_172 (dk_at dksX2_kindOf_2 17 rfl rfl)
theorem dX2_kindOf_118 : decode cX2_kindOf 118 = .ok (.bipush 8, 2) := dk_16 8 (dk_at dksX2_kindOf_2 18 rfl rfl)
theorem dX2_kindOf_120 : decode cX2_kindOf 120 = .ok (.ireturn, 1) := dk_172 (dk_at dksX2_kindOf_2 20 rfl rfl)
theorem dX2_kindOf_121 : decode cX2_kindOf 121 = .ok (.bipush 9, 2) := dk_16 9 (dk_at dksX2_kindOf_2 21 rfl rfl)
theorem dX2_kindOf_123 : decode cX2_kindOf 123 = .ok (.ireturn, 1) := dk_172 (dk_at dksX2_kindOf_2 23 rfl rfl)
theorem dX2_kindOf_124 : decode cX2_kindOf 124 = .ok (.bipush 10, 2) := dk_16 10 (dk_at dksX2_kindOf_3 0 rfl rfl)
theorem dX2_kindOf_126 : decode cX2_kindOf 126 = .ok (.ireturn, 1) := dk_172 (dk_at dksX2_kindOf_3 2 rfl rfl)
theorem dX2_kindOf_127 : decode cX2_kindOf 127 = .ok (.iconst (-1), 1) := dk_2 (dk_at dksX2_kindOf_3 3 rfl rfl)
theorem dX2_kindOf_128 : decode cX2_kindOf 128 = .ok (.ireturn, 1) := dk_172 (dk_at dksX2_kindOf_3 4 rfl rfl)
abbrev cX2_goesWell : ByteArray := prog_17_method_3_code
def yX2_goesWell : MethodName := ⟨RX2, "goesWell", "(I)Z"⟩
def dkwX2_goesWell_0 : List UInt8 := [42, 27, 181, 0, 81, 27, 154, 0, 7, 4, 167, 0, 4, 3, 172]
abbrev dktX2_goesWell_0 : List UInt8 := dkwX2_goesWell_0 ++ []
theorem dksX2_goesWell_0 : cX2_goesWell.data.toList.drop 0 = dktX2_goesWell_0 := by decide +kernel
theorem dX2_goesWell_0 : decode cX2_goesWell 0 = .ok (.aload_n 0, 1) := dk_42 (dk_at dksX2_goesWell_0 0 rfl rfl)
theorem dX2_goesWell_1 : decode cX2_goesWell 1 = .ok (.iload_n 1, 1) := dk_27 (dk_at dksX2_goesWell_0 1 rfl rfl)
theorem dX2_goesWell_2 : decode cX2_goesWell 2 = .ok (.putfield 81, 3) := dk_181 0 81 (dk_at dksX2_goesWell_0 2 rfl rfl)
theorem dX2_goesWell_5 : decode cX2_goesWell 5 = .ok (.iload_n 1, 1) := dk_27 (dk_at dksX2_goesWell_0 5 rfl rfl)
theorem dX2_goesWell_6 : decode cX2_goesWell 6 = .ok (.ifCond .ne 7, 3) := dk_154 0 7 (dk_at dksX2_goesWell_0 6 rfl rfl)
theorem dX2_goesWell_9 : decode cX2_goesWell 9 = .ok (.iconst 1, 1) := dk_4 (dk_at dksX2_goesWell_0 9 rfl rfl)
theorem dX2_goesWell_10 : decode cX2_goesWell 10 = .ok (.goto 4, 3) := dk_167 0 4 (dk_at dksX2_goesWell_0 10 rfl rfl)
theorem dX2_goesWell_13 : decode cX2_goesWell 13 = .ok (.iconst 0, 1) := dk_3 (dk_at dksX2_goesWell_0 13 rfl rfl)
theorem dX2_goesWell_14 : decode cX2_goesWell 14 = .ok (.ireturn, 1) := dk_172 (dk_at dksX2_goesWell_0 14 rfl rfl)
abbrev cX2_blank : ByteArray := prog_17_method_8_code
def yX2_blank : MethodName := ⟨RX2, "blank", "()I"⟩
def dkwX2_blank_0 : List UInt8 := [42, 3, 181, 0, 81, 42, 180, 0, 96, 60, 42, 3, 181, 0, 96, 27, 172]
abbrev dktX2_blank_0 : List UInt8 := dkwX2_blank_0 ++ []
theorem dksX2_blank_0 : cX2_blank.data.toList.drop 0 = dktX2_blank_0 := by decide +kernel
theorem dX2_blank_0 : decode cX2_blank 0 = .ok (.aload_n 0, 1) := dk_42 (dk_at dksX2_blank_0 0 rfl rfl)
theorem dX2_blank_1 : decode cX2_blank 1 = .ok (.iconst 0, 1) := dk_3 (dk_at dksX2_blank_0 1 rfl rfl)
theorem dX2_blank_2 : decode cX2_blank 2 = .ok (.putfield 81, 3) := dk_181 0 81 (dk_at dksX2_blank_0 2 rfl rfl)
theorem dX2_blank_5 : decode cX2_blank 5 = .ok (.aload_n 0, 1) := dk_42 (dk_at dksX2_blank_0 5 rfl rfl)
theorem dX2_blank_6 : decode cX2_blank 6 = .ok (.getfield 96, 3) := dk_180 0 96 (dk_at dksX2_blank_0 6 rfl rfl)
theorem dX2_blank_9 : decode cX2_blank 9 = .ok (.istore_n 1, 1) := dk_60 (dk_at dksX2_blank_0 9 rfl rfl)
theorem dX2_blank_10 : decode cX2_blank 10 = .ok (.aload_n 0, 1) := dk_42 (dk_at dksX2_blank_0 10 rfl rfl)
theorem dX2_blank_11 : decode cX2_blank 11 = .ok (.iconst 0, 1) := dk_3 (dk_at dksX2_blank_0 11 rfl rfl)
theorem dX2_blank_12 : decode cX2_blank 12 = .ok (.putfield 96, 3) := dk_181 0 96 (dk_at dksX2_blank_0 12 rfl rfl)
theorem dX2_blank_15 : decode cX2_blank 15 = .ok (.iload_n 1, 1) := dk_27 (dk_at dksX2_blank_0 15 rfl rfl)
theorem dX2_blank_16 : decode cX2_blank 16 = .ok (.ireturn, 1) := dk_172 (dk_at dksX2_blank_0 16 rfl rfl)
abbrev cX2_fault : ByteArray := prog_17_method_19_code
def yX2_fault : MethodName := ⟨RX2, "fault", "()I"⟩
def dkwX2_fault_0 : List UInt8 := [42, 3, 181, 0, 81, 42, 182, 0, 141, 172]
abbrev dktX2_fault_0 : List UInt8 := dkwX2_fault_0 ++ []
theorem dksX2_fault_0 : cX2_fault.data.toList.drop 0 = dktX2_fault_0 := by decide +kernel
theorem dX2_fault_0 : decode cX2_fault 0 = .ok (.aload_n 0, 1) := dk_42 (dk_at dksX2_fault_0 0 rfl rfl)
theorem dX2_fault_1 : decode cX2_fault 1 = .ok (.iconst 0, 1) := dk_3 (dk_at dksX2_fault_0 1 rfl rfl)
theorem dX2_fault_2 : decode cX2_fault 2 = .ok (.putfield 81, 3) := dk_181 0 81 (dk_at dksX2_fault_0 2 rfl rfl)
theorem dX2_fault_5 : decode cX2_fault 5 = .ok (.aload_n 0, 1) := dk_42 (dk_at dksX2_fault_0 5 rfl rfl)
theorem dX2_fault_6 : decode cX2_fault 6 = .ok (.invokevirtual 141, 3) := dk_182 0 141 (dk_at dksX2_fault_0 6 rfl rfl)
theorem dX2_fault_9 : decode cX2_fault 9 = .ok (.ireturn, 1) := dk_172 (dk_at dksX2_fault_0 9 rfl rfl)
abbrev cX2_read : ByteArray := prog_17_method_17_code
def yX2_read : MethodName := ⟨RX2, "read", "()I"⟩
def dkwX2_read_1 : List UInt8 := [162, 0, 22, 42, 42, 180, 0, 7, 27, 52, 182, 0, 138, 153, 0, 9, 132, 1, 1, 167, 255, 232, 27, 172]
abbrev dktX2_read_1 : List UInt8 := dkwX2_read_1 ++ []
def dkwX2_read_0 : List UInt8 := [42, 3, 181, 0, 103, 42, 3, 181, 0, 114, 42, 3, 181, 0, 121, 3, 60, 27, 42, 180, 0, 96]
abbrev dktX2_read_0 : List UInt8 := dkwX2_read_0 ++ dktX2_read_1
theorem dksX2_read_0 : cX2_read.data.toList.drop 0 = dktX2_read_0 := by decide +kernel
theorem dksX2_read_1 : cX2_read.data.toList.drop 22 = dktX2_read_1 := dk_seg dksX2_read_0 22 rfl rfl
theorem dX2_read_0 : decode cX2_read 0 = .ok (.aload_n 0, 1) := dk_42 (dk_at dksX2_read_0 0 rfl rfl)
theorem dX2_read_1 : decode cX2_read 1 = .ok (.iconst 0, 1) := dk_3 (dk_at dksX2_read_0 1 rfl rfl)
theorem dX2_read_2 : decode cX2_read 2 = .ok (.putfield 103, 3) := dk_181 0 103 (dk_at dksX2_read_0 2 rfl rfl)
theorem dX2_read_5 : decode cX2_read 5 = .ok (.aload_n 0, 1) := dk_42 (dk_at dksX2_read_0 5 rfl rfl)
theorem dX2_read_6 : decode cX2_read 6 = .ok (.iconst 0, 1) := dk_3 (dk_at dksX2_read_0 6 rfl rfl)
theorem dX2_read_7 : decode cX2_read 7 = .ok (.putfield 114, 3) := dk_181 0 114 (dk_at dksX2_read_0 7 rfl rfl)
theorem dX2_read_10 : decode cX2_read 10 = .ok (.aload_n 0, 1) := dk_42 (dk_at dksX2_read_0 10 rfl rfl)
theorem dX2_read_11 : decode cX2_read 11 = .ok (.iconst 0, 1) := dk_3 (dk_at dksX2_read_0 11 rfl rfl)
theorem dX2_read_12 : decode cX2_read 12 = .ok (.putfield 121, 3) := dk_181 0 121 (dk_at dksX2_read_0 12 rfl rfl)
theorem dX2_read_15 : decode cX2_read 15 = .ok (.iconst 0, 1) := dk_3 (dk_at dksX2_read_0 15 rfl rfl)
theorem dX2_read_16 : decode cX2_read 16 = .ok (.istore_n 1, 1) := dk_60 (dk_at dksX2_read_0 16 rfl rfl)
theorem dX2_read_17 : decode cX2_read 17 = .ok (.iload_n 1, 1) := dk_27 (dk_at dksX2_read_0 17 rfl rfl)
theorem dX2_read_18 : decode cX2_read 18 = .ok (.aload_n 0, 1) := dk_42 (dk_at dksX2_read_0 18 rfl rfl)
theorem dX2_read_19 : decode cX2_read 19 = .ok (.getfield 96, 3) := dk_180 0 96 (dk_at dksX2_read_0 19 rfl rfl)
theorem dX2_read_22 : decode cX2_read 22 = .ok (.if_icmp .ge 22, 3) := dk_162 0 22 (dk_at dksX2_read_1 0 rfl rfl)
theorem dX2_read_25 : decode cX2_read 25 = .ok (.aload_n 0, 1) := dk_42 (dk_at dksX2_read_1 3 rfl rfl)
theorem dX2_read_26 : decode cX2_read 26 = .ok (.aload_n 0, 1) := dk_42 (dk_at dksX2_read_1 4 rfl rfl)
theorem dX2_read_27 : decode cX2_read 27 = .ok (.getfield 7, 3) := dk_180 0 7 (dk_at dksX2_read_1 5 rfl rfl)
theorem dX2_read_30 : decode cX2_read 30 = .ok (.iload_n 1, 1) := dk_27 (dk_at dksX2_read_1 8 rfl rfl)
theorem dX2_read_31 : decode cX2_read 31 = .ok (.caload, 1) := dk_52 (dk_at dksX2_read_1 9 rfl rfl)
theorem dX2_read_32 : decode cX2_read 32 = .ok (.invokevirtual 138, 3) := dk_182 0 138 (dk_at dksX2_read_1 10 rfl rfl)
theorem dX2_read_35 : decode cX2_read 35 = .ok (.ifCond .eq 9, 3) := dk_153 0 9 (dk_at dksX2_read_1 13 rfl rfl)
theorem dX2_read_38 : decode cX2_read 38 = .ok (.iinc 1 1, 3) := dk_132 1 1 (dk_at dksX2_read_1 16 rfl rfl)
theorem dX2_read_41 : decode cX2_read 41 = .ok (.goto (-24), 3) := dk_167 255 232 (dk_at dksX2_read_1 19 rfl rfl)
theorem dX2_read_44 : decode cX2_read 44 = .ok (.iload_n 1, 1) := dk_27 (dk_at dksX2_read_1 22 rfl rfl)
theorem dX2_read_45 : decode cX2_read 45 = .ok (.ireturn, 1) := dk_172 (dk_at dksX2_read_1 23 rfl rfl)
abbrev cX2_goesOn : ByteArray := prog_17_method_16_code
def yX2_goesOn : MethodName := ⟨RX2, "goesOn", "(C)Z"⟩
def dkwX2_goesOn_7 : List UInt8 := [160, 0, 7, 4, 167, 0, 4, 3, 172, 3, 172, 42, 27, 182, 0, 135, 172]
abbrev dktX2_goesOn_7 : List UInt8 := dkwX2_goesOn_7 ++ []
def dkwX2_goesOn_6 : List UInt8 := [180, 0, 114, 46, 42, 180, 0, 44, 42, 180, 0, 114, 46, 2, 2, 182, 0, 117, 182, 0, 128, 27, 16, 41]
abbrev dktX2_goesOn_6 : List UInt8 := dkwX2_goesOn_6 ++ dktX2_goesOn_7
def dkwX2_goesOn_5 : List UInt8 := [180, 0, 114, 4, 100, 181, 0, 114, 42, 42, 42, 180, 0, 38, 42, 180, 0, 114, 46, 42, 180, 0, 41, 42]
abbrev dktX2_goesOn_5 : List UInt8 := dkwX2_goesOn_5 ++ dktX2_goesOn_6
def dkwX2_goesOn_4 : List UInt8 := [28, 79, 42, 3, 181, 0, 121, 28, 6, 8, 184, 0, 85, 172, 27, 16, 41, 160, 0, 50, 42, 89]
abbrev dktX2_goesOn_4 : List UInt8 := dkwX2_goesOn_4 ++ dktX2_goesOn_5
def dkwX2_goesOn_3 : List UInt8 := [153, 0, 8, 28, 4, 160, 0, 7, 4, 167, 0, 4, 3, 172, 42, 180, 0, 38, 42, 180, 0, 114, 4, 100]
abbrev dktX2_goesOn_3 : List UInt8 := dkwX2_goesOn_3 ++ dktX2_goesOn_4
def dkwX2_goesOn_2 : List UInt8 := [42, 27, 182, 0, 131, 172, 42, 180, 0, 38, 42, 180, 0, 114, 4, 100, 28, 79, 42, 5, 181, 0, 121, 28]
abbrev dktX2_goesOn_2 : List UInt8 := dkwX2_goesOn_2 ++ dktX2_goesOn_3
def dkwX2_goesOn_1 : List UInt8 := [170, 0, 0, 0, 0, 0, 180, 0, 0, 0, 0, 0, 0, 0, 8, 0, 0, 0, 51, 0, 0, 0, 57, 0, 0, 0, 180, 0, 0, 0, 180, 0, 0, 0, 180, 0, 0, 0, 180, 0, 0, 0, 89, 0, 0, 0, 113, 0, 0, 0, 178]
abbrev dktX2_goesOn_1 : List UInt8 := dkwX2_goesOn_1 ++ dktX2_goesOn_2
def dkwX2_goesOn_0 : List UInt8 := [27, 184, 0, 93, 61, 42, 180, 0, 121]
abbrev dktX2_goesOn_0 : List UInt8 := dkwX2_goesOn_0 ++ dktX2_goesOn_1
theorem dksX2_goesOn_0 : cX2_goesOn.data.toList.drop 0 = dktX2_goesOn_0 := by decide +kernel
theorem dksX2_goesOn_1 : cX2_goesOn.data.toList.drop 9 = dktX2_goesOn_1 := dk_seg dksX2_goesOn_0 9 rfl rfl
theorem dksX2_goesOn_2 : cX2_goesOn.data.toList.drop 60 = dktX2_goesOn_2 := dk_seg dksX2_goesOn_1 51 rfl rfl
theorem dksX2_goesOn_3 : cX2_goesOn.data.toList.drop 84 = dktX2_goesOn_3 := dk_seg dksX2_goesOn_2 24 rfl rfl
theorem dksX2_goesOn_4 : cX2_goesOn.data.toList.drop 108 = dktX2_goesOn_4 := dk_seg dksX2_goesOn_3 24 rfl rfl
theorem dksX2_goesOn_5 : cX2_goesOn.data.toList.drop 130 = dktX2_goesOn_5 := dk_seg dksX2_goesOn_4 22 rfl rfl
theorem dksX2_goesOn_6 : cX2_goesOn.data.toList.drop 154 = dktX2_goesOn_6 := dk_seg dksX2_goesOn_5 24 rfl rfl
theorem dksX2_goesOn_7 : cX2_goesOn.data.toList.drop 178 = dktX2_goesOn_7 := dk_seg dksX2_goesOn_6 24 rfl rfl
theorem dX2_goesOn_0 : decode cX2_goesOn 0 = .ok (.iload_n 1, 1) := dk_27 (dk_at dksX2_goesOn_0 0 rfl rfl)
theorem dX2_goesOn_1 : decode cX2_goesOn 1 = .ok (.invokestatic 93, 3) := dk_184 0 93 (dk_at dksX2_goesOn_0 1 rfl rfl)
theorem dX2_goesOn_4 : decode cX2_goesOn 4 = .ok (.istore_n 2, 1) := dk_61 (dk_at dksX2_goesOn_0 4 rfl rfl)
theorem dX2_goesOn_5 : decode cX2_goesOn 5 = .ok (.aload_n 0, 1) := dk_42 (dk_at dksX2_goesOn_0 5 rfl rfl)
theorem dX2_goesOn_6 : decode cX2_goesOn 6 = .ok (.getfield 121, 3) := dk_180 0 121 (dk_at dksX2_goesOn_0 6 rfl rfl)
theorem dX2_goesOn_9 : decode cX2_goesOn 9 = .ok (.tableswitch 180 0 8 #[51, 57, 180, 180, 180, 180, 89, 113, 178], 51) := by decide +kernel
theorem dX2_goesOn_60 : decode cX2_goesOn 60 = .ok (.aload_n 0, 1) := dk_42 (dk_at dksX2_goesOn_2 0 rfl rfl)
theorem dX2_goesOn_61 : decode cX2_goesOn 61 = .ok (.iload_n 1, 1) := dk_27 (dk_at dksX2_goesOn_2 1 rfl rfl)
theorem dX2_goesOn_62 : decode cX2_goesOn 62 = .ok (.invokevirtual 131, 3) := dk_182 0 131 (dk_at dksX2_goesOn_2 2 rfl rfl)
theorem dX2_goesOn_65 : decode cX2_goesOn 65 = .ok (.ireturn, 1) := dk_172 (dk_at dksX2_goesOn_2 5 rfl rfl)
theorem dX2_goesOn_66 : decode cX2_goesOn 66 = .ok (.aload_n 0, 1) := dk_42 (dk_at dksX2_goesOn_2 6 rfl rfl)
theorem dX2_goesOn_67 : decode cX2_goesOn 67 = .ok (.getfield 38, 3) := dk_180 0 38 (dk_at dksX2_goesOn_2 7 rfl rfl)
theorem dX2_goesOn_70 : decode cX2_goesOn 70 = .ok (.aload_n 0, 1) := dk_42 (dk_at dksX2_goesOn_2 10 rfl rfl)
theorem dX2_goesOn_71 : decode cX2_goesOn 71 = .ok (.getfield 114, 3) := dk_180 0 114 (dk_at dksX2_goesOn_2 11 rfl rfl)
theorem dX2_goesOn_74 : decode cX2_goesOn 74 = .ok (.iconst 1, 1) := dk_4 (dk_at dksX2_goesOn_2 14 rfl rfl)
theorem dX2_goesOn_75 : decode cX2_goesOn 75 = .ok (.isub, 1) := dk_100 (dk_at dksX2_goesOn_2 15 rfl rfl)
theorem dX2_goesOn_76 : decode cX2_goesOn 76 = .ok (.iload_n 2, 1) := dk_28 (dk_at dksX2_goesOn_2 16 rfl rfl)
theorem dX2_goesOn_77 : decode cX2_goesOn 77 = .ok (.iastore, 1) := dk_79 (dk_at dksX2_goesOn_2 17 rfl rfl)
theorem dX2_goesOn_78 : decode cX2_goesOn 78 = .ok (.aload_n 0, 1) := dk_42 (dk_at dksX2_goesOn_2 18 rfl rfl)
theorem dX2_goesOn_79 : decode cX2_goesOn 79 = .ok (.iconst 2, 1) := dk_5 (dk_at dksX2_goesOn_2 19 rfl rfl)
theorem dX2_goesOn_80 : decode cX2_goesOn 80 = .ok (.putfield 121, 3) := dk_181 0 121 (dk_at dksX2_goesOn_2 20 rfl rfl)
theorem dX2_goesOn_83 : decode cX2_goesOn 83 = .ok (.iload_n 2, 1) := dk_28 (dk_at dksX2_goesOn_2 23 rfl rfl)
theorem dX2_goesOn_84 : decode cX2_goesOn 84 = .ok (.ifCond .eq 8, 3) := dk_153 0 8 (dk_at dksX2_goesOn_3 0 rfl rfl)
theorem dX2_goesOn_87 : decode cX2_goesOn 87 = .ok (.iload_n 2, 1) := dk_28 (dk_at dksX2_goesOn_3 3 rfl rfl)
theorem dX2_goesOn_88 : decode cX2_goesOn 88 = .ok (.iconst 1, 1) := dk_4 (dk_at dksX2_goesOn_3 4 rfl rfl)
theorem dX2_goesOn_89 : decode cX2_goesOn 89 = .ok (.if_icmp .ne 7, 3) := dk_160 0 7 (dk_at dksX2_goesOn_3 5 rfl rfl)
theorem dX2_goesOn_92 : decode cX2_goesOn 92 = .ok (.iconst 1, 1) := dk_4 (dk_at dksX2_goesOn_3 8 rfl rfl)
theorem dX2_goesOn_93 : decode cX2_goesOn 93 = .ok (.goto 4, 3) := dk_167 0 4 (dk_at dksX2_goesOn_3 9 rfl rfl)
theorem dX2_goesOn_96 : decode cX2_goesOn 96 = .ok (.iconst 0, 1) := dk_3 (dk_at dksX2_goesOn_3 12 rfl rfl)
theorem dX2_goesOn_97 : decode cX2_goesOn 97 = .ok (.ireturn, 1) := dk_172 (dk_at dksX2_goesOn_3 13 rfl rfl)
theorem dX2_goesOn_98 : decode cX2_goesOn 98 = .ok (.aload_n 0, 1) := dk_42 (dk_at dksX2_goesOn_3 14 rfl rfl)
theorem dX2_goesOn_99 : decode cX2_goesOn 99 = .ok (.getfield 38, 3) := dk_180 0 38 (dk_at dksX2_goesOn_3 15 rfl rfl)
theorem dX2_goesOn_102 : decode cX2_goesOn 102 = .ok (.aload_n 0, 1) := dk_42 (dk_at dksX2_goesOn_3 18 rfl rfl)
theorem dX2_goesOn_103 : decode cX2_goesOn 103 = .ok (.getfield 114, 3) := dk_180 0 114 (dk_at dksX2_goesOn_3 19 rfl rfl)
theorem dX2_goesOn_106 : decode cX2_goesOn 106 = .ok (.iconst 1, 1) := dk_4 (dk_at dksX2_goesOn_3 22 rfl rfl)
theorem dX2_goesOn_107 : decode cX2_goesOn 107 = .ok (.isub, 1) := dk_100 (dk_at dksX2_goesOn_3 23 rfl rfl)
theorem dX2_goesOn_108 : decode cX2_goesOn 108 = .ok (.iload_n 2, 1) := dk_28 (dk_at dksX2_goesOn_4 0 rfl rfl)
theorem dX2_goesOn_109 : decode cX2_goesOn 109 = .ok (.iastore, 1) := dk_79 (dk_at dksX2_goesOn_4 1 rfl rfl)
theorem dX2_goesOn_110 : decode cX2_goesOn 110 = .ok (.aload_n 0, 1) := dk_42 (dk_at dksX2_goesOn_4 2 rfl rfl)
theorem dX2_goesOn_111 : decode cX2_goesOn 111 = .ok (.iconst 0, 1) := dk_3 (dk_at dksX2_goesOn_4 3 rfl rfl)
theorem dX2_goesOn_112 : decode cX2_goesOn 112 = .ok (.putfield 121, 3) := dk_181 0 121 (dk_at dksX2_goesOn_4 4 rfl rfl)
theorem dX2_goesOn_115 : decode cX2_goesOn 115 = .ok (.iload_n 2, 1) := dk_28 (dk_at dksX2_goesOn_4 7 rfl rfl)
theorem dX2_goesOn_116 : decode cX2_goesOn 116 = .ok (.iconst 3, 1) := dk_6 (dk_at dksX2_goesOn_4 8 rfl rfl)
theorem dX2_goesOn_117 : decode cX2_goesOn 117 = .ok (.iconst 5, 1) := dk_8 (dk_at dksX2_goesOn_4 9 rfl rfl)
theorem dX2_goesOn_118 : decode cX2_goesOn 118 = .ok (.invokestatic 85, 3) := dk_184 0 85 (dk_at dksX2_goesOn_4 10 rfl rfl)
theorem dX2_goesOn_121 : decode cX2_goesOn 121 = .ok (.ireturn, 1) := dk_172 (dk_at dksX2_goesOn_4 13 rfl rfl)
theorem dX2_goesOn_122 : decode cX2_goesOn 122 = .ok (.iload_n 1, 1) := dk_27 (dk_at dksX2_goesOn_4 14 rfl rfl)
theorem dX2_goesOn_123 : decode cX2_goesOn 123 = .ok (.bipush 41, 2) := dk_16 41 (dk_at dksX2_goesOn_4 15 rfl rfl)
theorem dX2_goesOn_125 : decode cX2_goesOn 125 = .ok (.if_icmp .ne 50, 3) := dk_160 0 50 (dk_at dksX2_goesOn_4 17 rfl rfl)
theorem dX2_goesOn_128 : decode cX2_goesOn 128 = .ok (.aload_n 0, 1) := dk_42 (dk_at dksX2_goesOn_4 20 rfl rfl)
theorem dX2_goesOn_129 : decode cX2_goesOn 129 = .ok (.dup, 1) := dk_89 (dk_at dksX2_goesOn_4 21 rfl rfl)
theorem dX2_goesOn_130 : decode cX2_goesOn 130 = .ok (.getfield 114, 3) := dk_180 0 114 (dk_at dksX2_goesOn_5 0 rfl rfl)
theorem dX2_goesOn_133 : decode cX2_goesOn 133 = .ok (.iconst 1, 1) := dk_4 (dk_at dksX2_goesOn_5 3 rfl rfl)
theorem dX2_goesOn_134 : decode cX2_goesOn 134 = .ok (.isub, 1) := dk_100 (dk_at dksX2_goesOn_5 4 rfl rfl)
theorem dX2_goesOn_135 : decode cX2_goesOn 135 = .ok (.putfield 114, 3) := dk_181 0 114 (dk_at dksX2_goesOn_5 5 rfl rfl)
theorem dX2_goesOn_138 : decode cX2_goesOn 138 = .ok (.aload_n 0, 1) := dk_42 (dk_at dksX2_goesOn_5 8 rfl rfl)
theorem dX2_goesOn_139 : decode cX2_goesOn 139 = .ok (.aload_n 0, 1) := dk_42 (dk_at dksX2_goesOn_5 9 rfl rfl)
theorem dX2_goesOn_140 : decode cX2_goesOn 140 = .ok (.aload_n 0, 1) := dk_42 (dk_at dksX2_goesOn_5 10 rfl rfl)
theorem dX2_goesOn_141 : decode cX2_goesOn 141 = .ok (.getfield 38, 3) := dk_180 0 38 (dk_at dksX2_goesOn_5 11 rfl rfl)
theorem dX2_goesOn_144 : decode cX2_goesOn 144 = .ok (.aload_n 0, 1) := dk_42 (dk_at dksX2_goesOn_5 14 rfl rfl)
theorem dX2_goesOn_145 : decode cX2_goesOn 145 = .ok (.getfield 114, 3) := dk_180 0 114 (dk_at dksX2_goesOn_5 15 rfl rfl)
theorem dX2_goesOn_148 : decode cX2_goesOn 148 = .ok (.iaload, 1) := dk_46 (dk_at dksX2_goesOn_5 18 rfl rfl)
theorem dX2_goesOn_149 : decode cX2_goesOn 149 = .ok (.aload_n 0, 1) := dk_42 (dk_at dksX2_goesOn_5 19 rfl rfl)
theorem dX2_goesOn_150 : decode cX2_goesOn 150 = .ok (.getfield 41, 3) := dk_180 0 41 (dk_at dksX2_goesOn_5 20 rfl rfl)
theorem dX2_goesOn_153 : decode cX2_goesOn 153 = .ok (.aload_n 0, 1) := dk_42 (dk_at dksX2_goesOn_5 23 rfl rfl)
theorem dX2_goesOn_154 : decode cX2_goesOn 154 = .ok (.getfield 114, 3) := dk_180 0 114 (dk_at dksX2_goesOn_6 0 rfl rfl)
theorem dX2_goesOn_157 : decode cX2_goesOn 157 = .ok (.iaload, 1) := dk_46 (dk_at dksX2_goesOn_6 3 rfl rfl)
theorem dX2_goesOn_158 : decode cX2_goesOn 158 = .ok (.aload_n 0, 1) := dk_42 (dk_at dksX2_goesOn_6 4 rfl rfl)
theorem dX2_goesOn_159 : decode cX2_goesOn 159 = .ok (.getfield 44, 3) := dk_180 0 44 (dk_at dksX2_goesOn_6 5 rfl rfl)
theorem dX2_goesOn_162 : decode cX2_goesOn 162 = .ok (.aload_n 0, 1) := dk_42 (dk_at dksX2_goesOn_6 8 rfl rfl)
theorem dX2_goesOn_163 : decode cX2_goesOn 163 = .ok (.getfield 114, 3) := dk_180 0 114 (dk_at dksX2_goesOn_6 9 rfl rfl)
theorem dX2_goesOn_166 : decode cX2_goesOn 166 = .ok (.iaload, 1) := dk_46 (dk_at dksX2_goesOn_6 12 rfl rfl)
theorem dX2_goesOn_167 : decode cX2_goesOn 167 = .ok (.iconst (-1), 1) := dk_2 (dk_at dksX2_goesOn_6 13 rfl rfl)
theorem dX2_goesOn_168 : decode cX2_goesOn 168 = .ok (.iconst (-1), 1) := dk_2 (dk_at dksX2_goesOn_6 14 rfl rfl)
theorem dX2_goesOn_169 : decode cX2_goesOn 169 = .ok (.invokevirtual 117, 3) := dk_182 0 117 (dk_at dksX2_goesOn_6 15 rfl rfl)
theorem dX2_goesOn_172 : decode cX2_goesOn 172 = .ok (.invokevirtual 128, 3) := dk_182 0 128 (dk_at dksX2_goesOn_6 18 rfl rfl)
theorem dX2_goesOn_175 : decode cX2_goesOn 175 = .ok (.iload_n 1, 1) := dk_27 (dk_at dksX2_goesOn_6 21 rfl rfl)
theorem dX2_goesOn_176 : decode cX2_goesOn 176 = .ok (.bipush 41, 2) := dk_16 41 (dk_at dksX2_goesOn_6 22 rfl rfl)
theorem dX2_goesOn_178 : decode cX2_goesOn 178 = .ok (.if_icmp .ne 7, 3) := dk_160 0 7 (dk_at dksX2_goesOn_7 0 rfl rfl)
theorem dX2_goesOn_181 : decode cX2_goesOn 181 = .ok (.iconst 1, 1) := dk_4 (dk_at dksX2_goesOn_7 3 rfl rfl)
theorem dX2_goesOn_182 : decode cX2_goesOn 182 = .ok (.goto 4, 3) := dk_167 0 4 (dk_at dksX2_goesOn_7 4 rfl rfl)
theorem dX2_goesOn_185 : decode cX2_goesOn 185 = .ok (.iconst 0, 1) := dk_3 (dk_at dksX2_goesOn_7 7 rfl rfl)
theorem dX2_goesOn_186 : decode cX2_goesOn 186 = .ok (.ireturn, 1) := dk_172 (dk_at dksX2_goesOn_7 8 rfl rfl)
theorem dX2_goesOn_187 : decode cX2_goesOn 187 = .ok (.iconst 0, 1) := dk_3 (dk_at dksX2_goesOn_7 9 rfl rfl)
theorem dX2_goesOn_188 : decode cX2_goesOn 188 = .ok (.ireturn, 1) := dk_172 (dk_at dksX2_goesOn_7 10 rfl rfl)
theorem dX2_goesOn_189 : decode cX2_goesOn 189 = .ok (.aload_n 0, 1) := dk_42 (dk_at dksX2_goesOn_7 11 rfl rfl)
theorem dX2_goesOn_190 : decode cX2_goesOn 190 = .ok (.iload_n 1, 1) := dk_27 (dk_at dksX2_goesOn_7 12 rfl rfl)
theorem dX2_goesOn_191 : decode cX2_goesOn 191 = .ok (.invokevirtual 135, 3) := dk_182 0 135 (dk_at dksX2_goesOn_7 13 rfl rfl)
theorem dX2_goesOn_194 : decode cX2_goesOn 194 = .ok (.ireturn, 1) := dk_172 (dk_at dksX2_goesOn_7 16 rfl rfl)
abbrev cX2_startsWith : ByteArray := prog_17_method_14_code
def yX2_startsWith : MethodName := ⟨RX2, "startsWith", "(C)Z"⟩
def dkwX2_startsWith_3 : List UInt8 := [42, 28, 16, 8, 162, 0, 7, 6, 167, 0, 4, 7, 181, 0, 121, 167, 0, 5, 3, 172, 4, 172]
abbrev dktX2_startsWith_3 : List UInt8 := dkwX2_startsWith_3 ++ []
def dkwX2_startsWith_2 : List UInt8 := [182, 0, 124, 167, 0, 41, 28, 16, 6, 16, 9, 184, 0, 85, 153, 0, 28, 42, 28, 2, 2, 182, 0, 124]
abbrev dktX2_startsWith_2 : List UInt8 := dkwX2_startsWith_2 ++ dktX2_startsWith_3
def dkwX2_startsWith_1 : List UInt8 := [4, 181, 0, 121, 167, 0, 62, 28, 5, 159, 0, 9, 28, 16, 10, 160, 0, 13, 42, 28, 2, 2]
abbrev dktX2_startsWith_1 : List UInt8 := dkwX2_startsWith_1 ++ dktX2_startsWith_2
def dkwX2_startsWith_0 : List UInt8 := [27, 184, 0, 93, 61, 27, 184, 0, 89, 2, 159, 0, 21, 42, 3, 27, 184, 0, 89, 2, 182, 0, 124, 42]
abbrev dktX2_startsWith_0 : List UInt8 := dkwX2_startsWith_0 ++ dktX2_startsWith_1
theorem dksX2_startsWith_0 : cX2_startsWith.data.toList.drop 0 = dktX2_startsWith_0 := by decide +kernel
theorem dksX2_startsWith_1 : cX2_startsWith.data.toList.drop 24 = dktX2_startsWith_1 := dk_seg dksX2_startsWith_0 24 rfl rfl
theorem dksX2_startsWith_2 : cX2_startsWith.data.toList.drop 46 = dktX2_startsWith_2 := dk_seg dksX2_startsWith_1 22 rfl rfl
theorem dksX2_startsWith_3 : cX2_startsWith.data.toList.drop 70 = dktX2_startsWith_3 := dk_seg dksX2_startsWith_2 24 rfl rfl
theorem dX2_startsWith_0 : decode cX2_startsWith 0 = .ok (.iload_n 1, 1) := dk_27 (dk_at dksX2_startsWith_0 0 rfl rfl)
theorem dX2_startsWith_1 : decode cX2_startsWith 1 = .ok (.invokestatic 93, 3) := dk_184 0 93 (dk_at dksX2_startsWith_0 1 rfl rfl)
theorem dX2_startsWith_4 : decode cX2_startsWith 4 = .ok (.istore_n 2, 1) := dk_61 (dk_at dksX2_startsWith_0 4 rfl rfl)
theorem dX2_startsWith_5 : decode cX2_startsWith 5 = .ok (.iload_n 1, 1) := dk_27 (dk_at dksX2_startsWith_0 5 rfl rfl)
theorem dX2_startsWith_6 : decode cX2_startsWith 6 = .ok (.invokestatic 89, 3) := dk_184 0 89 (dk_at dksX2_startsWith_0 6 rfl rfl)
theorem dX2_startsWith_9 : decode cX2_startsWith 9 = .ok (.iconst (-1), 1) := dk_2 (dk_at dksX2_startsWith_0 9 rfl rfl)
theorem dX2_startsWith_10 : decode cX2_startsWith 10 = .ok (.if_icmp .eq 21, 3) := dk_159 0 21 (dk_at dksX2_startsWith_0 10 rfl rfl)
theorem dX2_startsWith_13 : decode cX2_startsWith 13 = .ok (.aload_n 0, 1) := dk_42 (dk_at dksX2_startsWith_0 13 rfl rfl)
theorem dX2_startsWith_14 : decode cX2_startsWith 14 = .ok (.iconst 0, 1) := dk_3 (dk_at dksX2_startsWith_0 14 rfl rfl)
theorem dX2_startsWith_15 : decode cX2_startsWith 15 = .ok (.iload_n 1, 1) := dk_27 (dk_at dksX2_startsWith_0 15 rfl rfl)
theorem dX2_startsWith_16 : decode cX2_startsWith 16 = .ok (.invokestatic 89, 3) := dk_184 0 89 (dk_at dksX2_startsWith_0 16 rfl rfl)
theorem dX2_startsWith_19 : decode cX2_startsWith 19 = .ok (.iconst (-1), 1) := dk_2 (dk_at dksX2_startsWith_0 19 rfl rfl)
theorem dX2_startsWith_20 : decode cX2_startsWith 20 = .ok (.invokevirtual 124, 3) := dk_182 0 124 (dk_at dksX2_startsWith_0 20 rfl rfl)
theorem dX2_startsWith_23 : decode cX2_startsWith 23 = .ok (.aload_n 0, 1) := dk_42 (dk_at dksX2_startsWith_0 23 rfl rfl)
theorem dX2_startsWith_24 : decode cX2_startsWith 24 = .ok (.iconst 1, 1) := dk_4 (dk_at dksX2_startsWith_1 0 rfl rfl)
theorem dX2_startsWith_25 : decode cX2_startsWith 25 = .ok (.putfield 121, 3) := dk_181 0 121 (dk_at dksX2_startsWith_1 1 rfl rfl)
theorem dX2_startsWith_28 : decode cX2_startsWith 28 = .ok (.goto 62, 3) := dk_167 0 62 (dk_at dksX2_startsWith_1 4 rfl rfl)
theorem dX2_startsWith_31 : decode cX2_startsWith 31 = .ok (.iload_n 2, 1) := dk_28 (dk_at dksX2_startsWith_1 7 rfl rfl)
theorem dX2_startsWith_32 : decode cX2_startsWith 32 = .ok (.iconst 2, 1) := dk_5 (dk_at dksX2_startsWith_1 8 rfl rfl)
theorem dX2_startsWith_33 : decode cX2_startsWith 33 = .ok (.if_icmp .eq 9, 3) := dk_159 0 9 (dk_at dksX2_startsWith_1 9 rfl rfl)
theorem dX2_startsWith_36 : decode cX2_startsWith 36 = .ok (.iload_n 2, 1) := dk_28 (dk_at dksX2_startsWith_1 12 rfl rfl)
theorem dX2_startsWith_37 : decode cX2_startsWith 37 = .ok (.bipush 10, 2) := dk_16 10 (dk_at dksX2_startsWith_1 13 rfl rfl)
theorem dX2_startsWith_39 : decode cX2_startsWith 39 = .ok (.if_icmp .ne 13, 3) := dk_160 0 13 (dk_at dksX2_startsWith_1 15 rfl rfl)
theorem dX2_startsWith_42 : decode cX2_startsWith 42 = .ok (.aload_n 0, 1) := dk_42 (dk_at dksX2_startsWith_1 18 rfl rfl)
theorem dX2_startsWith_43 : decode cX2_startsWith 43 = .ok (.iload_n 2, 1) := dk_28 (dk_at dksX2_startsWith_1 19 rfl rfl)
theorem dX2_startsWith_44 : decode cX2_startsWith 44 = .ok (.iconst (-1), 1) := dk_2 (dk_at dksX2_startsWith_1 20 rfl rfl)
theorem dX2_startsWith_45 : decode cX2_startsWith 45 = .ok (.iconst (-1), 1) := dk_2 (dk_at dksX2_startsWith_1 21 rfl rfl)
theorem dX2_startsWith_46 : decode cX2_startsWith 46 = .ok (.invokevirtual 124, 3) := dk_182 0 124 (dk_at dksX2_startsWith_2 0 rfl rfl)
theorem dX2_startsWith_49 : decode cX2_startsWith 49 = .ok (.goto 41, 3) := dk_167 0 41 (dk_at dksX2_startsWith_2 3 rfl rfl)
theorem dX2_startsWith_52 : decode cX2_startsWith 52 = .ok (.iload_n 2, 1) := dk_28 (dk_at dksX2_startsWith_2 6 rfl rfl)
theorem dX2_startsWith_53 : decode cX2_startsWith 53 = .ok (.bipush 6, 2) := dk_16 6 (dk_at dksX2_startsWith_2 7 rfl rfl)
theorem dX2_startsWith_55 : decode cX2_startsWith 55 = .ok (.bipush 9, 2) := dk_16 9 (dk_at dksX2_startsWith_2 9 rfl rfl)
theorem dX2_startsWith_57 : decode cX2_startsWith 57 = .ok (.invokestatic 85, 3) := dk_184 0 85 (dk_at dksX2_startsWith_2 11 rfl rfl)
theorem dX2_startsWith_60 : decode cX2_startsWith 60 = .ok (.ifCond .eq 28, 3) := dk_153 0 28 (dk_at dksX2_startsWith_2 14 rfl rfl)
theorem dX2_startsWith_63 : decode cX2_startsWith 63 = .ok (.aload_n 0, 1) := dk_42 (dk_at dksX2_startsWith_2 17 rfl rfl)
theorem dX2_startsWith_64 : decode cX2_startsWith 64 = .ok (.iload_n 2, 1) := dk_28 (dk_at dksX2_startsWith_2 18 rfl rfl)
theorem dX2_startsWith_65 : decode cX2_startsWith 65 = .ok (.iconst (-1), 1) := dk_2 (dk_at dksX2_startsWith_2 19 rfl rfl)
theorem dX2_startsWith_66 : decode cX2_startsWith 66 = .ok (.iconst (-1), 1) := dk_2 (dk_at dksX2_startsWith_2 20 rfl rfl)
theorem dX2_startsWith_67 : decode cX2_startsWith 67 = .ok (.invokevirtual 124, 3) := dk_182 0 124 (dk_at dksX2_startsWith_2 21 rfl rfl)
theorem dX2_startsWith_70 : decode cX2_startsWith 70 = .ok (.aload_n 0, 1) := dk_42 (dk_at dksX2_startsWith_3 0 rfl rfl)
theorem dX2_startsWith_71 : decode cX2_startsWith 71 = .ok (.iload_n 2, 1) := dk_28 (dk_at dksX2_startsWith_3 1 rfl rfl)
theorem dX2_startsWith_72 : decode cX2_startsWith 72 = .ok (.bipush 8, 2) := dk_16 8 (dk_at dksX2_startsWith_3 2 rfl rfl)
theorem dX2_startsWith_74 : decode cX2_startsWith 74 = .ok (.if_icmp .ge 7, 3) := dk_162 0 7 (dk_at dksX2_startsWith_3 4 rfl rfl)
theorem dX2_startsWith_77 : decode cX2_startsWith 77 = .ok (.iconst 3, 1) := dk_6 (dk_at dksX2_startsWith_3 7 rfl rfl)
theorem dX2_startsWith_78 : decode cX2_startsWith 78 = .ok (.goto 4, 3) := dk_167 0 4 (dk_at dksX2_startsWith_3 8 rfl rfl)
theorem dX2_startsWith_81 : decode cX2_startsWith 81 = .ok (.iconst 4, 1) := dk_7 (dk_at dksX2_startsWith_3 11 rfl rfl)
theorem dX2_startsWith_82 : decode cX2_startsWith 82 = .ok (.putfield 121, 3) := dk_181 0 121 (dk_at dksX2_startsWith_3 12 rfl rfl)
theorem dX2_startsWith_85 : decode cX2_startsWith 85 = .ok (.goto 5, 3) := dk_167 0 5 (dk_at dksX2_startsWith_3 15 rfl rfl)
theorem dX2_startsWith_88 : decode cX2_startsWith 88 = .ok (.iconst 0, 1) := dk_3 (dk_at dksX2_startsWith_3 18 rfl rfl)
theorem dX2_startsWith_89 : decode cX2_startsWith 89 = .ok (.ireturn, 1) := dk_172 (dk_at dksX2_startsWith_3 19 rfl rfl)
theorem dX2_startsWith_90 : decode cX2_startsWith 90 = .ok (.iconst 1, 1) := dk_4 (dk_at dksX2_startsWith_3 20 rfl rfl)
theorem dX2_startsWith_91 : decode cX2_startsWith 91 = .ok (.ireturn, 1) := dk_172 (dk_at dksX2_startsWith_3 21 rfl rfl)
abbrev cX2_begin : ByteArray := prog_17_method_12_code
def yX2_begin : MethodName := ⟨RX2, "begin", "(III)V"⟩
def dkwX2_begin_1 : List UInt8 := [42, 180, 0, 114, 29, 79, 42, 89, 180, 0, 114, 4, 96, 181, 0, 114, 177]
abbrev dktX2_begin_1 : List UInt8 := dkwX2_begin_1 ++ []
def dkwX2_begin_0 : List UInt8 := [42, 180, 0, 38, 42, 180, 0, 114, 27, 79, 42, 180, 0, 41, 42, 180, 0, 114, 28, 79, 42, 180, 0, 44]
abbrev dktX2_begin_0 : List UInt8 := dkwX2_begin_0 ++ dktX2_begin_1
theorem dksX2_begin_0 : cX2_begin.data.toList.drop 0 = dktX2_begin_0 := by decide +kernel
theorem dksX2_begin_1 : cX2_begin.data.toList.drop 24 = dktX2_begin_1 := dk_seg dksX2_begin_0 24 rfl rfl
theorem dX2_begin_0 : decode cX2_begin 0 = .ok (.aload_n 0, 1) := dk_42 (dk_at dksX2_begin_0 0 rfl rfl)
theorem dX2_begin_1 : decode cX2_begin 1 = .ok (.getfield 38, 3) := dk_180 0 38 (dk_at dksX2_begin_0 1 rfl rfl)
theorem dX2_begin_4 : decode cX2_begin 4 = .ok (.aload_n 0, 1) := dk_42 (dk_at dksX2_begin_0 4 rfl rfl)
theorem dX2_begin_5 : decode cX2_begin 5 = .ok (.getfield 114, 3) := dk_180 0 114 (dk_at dksX2_begin_0 5 rfl rfl)
theorem dX2_begin_8 : decode cX2_begin 8 = .ok (.iload_n 1, 1) := dk_27 (dk_at dksX2_begin_0 8 rfl rfl)
theorem dX2_begin_9 : decode cX2_begin 9 = .ok (.iastore, 1) := dk_79 (dk_at dksX2_begin_0 9 rfl rfl)
theorem dX2_begin_10 : decode cX2_begin 10 = .ok (.aload_n 0, 1) := dk_42 (dk_at dksX2_begin_0 10 rfl rfl)
theorem dX2_begin_11 : decode cX2_begin 11 = .ok (.getfield 41, 3) := dk_180 0 41 (dk_at dksX2_begin_0 11 rfl rfl)
theorem dX2_begin_14 : decode cX2_begin 14 = .ok (.aload_n 0, 1) := dk_42 (dk_at dksX2_begin_0 14 rfl rfl)
theorem dX2_begin_15 : decode cX2_begin 15 = .ok (.getfield 114, 3) := dk_180 0 114 (dk_at dksX2_begin_0 15 rfl rfl)
theorem dX2_begin_18 : decode cX2_begin 18 = .ok (.iload_n 2, 1) := dk_28 (dk_at dksX2_begin_0 18 rfl rfl)
theorem dX2_begin_19 : decode cX2_begin 19 = .ok (.iastore, 1) := dk_79 (dk_at dksX2_begin_0 19 rfl rfl)
theorem dX2_begin_20 : decode cX2_begin 20 = .ok (.aload_n 0, 1) := dk_42 (dk_at dksX2_begin_0 20 rfl rfl)
theorem dX2_begin_21 : decode cX2_begin 21 = .ok (.getfield 44, 3) := dk_180 0 44 (dk_at dksX2_begin_0 21 rfl rfl)
theorem dX2_begin_24 : decode cX2_begin 24 = .ok (.aload_n 0, 1) := dk_42 (dk_at dksX2_begin_1 0 rfl rfl)
theorem dX2_begin_25 : decode cX2_begin 25 = .ok (.getfield 114, 3) := dk_180 0 114 (dk_at dksX2_begin_1 1 rfl rfl)
theorem dX2_begin_28 : decode cX2_begin 28 = .ok (.iload_n 3, 1) := dk_29 (dk_at dksX2_begin_1 4 rfl rfl)
theorem dX2_begin_29 : decode cX2_begin 29 = .ok (.iastore, 1) := dk_79 (dk_at dksX2_begin_1 5 rfl rfl)
theorem dX2_begin_30 : decode cX2_begin 30 = .ok (.aload_n 0, 1) := dk_42 (dk_at dksX2_begin_1 6 rfl rfl)
theorem dX2_begin_31 : decode cX2_begin 31 = .ok (.dup, 1) := dk_89 (dk_at dksX2_begin_1 7 rfl rfl)
theorem dX2_begin_32 : decode cX2_begin 32 = .ok (.getfield 114, 3) := dk_180 0 114 (dk_at dksX2_begin_1 8 rfl rfl)
theorem dX2_begin_35 : decode cX2_begin 35 = .ok (.iconst 1, 1) := dk_4 (dk_at dksX2_begin_1 11 rfl rfl)
theorem dX2_begin_36 : decode cX2_begin 36 = .ok (.iadd, 1) := dk_96 (dk_at dksX2_begin_1 12 rfl rfl)
theorem dX2_begin_37 : decode cX2_begin 37 = .ok (.putfield 114, 3) := dk_181 0 114 (dk_at dksX2_begin_1 13 rfl rfl)
theorem dX2_begin_40 : decode cX2_begin 40 = .ok (.return_, 1) := dk_177 (dk_at dksX2_begin_1 16 rfl rfl)
abbrev cX2_make : ByteArray := prog_17_method_9_code
def yX2_make : MethodName := ⟨RX2, "make", "(IIIII)I"⟩
def dkwX2_make_3 : List UInt8 := [42, 180, 0, 103, 4, 100, 172]
abbrev dktX2_make_3 : List UInt8 := dkwX2_make_3 ++ []
def dkwX2_make_2 : List UInt8 := [180, 0, 103, 21, 5, 79, 42, 42, 180, 0, 103, 182, 0, 106, 42, 89, 180, 0, 103, 4, 96, 181, 0, 103]
abbrev dktX2_make_2 : List UInt8 := dkwX2_make_2 ++ dktX2_make_3
def dkwX2_make_1 : List UInt8 := [42, 180, 0, 103, 29, 79, 42, 180, 0, 23, 42, 180, 0, 103, 21, 4, 79, 42, 180, 0, 26, 42]
abbrev dktX2_make_1 : List UInt8 := dkwX2_make_1 ++ dktX2_make_2
def dkwX2_make_0 : List UInt8 := [42, 180, 0, 13, 42, 180, 0, 103, 27, 79, 42, 180, 0, 17, 42, 180, 0, 103, 28, 79, 42, 180, 0, 20]
abbrev dktX2_make_0 : List UInt8 := dkwX2_make_0 ++ dktX2_make_1
theorem dksX2_make_0 : cX2_make.data.toList.drop 0 = dktX2_make_0 := by decide +kernel
theorem dksX2_make_1 : cX2_make.data.toList.drop 24 = dktX2_make_1 := dk_seg dksX2_make_0 24 rfl rfl
theorem dksX2_make_2 : cX2_make.data.toList.drop 46 = dktX2_make_2 := dk_seg dksX2_make_1 22 rfl rfl
theorem dksX2_make_3 : cX2_make.data.toList.drop 70 = dktX2_make_3 := dk_seg dksX2_make_2 24 rfl rfl
theorem dX2_make_0 : decode cX2_make 0 = .ok (.aload_n 0, 1) := dk_42 (dk_at dksX2_make_0 0 rfl rfl)
theorem dX2_make_1 : decode cX2_make 1 = .ok (.getfield 13, 3) := dk_180 0 13 (dk_at dksX2_make_0 1 rfl rfl)
theorem dX2_make_4 : decode cX2_make 4 = .ok (.aload_n 0, 1) := dk_42 (dk_at dksX2_make_0 4 rfl rfl)
theorem dX2_make_5 : decode cX2_make 5 = .ok (.getfield 103, 3) := dk_180 0 103 (dk_at dksX2_make_0 5 rfl rfl)
theorem dX2_make_8 : decode cX2_make 8 = .ok (.iload_n 1, 1) := dk_27 (dk_at dksX2_make_0 8 rfl rfl)
theorem dX2_make_9 : decode cX2_make 9 = .ok (.iastore, 1) := dk_79 (dk_at dksX2_make_0 9 rfl rfl)
theorem dX2_make_10 : decode cX2_make 10 = .ok (.aload_n 0, 1) := dk_42 (dk_at dksX2_make_0 10 rfl rfl)
theorem dX2_make_11 : decode cX2_make 11 = .ok (.getfield 17, 3) := dk_180 0 17 (dk_at dksX2_make_0 11 rfl rfl)
theorem dX2_make_14 : decode cX2_make 14 = .ok (.aload_n 0, 1) := dk_42 (dk_at dksX2_make_0 14 rfl rfl)
theorem dX2_make_15 : decode cX2_make 15 = .ok (.getfield 103, 3) := dk_180 0 103 (dk_at dksX2_make_0 15 rfl rfl)
theorem dX2_make_18 : decode cX2_make 18 = .ok (.iload_n 2, 1) := dk_28 (dk_at dksX2_make_0 18 rfl rfl)
theorem dX2_make_19 : decode cX2_make 19 = .ok (.iastore, 1) := dk_79 (dk_at dksX2_make_0 19 rfl rfl)
theorem dX2_make_20 : decode cX2_make 20 = .ok (.aload_n 0, 1) := dk_42 (dk_at dksX2_make_0 20 rfl rfl)
theorem dX2_make_21 : decode cX2_make 21 = .ok (.getfield 20, 3) := dk_180 0 20 (dk_at dksX2_make_0 21 rfl rfl)
theorem dX2_make_24 : decode cX2_make 24 = .ok (.aload_n 0, 1) := dk_42 (dk_at dksX2_make_1 0 rfl rfl)
theorem dX2_make_25 : decode cX2_make 25 = .ok (.getfield 103, 3) := dk_180 0 103 (dk_at dksX2_make_1 1 rfl rfl)
theorem dX2_make_28 : decode cX2_make 28 = .ok (.iload_n 3, 1) := dk_29 (dk_at dksX2_make_1 4 rfl rfl)
theorem dX2_make_29 : decode cX2_make 29 = .ok (.iastore, 1) := dk_79 (dk_at dksX2_make_1 5 rfl rfl)
theorem dX2_make_30 : decode cX2_make 30 = .ok (.aload_n 0, 1) := dk_42 (dk_at dksX2_make_1 6 rfl rfl)
theorem dX2_make_31 : decode cX2_make 31 = .ok (.getfield 23, 3) := dk_180 0 23 (dk_at dksX2_make_1 7 rfl rfl)
theorem dX2_make_34 : decode cX2_make 34 = .ok (.aload_n 0, 1) := dk_42 (dk_at dksX2_make_1 10 rfl rfl)
theorem dX2_make_35 : decode cX2_make 35 = .ok (.getfield 103, 3) := dk_180 0 103 (dk_at dksX2_make_1 11 rfl rfl)
theorem dX2_make_38 : decode cX2_make 38 = .ok (.iload 4, 2) := dk_21 4 (dk_at dksX2_make_1 14 rfl rfl)
theorem dX2_make_40 : decode cX2_make 40 = .ok (.iastore, 1) := dk_79 (dk_at dksX2_make_1 16 rfl rfl)
theorem dX2_make_41 : decode cX2_make 41 = .ok (.aload_n 0, 1) := dk_42 (dk_at dksX2_make_1 17 rfl rfl)
theorem dX2_make_42 : decode cX2_make 42 = .ok (.getfield 26, 3) := dk_180 0 26 (dk_at dksX2_make_1 18 rfl rfl)
theorem dX2_make_45 : decode cX2_make 45 = .ok (.aload_n 0, 1) := dk_42 (dk_at dksX2_make_1 21 rfl rfl)
theorem dX2_make_46 : decode cX2_make 46 = .ok (.getfield 103, 3) := dk_180 0 103 (dk_at dksX2_make_2 0 rfl rfl)
theorem dX2_make_49 : decode cX2_make 49 = .ok (.iload 5, 2) := dk_21 5 (dk_at dksX2_make_2 3 rfl rfl)
theorem dX2_make_51 : decode cX2_make 51 = .ok (.iastore, 1) := dk_79 (dk_at dksX2_make_2 5 rfl rfl)
theorem dX2_make_52 : decode cX2_make 52 = .ok (.aload_n 0, 1) := dk_42 (dk_at dksX2_make_2 6 rfl rfl)
theorem dX2_make_53 : decode cX2_make 53 = .ok (.aload_n 0, 1) := dk_42 (dk_at dksX2_make_2 7 rfl rfl)
theorem dX2_make_54 : decode cX2_make 54 = .ok (.getfield 103, 3) := dk_180 0 103 (dk_at dksX2_make_2 8 rfl rfl)
theorem dX2_make_57 : decode cX2_make 57 = .ok (.invokevirtual 106, 3) := dk_182 0 106 (dk_at dksX2_make_2 11 rfl rfl)
theorem dX2_make_60 : decode cX2_make 60 = .ok (.aload_n 0, 1) := dk_42 (dk_at dksX2_make_2 14 rfl rfl)
theorem dX2_make_61 : decode cX2_make 61 = .ok (.dup, 1) := dk_89 (dk_at dksX2_make_2 15 rfl rfl)
theorem dX2_make_62 : decode cX2_make 62 = .ok (.getfield 103, 3) := dk_180 0 103 (dk_at dksX2_make_2 16 rfl rfl)
theorem dX2_make_65 : decode cX2_make 65 = .ok (.iconst 1, 1) := dk_4 (dk_at dksX2_make_2 19 rfl rfl)
theorem dX2_make_66 : decode cX2_make 66 = .ok (.iadd, 1) := dk_96 (dk_at dksX2_make_2 20 rfl rfl)
theorem dX2_make_67 : decode cX2_make 67 = .ok (.putfield 103, 3) := dk_181 0 103 (dk_at dksX2_make_2 21 rfl rfl)
theorem dX2_make_70 : decode cX2_make 70 = .ok (.aload_n 0, 1) := dk_42 (dk_at dksX2_make_3 0 rfl rfl)
theorem dX2_make_71 : decode cX2_make 71 = .ok (.getfield 103, 3) := dk_180 0 103 (dk_at dksX2_make_3 1 rfl rfl)
theorem dX2_make_74 : decode cX2_make 74 = .ok (.iconst 1, 1) := dk_4 (dk_at dksX2_make_3 4 rfl rfl)
theorem dX2_make_75 : decode cX2_make 75 = .ok (.isub, 1) := dk_100 (dk_at dksX2_make_3 5 rfl rfl)
theorem dX2_make_76 : decode cX2_make 76 = .ok (.ireturn, 1) := dk_172 (dk_at dksX2_make_3 6 rfl rfl)
abbrev cX2_measure : ByteArray := prog_17_method_10_code
def yX2_measure : MethodName := ⟨RX2, "measure", "(I)V"⟩
def dkwX2_measure_15 : List UInt8 := [180, 0, 32, 27, 21, 5, 79, 42, 180, 0, 35, 27, 21, 6, 79, 177]
abbrev dktX2_measure_15 : List UInt8 := dkwX2_measure_15 ++ []
def dkwX2_measure_14 : List UInt8 := [167, 0, 15, 21, 6, 21, 7, 2, 130, 126, 21, 8, 128, 54, 6, 42, 180, 0, 29, 27, 21, 4, 79, 42]
abbrev dktX2_measure_14 : List UInt8 := dkwX2_measure_14 ++ dktX2_measure_15
def dkwX2_measure_13 : List UInt8 := [21, 5, 21, 4, 184, 0, 110, 54, 5, 21, 5, 4, 96, 54, 4, 21, 6, 21, 7, 2, 130, 126, 54, 6]
abbrev dktX2_measure_13 : List UInt8 := dkwX2_measure_13 ++ dktX2_measure_14
def dkwX2_measure_12 : List UInt8 := [184, 0, 110, 54, 4, 21, 4, 4, 96, 54, 5, 21, 6, 21, 7, 2, 130, 126, 54, 6, 167, 0, 42]
abbrev dktX2_measure_12 : List UInt8 := dkwX2_measure_12 ++ dktX2_measure_13
def dkwX2_measure_11 : List UInt8 := [21, 5, 54, 5, 21, 6, 42, 180, 0, 35, 29, 46, 128, 54, 6, 167, 0, 69, 21, 4, 21, 5]
abbrev dktX2_measure_11 : List UInt8 := dkwX2_measure_11 ++ dktX2_measure_12
def dkwX2_measure_10 : List UInt8 := [21, 4, 54, 4, 42, 180, 0, 32, 29, 46, 21, 5, 164, 0, 12, 42, 180, 0, 32, 29, 46, 167, 0, 5]
abbrev dktX2_measure_10 : List UInt8 := dkwX2_measure_10 ++ dktX2_measure_11
def dkwX2_measure_9 : List UInt8 := [21, 5, 54, 5, 42, 180, 0, 29, 29, 46, 21, 4, 164, 0, 12, 42, 180, 0, 29, 29, 46, 167, 0, 5]
abbrev dktX2_measure_9 : List UInt8 := dkwX2_measure_9 ++ dktX2_measure_10
def dkwX2_measure_8 : List UInt8 := [21, 4, 54, 4, 42, 180, 0, 13, 27, 46, 8, 160, 0, 12, 42, 180, 0, 29, 28, 46, 167, 0, 5]
abbrev dktX2_measure_8 : List UInt8 := dkwX2_measure_8 ++ dktX2_measure_9
def dkwX2_measure_7 : List UInt8 := [54, 5, 167, 0, 177, 42, 180, 0, 13, 27, 46, 8, 160, 0, 12, 42, 180, 0, 32, 28, 46, 167, 0, 5]
abbrev dktX2_measure_7 : List UInt8 := dkwX2_measure_7 ++ dktX2_measure_8
def dkwX2_measure_6 : List UInt8 := [21, 7, 21, 8, 128, 54, 6, 167, 0, 196, 42, 180, 0, 32, 28, 46, 54, 4, 42, 180, 0, 29, 28, 46]
abbrev dktX2_measure_6 : List UInt8 := dkwX2_measure_6 ++ dktX2_measure_7
def dkwX2_measure_5 : List UInt8 := [170, 0, 0, 0, 236, 0, 0, 0, 0, 0, 0, 0, 7, 0, 0, 0, 45, 0, 0, 0, 45, 0, 0, 0, 55, 0, 0, 0, 74, 0, 0, 0, 74, 0, 0, 0, 74, 0, 0, 0, 209, 0, 0, 0, 182]
abbrev dktX2_measure_5 : List UInt8 := dkwX2_measure_5 ++ dktX2_measure_6
def dkwX2_measure_4 : List UInt8 := [160, 0, 7, 3, 167, 0, 11, 4, 42, 180, 0, 26, 27, 46, 120, 54, 8, 42, 180, 0, 13, 27, 46]
abbrev dktX2_measure_4 : List UInt8 := dkwX2_measure_4 ++ dktX2_measure_5
def dkwX2_measure_3 : List UInt8 := [160, 0, 7, 3, 167, 0, 11, 4, 42, 180, 0, 23, 27, 46, 120, 54, 7, 42, 180, 0, 26, 27, 46, 2]
abbrev dktX2_measure_3 : List UInt8 := dkwX2_measure_3 ++ dktX2_measure_4
def dkwX2_measure_2 : List UInt8 := [28, 2, 160, 0, 7, 3, 167, 0, 9, 42, 180, 0, 35, 28, 46, 54, 6, 42, 180, 0, 23, 27, 46, 2]
abbrev dktX2_measure_2 : List UInt8 := dkwX2_measure_2 ++ dktX2_measure_3
def dkwX2_measure_1 : List UInt8 := [180, 0, 29, 28, 46, 54, 4, 28, 2, 160, 0, 7, 3, 167, 0, 9, 42, 180, 0, 32, 28, 46, 54, 5]
abbrev dktX2_measure_1 : List UInt8 := dkwX2_measure_1 ++ dktX2_measure_2
def dkwX2_measure_0 : List UInt8 := [42, 180, 0, 17, 27, 46, 61, 42, 180, 0, 20, 27, 46, 62, 28, 2, 160, 0, 7, 3, 167, 0, 9, 42]
abbrev dktX2_measure_0 : List UInt8 := dkwX2_measure_0 ++ dktX2_measure_1
theorem dksX2_measure_0 : cX2_measure.data.toList.drop 0 = dktX2_measure_0 := by decide +kernel
theorem dksX2_measure_1 : cX2_measure.data.toList.drop 24 = dktX2_measure_1 := dk_seg dksX2_measure_0 24 rfl rfl
theorem dksX2_measure_2 : cX2_measure.data.toList.drop 48 = dktX2_measure_2 := dk_seg dksX2_measure_1 24 rfl rfl
theorem dksX2_measure_3 : cX2_measure.data.toList.drop 72 = dktX2_measure_3 := dk_seg dksX2_measure_2 24 rfl rfl
theorem dksX2_measure_4 : cX2_measure.data.toList.drop 96 = dktX2_measure_4 := dk_seg dksX2_measure_3 24 rfl rfl
theorem dksX2_measure_5 : cX2_measure.data.toList.drop 119 = dktX2_measure_5 := dk_seg dksX2_measure_4 23 rfl rfl
theorem dksX2_measure_6 : cX2_measure.data.toList.drop 164 = dktX2_measure_6 := dk_seg dksX2_measure_5 45 rfl rfl
theorem dksX2_measure_7 : cX2_measure.data.toList.drop 188 = dktX2_measure_7 := dk_seg dksX2_measure_6 24 rfl rfl
theorem dksX2_measure_8 : cX2_measure.data.toList.drop 212 = dktX2_measure_8 := dk_seg dksX2_measure_7 24 rfl rfl
theorem dksX2_measure_9 : cX2_measure.data.toList.drop 235 = dktX2_measure_9 := dk_seg dksX2_measure_8 23 rfl rfl
theorem dksX2_measure_10 : cX2_measure.data.toList.drop 259 = dktX2_measure_10 := dk_seg dksX2_measure_9 24 rfl rfl
theorem dksX2_measure_11 : cX2_measure.data.toList.drop 283 = dktX2_measure_11 := dk_seg dksX2_measure_10 24 rfl rfl
theorem dksX2_measure_12 : cX2_measure.data.toList.drop 305 = dktX2_measure_12 := dk_seg dksX2_measure_11 22 rfl rfl
theorem dksX2_measure_13 : cX2_measure.data.toList.drop 328 = dktX2_measure_13 := dk_seg dksX2_measure_12 23 rfl rfl
theorem dksX2_measure_14 : cX2_measure.data.toList.drop 352 = dktX2_measure_14 := dk_seg dksX2_measure_13 24 rfl rfl
theorem dksX2_measure_15 : cX2_measure.data.toList.drop 376 = dktX2_measure_15 := dk_seg dksX2_measure_14 24 rfl rfl
theorem dX2_measure_0 : decode cX2_measure 0 = .ok (.aload_n 0, 1) := dk_42 (dk_at dksX2_measure_0 0 rfl rfl)
theorem dX2_measure_1 : decode cX2_measure 1 = .ok (.getfield 17, 3) := dk_180 0 17 (dk_at dksX2_measure_0 1 rfl rfl)
theorem dX2_measure_4 : decode cX2_measure 4 = .ok (.iload_n 1, 1) := dk_27 (dk_at dksX2_measure_0 4 rfl rfl)
theorem dX2_measure_5 : decode cX2_measure 5 = .ok (.iaload, 1) := dk_46 (dk_at dksX2_measure_0 5 rfl rfl)
theorem dX2_measure_6 : decode cX2_measure 6 = .ok (.istore_n 2, 1) := dk_61 (dk_at dksX2_measure_0 6 rfl rfl)
theorem dX2_measure_7 : decode cX2_measure 7 = .ok (.aload_n 0, 1) := dk_42 (dk_at dksX2_measure_0 7 rfl rfl)
theorem dX2_measure_8 : decode cX2_measure 8 = .ok (.getfield 20, 3) := dk_180 0 20 (dk_at dksX2_measure_0 8 rfl rfl)
theorem dX2_measure_11 : decode cX2_measure 11 = .ok (.iload_n 1, 1) := dk_27 (dk_at dksX2_measure_0 11 rfl rfl)
theorem dX2_measure_12 : decode cX2_measure 12 = .ok (.iaload, 1) := dk_46 (dk_at dksX2_measure_0 12 rfl rfl)
theorem dX2_measure_13 : decode cX2_measure 13 = .ok (.istore_n 3, 1) := dk_62 (dk_at dksX2_measure_0 13 rfl rfl)
theorem dX2_measure_14 : decode cX2_measure 14 = .ok (.iload_n 2, 1) := dk_28 (dk_at dksX2_measure_0 14 rfl rfl)
theorem dX2_measure_15 : decode cX2_measure 15 = .ok (.iconst (-1), 1) := dk_2 (dk_at dksX2_measure_0 15 rfl rfl)
theorem dX2_measure_16 : decode cX2_measure 16 = .ok (.if_icmp .ne 7, 3) := dk_160 0 7 (dk_at dksX2_measure_0 16 rfl rfl)
theorem dX2_measure_19 : decode cX2_measure 19 = .ok (.iconst 0, 1) := dk_3 (dk_at dksX2_measure_0 19 rfl rfl)
theorem dX2_measure_20 : decode cX2_measure 20 = .ok (.goto 9, 3) := dk_167 0 9 (dk_at dksX2_measure_0 20 rfl rfl)
theorem dX2_measure_23 : decode cX2_measure 23 = .ok (.aload_n 0, 1) := dk_42 (dk_at dksX2_measure_0 23 rfl rfl)
theorem dX2_measure_24 : decode cX2_measure 24 = .ok (.getfield 29, 3) := dk_180 0 29 (dk_at dksX2_measure_1 0 rfl rfl)
theorem dX2_measure_27 : decode cX2_measure 27 = .ok (.iload_n 2, 1) := dk_28 (dk_at dksX2_measure_1 3 rfl rfl)
theorem dX2_measure_28 : decode cX2_measure 28 = .ok (.iaload, 1) := dk_46 (dk_at dksX2_measure_1 4 rfl rfl)
theorem dX2_measure_29 : decode cX2_measure 29 = .ok (.istore 4, 2) := dk_54 4 (dk_at dksX2_measure_1 5 rfl rfl)
theorem dX2_measure_31 : decode cX2_measure 31 = .ok (.iload_n 2, 1) := dk_28 (dk_at dksX2_measure_1 7 rfl rfl)
theorem dX2_measure_32 : decode cX2_measure 32 = .ok (.iconst (-1), 1) := dk_2 (dk_at dksX2_measure_1 8 rfl rfl)
theorem dX2_measure_33 : decode cX2_measure 33 = .ok (.if_icmp .ne 7, 3) := dk_160 0 7 (dk_at dksX2_measure_1 9 rfl rfl)
theorem dX2_measure_36 : decode cX2_measure 36 = .ok (.iconst 0, 1) := dk_3 (dk_at dksX2_measure_1 12 rfl rfl)
theorem dX2_measure_37 : decode cX2_measure 37 = .ok (.goto 9, 3) := dk_167 0 9 (dk_at dksX2_measure_1 13 rfl rfl)
theorem dX2_measure_40 : decode cX2_measure 40 = .ok (.aload_n 0, 1) := dk_42 (dk_at dksX2_measure_1 16 rfl rfl)
theorem dX2_measure_41 : decode cX2_measure 41 = .ok (.getfield 32, 3) := dk_180 0 32 (dk_at dksX2_measure_1 17 rfl rfl)
theorem dX2_measure_44 : decode cX2_measure 44 = .ok (.iload_n 2, 1) := dk_28 (dk_at dksX2_measure_1 20 rfl rfl)
theorem dX2_measure_45 : decode cX2_measure 45 = .ok (.iaload, 1) := dk_46 (dk_at dksX2_measure_1 21 rfl rfl)
theorem dX2_measure_46 : decode cX2_measure 46 = .ok (.istore 5, 2) := dk_54 5 (dk_at dksX2_measure_1 22 rfl rfl)
theorem dX2_measure_48 : decode cX2_measure 48 = .ok (.iload_n 2, 1) := dk_28 (dk_at dksX2_measure_2 0 rfl rfl)
theorem dX2_measure_49 : decode cX2_measure 49 = .ok (.iconst (-1), 1) := dk_2 (dk_at dksX2_measure_2 1 rfl rfl)
theorem dX2_measure_50 : decode cX2_measure 50 = .ok (.if_icmp .ne 7, 3) := dk_160 0 7 (dk_at dksX2_measure_2 2 rfl rfl)
theorem dX2_measure_53 : decode cX2_measure 53 = .ok (.iconst 0, 1) := dk_3 (dk_at dksX2_measure_2 5 rfl rfl)
theorem dX2_measure_54 : decode cX2_measure 54 = .ok (.goto 9, 3) := dk_167 0 9 (dk_at dksX2_measure_2 6 rfl rfl)
theorem dX2_measure_57 : decode cX2_measure 57 = .ok (.aload_n 0, 1) := dk_42 (dk_at dksX2_measure_2 9 rfl rfl)
theorem dX2_measure_58 : decode cX2_measure 58 = .ok (.getfield 35, 3) := dk_180 0 35 (dk_at dksX2_measure_2 10 rfl rfl)
theorem dX2_measure_61 : decode cX2_measure 61 = .ok (.iload_n 2, 1) := dk_28 (dk_at dksX2_measure_2 13 rfl rfl)
theorem dX2_measure_62 : decode cX2_measure 62 = .ok (.iaload, 1) := dk_46 (dk_at dksX2_measure_2 14 rfl rfl)
theorem dX2_measure_63 : decode cX2_measure 63 = .ok (.istore 6, 2) := dk_54 6 (dk_at dksX2_measure_2 15 rfl rfl)
theorem dX2_measure_65 : decode cX2_measure 65 = .ok (.aload_n 0, 1) := dk_42 (dk_at dksX2_measure_2 17 rfl rfl)
theorem dX2_measure_66 : decode cX2_measure 66 = .ok (.getfield 23, 3) := dk_180 0 23 (dk_at dksX2_measure_2 18 rfl rfl)
theorem dX2_measure_69 : decode cX2_measure 69 = .ok (.iload_n 1, 1) := dk_27 (dk_at dksX2_measure_2 21 rfl rfl)
theorem dX2_measure_70 : decode cX2_measure 70 = .ok (.iaload, 1) := dk_46 (dk_at dksX2_measure_2 22 rfl rfl)
theorem dX2_measure_71 : decode cX2_measure 71 = .ok (.iconst (-1), 1) := dk_2 (dk_at dksX2_measure_2 23 rfl rfl)
theorem dX2_measure_72 : decode cX2_measure 72 = .ok (.if_icmp .ne 7, 3) := dk_160 0 7 (dk_at dksX2_measure_3 0 rfl rfl)
theorem dX2_measure_75 : decode cX2_measure 75 = .ok (.iconst 0, 1) := dk_3 (dk_at dksX2_measure_3 3 rfl rfl)
theorem dX2_measure_76 : decode cX2_measure 76 = .ok (.goto 11, 3) := dk_167 0 11 (dk_at dksX2_measure_3 4 rfl rfl)
theorem dX2_measure_79 : decode cX2_measure 79 = .ok (.iconst 1, 1) := dk_4 (dk_at dksX2_measure_3 7 rfl rfl)
theorem dX2_measure_80 : decode cX2_measure 80 = .ok (.aload_n 0, 1) := dk_42 (dk_at dksX2_measure_3 8 rfl rfl)
theorem dX2_measure_81 : decode cX2_measure 81 = .ok (.getfield 23, 3) := dk_180 0 23 (dk_at dksX2_measure_3 9 rfl rfl)
theorem dX2_measure_84 : decode cX2_measure 84 = .ok (.iload_n 1, 1) := dk_27 (dk_at dksX2_measure_3 12 rfl rfl)
theorem dX2_measure_85 : decode cX2_measure 85 = .ok (.iaload, 1) := dk_46 (dk_at dksX2_measure_3 13 rfl rfl)
theorem dX2_measure_86 : decode cX2_measure 86 = .ok (.ishl, 1) := dk_120 (dk_at dksX2_measure_3 14 rfl rfl)
theorem dX2_measure_87 : decode cX2_measure 87 = .ok (.istore 7, 2) := dk_54 7 (dk_at dksX2_measure_3 15 rfl rfl)
theorem dX2_measure_89 : decode cX2_measure 89 = .ok (.aload_n 0, 1) := dk_42 (dk_at dksX2_measure_3 17 rfl rfl)
theorem dX2_measure_90 : decode cX2_measure 90 = .ok (.getfield 26, 3) := dk_180 0 26 (dk_at dksX2_measure_3 18 rfl rfl)
theorem dX2_measure_93 : decode cX2_measure 93 = .ok (.iload_n 1, 1) := dk_27 (dk_at dksX2_measure_3 21 rfl rfl)
theorem dX2_measure_94 : decode cX2_measure 94 = .ok (.iaload, 1) := dk_46 (dk_at dksX2_measure_3 22 rfl rfl)
theorem dX2_measure_95 : decode cX2_measure 95 = .ok (.iconst (-1), 1) := dk_2 (dk_at dksX2_measure_3 23 rfl rfl)
theorem dX2_measure_96 : decode cX2_measure 96 = .ok (.if_icmp .ne 7, 3) := dk_160 0 7 (dk_at dksX2_measure_4 0 rfl rfl)
theorem dX2_measure_99 : decode cX2_measure 99 = .ok (.iconst 0, 1) := dk_3 (dk_at dksX2_measure_4 3 rfl rfl)
theorem dX2_measure_100 : decode cX2_measure 100 = .ok (.goto 11, 3) := dk_167 0 11 (dk_at dksX2_measure_4 4 rfl rfl)
theorem dX2_measure_103 : decode cX2_measure 103 = .ok (.iconst 1, 1) := dk_4 (dk_at dksX2_measure_4 7 rfl rfl)
theorem dX2_measure_104 : decode cX2_measure 104 = .ok (.aload_n 0, 1) := dk_42 (dk_at dksX2_measure_4 8 rfl rfl)
theorem dX2_measure_105 : decode cX2_measure 105 = .ok (.getfield 26, 3) := dk_180 0 26 (dk_at dksX2_measure_4 9 rfl rfl)
theorem dX2_measure_108 : decode cX2_measure 108 = .ok (.iload_n 1, 1) := dk_27 (dk_at dksX2_measure_4 12 rfl rfl)
theorem dX2_measure_109 : decode cX2_measure 109 = .ok (.iaload, 1) := dk_46 (dk_at dksX2_measure_4 13 rfl rfl)
theorem dX2_measure_110 : decode cX2_measure 110 = .ok (.ishl, 1) := dk_120 (dk_at dksX2_measure_4 14 rfl rfl)
theorem dX2_measure_111 : decode cX2_measure 111 = .ok (.istore 8, 2) := dk_54 8 (dk_at dksX2_measure_4 15 rfl rfl)
theorem dX2_measure_113 : decode cX2_measure 113 = .ok (.aload_n 0, 1) := dk_42 (dk_at dksX2_measure_4 17 rfl rfl)
theorem dX2_measure_114 : decode cX2_measure 114 = .ok (.getfield 13, 3) := dk_180 0 13 (dk_at dksX2_measure_4 18 rfl rfl)
theorem dX2_measure_117 : decode cX2_measure 117 = .ok (.iload_n 1, 1) := dk_27 (dk_at dksX2_measure_4 21 rfl rfl)
theorem dX2_measure_118 : decode cX2_measure 118 = .ok (.iaload, 1) := dk_46 (dk_at dksX2_measure_4 22 rfl rfl)
theorem dX2_measure_119 : decode cX2_measure 119 = .ok (.tableswitch 236 0 7 #[45, 45, 55, 74, 74, 74, 209, 182], 45) := by decide +kernel
theorem dX2_measure_164 : decode cX2_measure 164 = .ok (.iload 7, 2) := dk_21 7 (dk_at dksX2_measure_6 0 rfl rfl)
theorem dX2_measure_166 : decode cX2_measure 166 = .ok (.iload 8, 2) := dk_21 8 (dk_at dksX2_measure_6 2 rfl rfl)
theorem dX2_measure_168 : decode cX2_measure 168 = .ok (.ior, 1) := dk_128 (dk_at dksX2_measure_6 4 rfl rfl)
theorem dX2_measure_169 : decode cX2_measure 169 = .ok (.istore 6, 2) := dk_54 6 (dk_at dksX2_measure_6 5 rfl rfl)
theorem dX2_measure_171 : decode cX2_measure 171 = .ok (.goto 196, 3) := dk_167 0 196 (dk_at dksX2_measure_6 7 rfl rfl)
theorem dX2_measure_174 : decode cX2_measure 174 = .ok (.aload_n 0, 1) := dk_42 (dk_at dksX2_measure_6 10 rfl rfl)
theorem dX2_measure_175 : decode cX2_measure 175 = .ok (.getfield 32, 3) := dk_180 0 32 (dk_at dksX2_measure_6 11 rfl rfl)
theorem dX2_measure_178 : decode cX2_measure 178 = .ok (.iload_n 2, 1) := dk_28 (dk_at dksX2_measure_6 14 rfl rfl)
theorem dX2_measure_179 : decode cX2_measure 179 = .ok (.iaload, 1) := dk_46 (dk_at dksX2_measure_6 15 rfl rfl)
theorem dX2_measure_180 : decode cX2_measure 180 = .ok (.istore 4, 2) := dk_54 4 (dk_at dksX2_measure_6 16 rfl rfl)
theorem dX2_measure_182 : decode cX2_measure 182 = .ok (.aload_n 0, 1) := dk_42 (dk_at dksX2_measure_6 18 rfl rfl)
theorem dX2_measure_183 : decode cX2_measure 183 = .ok (.getfield 29, 3) := dk_180 0 29 (dk_at dksX2_measure_6 19 rfl rfl)
theorem dX2_measure_186 : decode cX2_measure 186 = .ok (.iload_n 2, 1) := dk_28 (dk_at dksX2_measure_6 22 rfl rfl)
theorem dX2_measure_187 : decode cX2_measure 187 = .ok (.iaload, 1) := dk_46 (dk_at dksX2_measure_6 23 rfl rfl)
theorem dX2_measure_188 : decode cX2_measure 188 = .ok (.istore 5, 2) := dk_54 5 (dk_at dksX2_measure_7 0 rfl rfl)
theorem dX2_measure_190 : decode cX2_measure 190 = .ok (.goto 177, 3) := dk_167 0 177 (dk_at dksX2_measure_7 2 rfl rfl)
theorem dX2_measure_193 : decode cX2_measure 193 = .ok (.aload_n 0, 1) := dk_42 (dk_at dksX2_measure_7 5 rfl rfl)
theorem dX2_measure_194 : decode cX2_measure 194 = .ok (.getfield 13, 3) := dk_180 0 13 (dk_at dksX2_measure_7 6 rfl rfl)
theorem dX2_measure_197 : decode cX2_measure 197 = .ok (.iload_n 1, 1) := dk_27 (dk_at dksX2_measure_7 9 rfl rfl)
theorem dX2_measure_198 : decode cX2_measure 198 = .ok (.iaload, 1) := dk_46 (dk_at dksX2_measure_7 10 rfl rfl)
theorem dX2_measure_199 : decode cX2_measure 199 = .ok (.iconst 5, 1) := dk_8 (dk_at dksX2_measure_7 11 rfl rfl)
theorem dX2_measure_200 : decode cX2_measure 200 = .ok (.if_icmp .ne 12, 3) := dk_160 0 12 (dk_at dksX2_measure_7 12 rfl rfl)
theorem dX2_measure_203 : decode cX2_measure 203 = .ok (.aload_n 0, 1) := dk_42 (dk_at dksX2_measure_7 15 rfl rfl)
theorem dX2_measure_204 : decode cX2_measure 204 = .ok (.getfield 32, 3) := dk_180 0 32 (dk_at dksX2_measure_7 16 rfl rfl)
theorem dX2_measure_207 : decode cX2_measure 207 = .ok (.iload_n 2, 1) := dk_28 (dk_at dksX2_measure_7 19 rfl rfl)
theorem dX2_measure_208 : decode cX2_measure 208 = .ok (.iaload, 1) := dk_46 (dk_at dksX2_measure_7 20 rfl rfl)
theorem dX2_measure_209 : decode cX2_measure 209 = .ok (.goto 5, 3) := dk_167 0 5 (dk_at dksX2_measure_7 21 rfl rfl)
theorem dX2_measure_212 : decode cX2_measure 212 = .ok (.iload 4, 2) := dk_21 4 (dk_at dksX2_measure_8 0 rfl rfl)
theorem dX2_measure_214 : decode cX2_measure 214 = .ok (.istore 4, 2) := dk_54 4 (dk_at dksX2_measure_8 2 rfl rfl)
theorem dX2_measure_216 : decode cX2_measure 216 = .ok (.aload_n 0, 1) := dk_42 (dk_at dksX2_measure_8 4 rfl rfl)
theorem dX2_measure_217 : decode cX2_measure 217 = .ok (.getfield 13, 3) := dk_180 0 13 (dk_at dksX2_measure_8 5 rfl rfl)
theorem dX2_measure_220 : decode cX2_measure 220 = .ok (.iload_n 1, 1) := dk_27 (dk_at dksX2_measure_8 8 rfl rfl)
theorem dX2_measure_221 : decode cX2_measure 221 = .ok (.iaload, 1) := dk_46 (dk_at dksX2_measure_8 9 rfl rfl)
theorem dX2_measure_222 : decode cX2_measure 222 = .ok (.iconst 5, 1) := dk_8 (dk_at dksX2_measure_8 10 rfl rfl)
theorem dX2_measure_223 : decode cX2_measure 223 = .ok (.if_icmp .ne 12, 3) := dk_160 0 12 (dk_at dksX2_measure_8 11 rfl rfl)
theorem dX2_measure_226 : decode cX2_measure 226 = .ok (.aload_n 0, 1) := dk_42 (dk_at dksX2_measure_8 14 rfl rfl)
theorem dX2_measure_227 : decode cX2_measure 227 = .ok (.getfield 29, 3) := dk_180 0 29 (dk_at dksX2_measure_8 15 rfl rfl)
theorem dX2_measure_230 : decode cX2_measure 230 = .ok (.iload_n 2, 1) := dk_28 (dk_at dksX2_measure_8 18 rfl rfl)
theorem dX2_measure_231 : decode cX2_measure 231 = .ok (.iaload, 1) := dk_46 (dk_at dksX2_measure_8 19 rfl rfl)
theorem dX2_measure_232 : decode cX2_measure 232 = .ok (.goto 5, 3) := dk_167 0 5 (dk_at dksX2_measure_8 20 rfl rfl)
theorem dX2_measure_235 : decode cX2_measure 235 = .ok (.iload 5, 2) := dk_21 5 (dk_at dksX2_measure_9 0 rfl rfl)
theorem dX2_measure_237 : decode cX2_measure 237 = .ok (.istore 5, 2) := dk_54 5 (dk_at dksX2_measure_9 2 rfl rfl)
theorem dX2_measure_239 : decode cX2_measure 239 = .ok (.aload_n 0, 1) := dk_42 (dk_at dksX2_measure_9 4 rfl rfl)
theorem dX2_measure_240 : decode cX2_measure 240 = .ok (.getfield 29, 3) := dk_180 0 29 (dk_at dksX2_measure_9 5 rfl rfl)
theorem dX2_measure_243 : decode cX2_measure 243 = .ok (.iload_n 3, 1) := dk_29 (dk_at dksX2_measure_9 8 rfl rfl)
theorem dX2_measure_244 : decode cX2_measure 244 = .ok (.iaload, 1) := dk_46 (dk_at dksX2_measure_9 9 rfl rfl)
theorem dX2_measure_245 : decode cX2_measure 245 = .ok (.iload 4, 2) := dk_21 4 (dk_at dksX2_measure_9 10 rfl rfl)
theorem dX2_measure_247 : decode cX2_measure 247 = .ok (.if_icmp .le 12, 3) := dk_164 0 12 (dk_at dksX2_measure_9 12 rfl rfl)
theorem dX2_measure_250 : decode cX2_measure 250 = .ok (.aload_n 0, 1) := dk_42 (dk_at dksX2_measure_9 15 rfl rfl)
theorem dX2_measure_251 : decode cX2_measure 251 = .ok (.getfield 29, 3) := dk_180 0 29 (dk_at dksX2_measure_9 16 rfl rfl)
theorem dX2_measure_254 : decode cX2_measure 254 = .ok (.iload_n 3, 1) := dk_29 (dk_at dksX2_measure_9 19 rfl rfl)
theorem dX2_measure_255 : decode cX2_measure 255 = .ok (.iaload, 1) := dk_46 (dk_at dksX2_measure_9 20 rfl rfl)
theorem dX2_measure_256 : decode cX2_measure 256 = .ok (.goto 5, 3) := dk_167 0 5 (dk_at dksX2_measure_9 21 rfl rfl)
theorem dX2_measure_259 : decode cX2_measure 259 = .ok (.iload 4, 2) := dk_21 4 (dk_at dksX2_measure_10 0 rfl rfl)
theorem dX2_measure_261 : decode cX2_measure 261 = .ok (.istore 4, 2) := dk_54 4 (dk_at dksX2_measure_10 2 rfl rfl)
theorem dX2_measure_263 : decode cX2_measure 263 = .ok (.aload_n 0, 1) := dk_42 (dk_at dksX2_measure_10 4 rfl rfl)
theorem dX2_measure_264 : decode cX2_measure 264 = .ok (.getfield 32, 3) := dk_180 0 32 (dk_at dksX2_measure_10 5 rfl rfl)
theorem dX2_measure_267 : decode cX2_measure 267 = .ok (.iload_n 3, 1) := dk_29 (dk_at dksX2_measure_10 8 rfl rfl)
theorem dX2_measure_268 : decode cX2_measure 268 = .ok (.iaload, 1) := dk_46 (dk_at dksX2_measure_10 9 rfl rfl)
theorem dX2_measure_269 : decode cX2_measure 269 = .ok (.iload 5, 2) := dk_21 5 (dk_at dksX2_measure_10 10 rfl rfl)
theorem dX2_measure_271 : decode cX2_measure 271 = .ok (.if_icmp .le 12, 3) := dk_164 0 12 (dk_at dksX2_measure_10 12 rfl rfl)
theorem dX2_measure_274 : decode cX2_measure 274 = .ok (.aload_n 0, 1) := dk_42 (dk_at dksX2_measure_10 15 rfl rfl)
theorem dX2_measure_275 : decode cX2_measure 275 = .ok (.getfield 32, 3) := dk_180 0 32 (dk_at dksX2_measure_10 16 rfl rfl)
theorem dX2_measure_278 : decode cX2_measure 278 = .ok (.iload_n 3, 1) := dk_29 (dk_at dksX2_measure_10 19 rfl rfl)
theorem dX2_measure_279 : decode cX2_measure 279 = .ok (.iaload, 1) := dk_46 (dk_at dksX2_measure_10 20 rfl rfl)
theorem dX2_measure_280 : decode cX2_measure 280 = .ok (.goto 5, 3) := dk_167 0 5 (dk_at dksX2_measure_10 21 rfl rfl)
theorem dX2_measure_283 : decode cX2_measure 283 = .ok (.iload 5, 2) := dk_21 5 (dk_at dksX2_measure_11 0 rfl rfl)
theorem dX2_measure_285 : decode cX2_measure 285 = .ok (.istore 5, 2) := dk_54 5 (dk_at dksX2_measure_11 2 rfl rfl)
theorem dX2_measure_287 : decode cX2_measure 287 = .ok (.iload 6, 2) := dk_21 6 (dk_at dksX2_measure_11 4 rfl rfl)
theorem dX2_measure_289 : decode cX2_measure 289 = .ok (.aload_n 0, 1) := dk_42 (dk_at dksX2_measure_11 6 rfl rfl)
theorem dX2_measure_290 : decode cX2_measure 290 = .ok (.getfield 35, 3) := dk_180 0 35 (dk_at dksX2_measure_11 7 rfl rfl)
theorem dX2_measure_293 : decode cX2_measure 293 = .ok (.iload_n 3, 1) := dk_29 (dk_at dksX2_measure_11 10 rfl rfl)
theorem dX2_measure_294 : decode cX2_measure 294 = .ok (.iaload, 1) := dk_46 (dk_at dksX2_measure_11 11 rfl rfl)
theorem dX2_measure_295 : decode cX2_measure 295 = .ok (.ior, 1) := dk_128 (dk_at dksX2_measure_11 12 rfl rfl)
theorem dX2_measure_296 : decode cX2_measure 296 = .ok (.istore 6, 2) := dk_54 6 (dk_at dksX2_measure_11 13 rfl rfl)
theorem dX2_measure_298 : decode cX2_measure 298 = .ok (.goto 69, 3) := dk_167 0 69 (dk_at dksX2_measure_11 15 rfl rfl)
theorem dX2_measure_301 : decode cX2_measure 301 = .ok (.iload 4, 2) := dk_21 4 (dk_at dksX2_measure_11 18 rfl rfl)
theorem dX2_measure_303 : decode cX2_measure 303 = .ok (.iload 5, 2) := dk_21 5 (dk_at dksX2_measure_11 20 rfl rfl)
theorem dX2_measure_305 : decode cX2_measure 305 = .ok (.invokestatic 110, 3) := dk_184 0 110 (dk_at dksX2_measure_12 0 rfl rfl)
theorem dX2_measure_308 : decode cX2_measure 308 = .ok (.istore 4, 2) := dk_54 4 (dk_at dksX2_measure_12 3 rfl rfl)
theorem dX2_measure_310 : decode cX2_measure 310 = .ok (.iload 4, 2) := dk_21 4 (dk_at dksX2_measure_12 5 rfl rfl)
theorem dX2_measure_312 : decode cX2_measure 312 = .ok (.iconst 1, 1) := dk_4 (dk_at dksX2_measure_12 7 rfl rfl)
theorem dX2_measure_313 : decode cX2_measure 313 = .ok (.iadd, 1) := dk_96 (dk_at dksX2_measure_12 8 rfl rfl)
theorem dX2_measure_314 : decode cX2_measure 314 = .ok (.istore 5, 2) := dk_54 5 (dk_at dksX2_measure_12 9 rfl rfl)
theorem dX2_measure_316 : decode cX2_measure 316 = .ok (.iload 6, 2) := dk_21 6 (dk_at dksX2_measure_12 11 rfl rfl)
theorem dX2_measure_318 : decode cX2_measure 318 = .ok (.iload 7, 2) := dk_21 7 (dk_at dksX2_measure_12 13 rfl rfl)
theorem dX2_measure_320 : decode cX2_measure 320 = .ok (.iconst (-1), 1) := dk_2 (dk_at dksX2_measure_12 15 rfl rfl)
theorem dX2_measure_321 : decode cX2_measure 321 = .ok (.ixor, 1) := dk_130 (dk_at dksX2_measure_12 16 rfl rfl)
theorem dX2_measure_322 : decode cX2_measure 322 = .ok (.iand, 1) := dk_126 (dk_at dksX2_measure_12 17 rfl rfl)
theorem dX2_measure_323 : decode cX2_measure 323 = .ok (.istore 6, 2) := dk_54 6 (dk_at dksX2_measure_12 18 rfl rfl)
theorem dX2_measure_325 : decode cX2_measure 325 = .ok (.goto 42, 3) := dk_167 0 42 (dk_at dksX2_measure_12 20 rfl rfl)
theorem dX2_measure_328 : decode cX2_measure 328 = .ok (.iload 5, 2) := dk_21 5 (dk_at dksX2_measure_13 0 rfl rfl)
theorem dX2_measure_330 : decode cX2_measure 330 = .ok (.iload 4, 2) := dk_21 4 (dk_at dksX2_measure_13 2 rfl rfl)
theorem dX2_measure_332 : decode cX2_measure 332 = .ok (.invokestatic 110, 3) := dk_184 0 110 (dk_at dksX2_measure_13 4 rfl rfl)
theorem dX2_measure_335 : decode cX2_measure 335 = .ok (.istore 5, 2) := dk_54 5 (dk_at dksX2_measure_13 7 rfl rfl)
theorem dX2_measure_337 : decode cX2_measure 337 = .ok (.iload 5, 2) := dk_21 5 (dk_at dksX2_measure_13 9 rfl rfl)
theorem dX2_measure_339 : decode cX2_measure 339 = .ok (.iconst 1, 1) := dk_4 (dk_at dksX2_measure_13 11 rfl rfl)
theorem dX2_measure_340 : decode cX2_measure 340 = .ok (.iadd, 1) := dk_96 (dk_at dksX2_measure_13 12 rfl rfl)
theorem dX2_measure_341 : decode cX2_measure 341 = .ok (.istore 4, 2) := dk_54 4 (dk_at dksX2_measure_13 13 rfl rfl)
theorem dX2_measure_343 : decode cX2_measure 343 = .ok (.iload 6, 2) := dk_21 6 (dk_at dksX2_measure_13 15 rfl rfl)
theorem dX2_measure_345 : decode cX2_measure 345 = .ok (.iload 7, 2) := dk_21 7 (dk_at dksX2_measure_13 17 rfl rfl)
theorem dX2_measure_347 : decode cX2_measure 347 = .ok (.iconst (-1), 1) := dk_2 (dk_at dksX2_measure_13 19 rfl rfl)
theorem dX2_measure_348 : decode cX2_measure 348 = .ok (.ixor, 1) := dk_130 (dk_at dksX2_measure_13 20 rfl rfl)
theorem dX2_measure_349 : decode cX2_measure 349 = .ok (.iand, 1) := dk_126 (dk_at dksX2_measure_13 21 rfl rfl)
theorem dX2_measure_350 : decode cX2_measure 350 = .ok (.istore 6, 2) := dk_54 6 (dk_at dksX2_measure_13 22 rfl rfl)
theorem dX2_measure_352 : decode cX2_measure 352 = .ok (.goto 15, 3) := dk_167 0 15 (dk_at dksX2_measure_14 0 rfl rfl)
theorem dX2_measure_355 : decode cX2_measure 355 = .ok (.iload 6, 2) := dk_21 6 (dk_at dksX2_measure_14 3 rfl rfl)
theorem dX2_measure_357 : decode cX2_measure 357 = .ok (.iload 7, 2) := dk_21 7 (dk_at dksX2_measure_14 5 rfl rfl)
theorem dX2_measure_359 : decode cX2_measure 359 = .ok (.iconst (-1), 1) := dk_2 (dk_at dksX2_measure_14 7 rfl rfl)
theorem dX2_measure_360 : decode cX2_measure 360 = .ok (.ixor, 1) := dk_130 (dk_at dksX2_measure_14 8 rfl rfl)
theorem dX2_measure_361 : decode cX2_measure 361 = .ok (.iand, 1) := dk_126 (dk_at dksX2_measure_14 9 rfl rfl)
theorem dX2_measure_362 : decode cX2_measure 362 = .ok (.iload 8, 2) := dk_21 8 (dk_at dksX2_measure_14 10 rfl rfl)
theorem dX2_measure_364 : decode cX2_measure 364 = .ok (.ior, 1) := dk_128 (dk_at dksX2_measure_14 12 rfl rfl)
theorem dX2_measure_365 : decode cX2_measure 365 = .ok (.istore 6, 2) := dk_54 6 (dk_at dksX2_measure_14 13 rfl rfl)
theorem dX2_measure_367 : decode cX2_measure 367 = .ok (.aload_n 0, 1) := dk_42 (dk_at dksX2_measure_14 15 rfl rfl)
theorem dX2_measure_368 : decode cX2_measure 368 = .ok (.getfield 29, 3) := dk_180 0 29 (dk_at dksX2_measure_14 16 rfl rfl)
theorem dX2_measure_371 : decode cX2_measure 371 = .ok (.iload_n 1, 1) := dk_27 (dk_at dksX2_measure_14 19 rfl rfl)
theorem dX2_measure_372 : decode cX2_measure 372 = .ok (.iload 4, 2) := dk_21 4 (dk_at dksX2_measure_14 20 rfl rfl)
theorem dX2_measure_374 : decode cX2_measure 374 = .ok (.iastore, 1) := dk_79 (dk_at dksX2_measure_14 22 rfl rfl)
theorem dX2_measure_375 : decode cX2_measure 375 = .ok (.aload_n 0, 1) := dk_42 (dk_at dksX2_measure_14 23 rfl rfl)
theorem dX2_measure_376 : decode cX2_measure 376 = .ok (.getfield 32, 3) := dk_180 0 32 (dk_at dksX2_measure_15 0 rfl rfl)
theorem dX2_measure_379 : decode cX2_measure 379 = .ok (.iload_n 1, 1) := dk_27 (dk_at dksX2_measure_15 3 rfl rfl)
theorem dX2_measure_380 : decode cX2_measure 380 = .ok (.iload 5, 2) := dk_21 5 (dk_at dksX2_measure_15 4 rfl rfl)
theorem dX2_measure_382 : decode cX2_measure 382 = .ok (.iastore, 1) := dk_79 (dk_at dksX2_measure_15 6 rfl rfl)
theorem dX2_measure_383 : decode cX2_measure 383 = .ok (.aload_n 0, 1) := dk_42 (dk_at dksX2_measure_15 7 rfl rfl)
theorem dX2_measure_384 : decode cX2_measure 384 = .ok (.getfield 35, 3) := dk_180 0 35 (dk_at dksX2_measure_15 8 rfl rfl)
theorem dX2_measure_387 : decode cX2_measure 387 = .ok (.iload_n 1, 1) := dk_27 (dk_at dksX2_measure_15 11 rfl rfl)
theorem dX2_measure_388 : decode cX2_measure 388 = .ok (.iload 6, 2) := dk_21 6 (dk_at dksX2_measure_15 12 rfl rfl)
theorem dX2_measure_390 : decode cX2_measure 390 = .ok (.iastore, 1) := dk_79 (dk_at dksX2_measure_15 14 rfl rfl)
theorem dX2_measure_391 : decode cX2_measure 391 = .ok (.return_, 1) := dk_177 (dk_at dksX2_measure_15 15 rfl rfl)
abbrev cX2_lesser : ByteArray := prog_17_method_11_code
def yX2_lesser : MethodName := ⟨RX2, "lesser", "(II)I"⟩
def dkwX2_lesser_1 : List UInt8 := [96, 172]
abbrev dktX2_lesser_1 : List UInt8 := dkwX2_lesser_1 ++ []
def dkwX2_lesser_0 : List UInt8 := [26, 4, 162, 0, 7, 4, 167, 0, 4, 26, 61, 28, 27, 4, 96, 162, 0, 7, 28, 167, 0, 6, 27, 4]
abbrev dktX2_lesser_0 : List UInt8 := dkwX2_lesser_0 ++ dktX2_lesser_1
theorem dksX2_lesser_0 : cX2_lesser.data.toList.drop 0 = dktX2_lesser_0 := by decide +kernel
theorem dksX2_lesser_1 : cX2_lesser.data.toList.drop 24 = dktX2_lesser_1 := dk_seg dksX2_lesser_0 24 rfl rfl
theorem dX2_lesser_0 : decode cX2_lesser 0 = .ok (.iload_n 0, 1) := dk_26 (dk_at dksX2_lesser_0 0 rfl rfl)
theorem dX2_lesser_1 : decode cX2_lesser 1 = .ok (.iconst 1, 1) := dk_4 (dk_at dksX2_lesser_0 1 rfl rfl)
theorem dX2_lesser_2 : decode cX2_lesser 2 = .ok (.if_icmp .ge 7, 3) := dk_162 0 7 (dk_at dksX2_lesser_0 2 rfl rfl)
theorem dX2_lesser_5 : decode cX2_lesser 5 = .ok (.iconst 1, 1) := dk_4 (dk_at dksX2_lesser_0 5 rfl rfl)
theorem dX2_lesser_6 : decode cX2_lesser 6 = .ok (.goto 4, 3) := dk_167 0 4 (dk_at dksX2_lesser_0 6 rfl rfl)
theorem dX2_lesser_9 : decode cX2_lesser 9 = .ok (.iload_n 0, 1) := dk_26 (dk_at dksX2_lesser_0 9 rfl rfl)
theorem dX2_lesser_10 : decode cX2_lesser 10 = .ok (.istore_n 2, 1) := dk_61 (dk_at dksX2_lesser_0 10 rfl rfl)
theorem dX2_lesser_11 : decode cX2_lesser 11 = .ok (.iload_n 2, 1) := dk_28 (dk_at dksX2_lesser_0 11 rfl rfl)
theorem dX2_lesser_12 : decode cX2_lesser 12 = .ok (.iload_n 1, 1) := dk_27 (dk_at dksX2_lesser_0 12 rfl rfl)
theorem dX2_lesser_13 : decode cX2_lesser 13 = .ok (.iconst 1, 1) := dk_4 (dk_at dksX2_lesser_0 13 rfl rfl)
theorem dX2_lesser_14 : decode cX2_lesser 14 = .ok (.iadd, 1) := dk_96 (dk_at dksX2_lesser_0 14 rfl rfl)
theorem dX2_lesser_15 : decode cX2_lesser 15 = .ok (.if_icmp .ge 7, 3) := dk_162 0 7 (dk_at dksX2_lesser_0 15 rfl rfl)
theorem dX2_lesser_18 : decode cX2_lesser 18 = .ok (.iload_n 2, 1) := dk_28 (dk_at dksX2_lesser_0 18 rfl rfl)
theorem dX2_lesser_19 : decode cX2_lesser 19 = .ok (.goto 6, 3) := dk_167 0 6 (dk_at dksX2_lesser_0 19 rfl rfl)
theorem dX2_lesser_22 : decode cX2_lesser 22 = .ok (.iload_n 1, 1) := dk_27 (dk_at dksX2_lesser_0 22 rfl rfl)
theorem dX2_lesser_23 : decode cX2_lesser 23 = .ok (.iconst 1, 1) := dk_4 (dk_at dksX2_lesser_0 23 rfl rfl)
theorem dX2_lesser_24 : decode cX2_lesser 24 = .ok (.iadd, 1) := dk_96 (dk_at dksX2_lesser_1 0 rfl rfl)
theorem dX2_lesser_25 : decode cX2_lesser 25 = .ok (.ireturn, 1) := dk_172 (dk_at dksX2_lesser_1 1 rfl rfl)
abbrev cX2_end : ByteArray := prog_17_method_13_code
def yX2_end : MethodName := ⟨RX2, "end", "(I)V"⟩
def dkwX2_end_7 : List UInt8 := [177]
abbrev dktX2_end_7 : List UInt8 := dkwX2_end_7 ++ []
def dkwX2_end_6 : List UInt8 := [181, 0, 121, 167, 0, 21, 42, 180, 0, 44, 42, 180, 0, 114, 4, 100, 28, 79, 42, 16, 7, 181, 0, 121]
abbrev dktX2_end_6 : List UInt8 := dkwX2_end_6 ++ dktX2_end_7
def dkwX2_end_5 : List UInt8 := [100, 46, 16, 10, 160, 0, 24, 42, 180, 0, 41, 42, 180, 0, 114, 4, 100, 28, 79, 42, 16, 6]
abbrev dktX2_end_5 : List UInt8 := dkwX2_end_5 ++ dktX2_end_6
def dkwX2_end_4 : List UInt8 := [180, 0, 114, 154, 0, 12, 42, 16, 8, 181, 0, 121, 167, 0, 58, 42, 180, 0, 38, 42, 180, 0, 114, 4]
abbrev dktX2_end_4 : List UInt8 := dkwX2_end_4 ++ dktX2_end_5
def dkwX2_end_3 : List UInt8 := [42, 180, 0, 114, 46, 42, 180, 0, 44, 42, 180, 0, 114, 46, 182, 0, 117, 61, 167, 255, 169, 42]
abbrev dktX2_end_3 : List UInt8 := dkwX2_end_3 ++ dktX2_end_4
def dkwX2_end_2 : List UInt8 := [180, 0, 114, 4, 100, 181, 0, 114, 42, 42, 180, 0, 38, 42, 180, 0, 114, 46, 28, 2, 42, 180, 0, 41]
abbrev dktX2_end_2 : List UInt8 := dkwX2_end_2 ++ dktX2_end_3
def dkwX2_end_1 : List UInt8 := [42, 180, 0, 38, 42, 180, 0, 114, 4, 100, 46, 16, 6, 16, 9, 184, 0, 85, 153, 0, 50, 42, 89]
abbrev dktX2_end_1 : List UInt8 := dkwX2_end_1 ++ dktX2_end_2
def dkwX2_end_0 : List UInt8 := [27, 61, 42, 180, 0, 114, 158, 0, 86, 42, 180, 0, 38, 42, 180, 0, 114, 4, 100, 46, 5, 159, 0, 24]
abbrev dktX2_end_0 : List UInt8 := dkwX2_end_0 ++ dktX2_end_1
theorem dksX2_end_0 : cX2_end.data.toList.drop 0 = dktX2_end_0 := by decide +kernel
theorem dksX2_end_1 : cX2_end.data.toList.drop 24 = dktX2_end_1 := dk_seg dksX2_end_0 24 rfl rfl
theorem dksX2_end_2 : cX2_end.data.toList.drop 47 = dktX2_end_2 := dk_seg dksX2_end_1 23 rfl rfl
theorem dksX2_end_3 : cX2_end.data.toList.drop 71 = dktX2_end_3 := dk_seg dksX2_end_2 24 rfl rfl
theorem dksX2_end_4 : cX2_end.data.toList.drop 93 = dktX2_end_4 := dk_seg dksX2_end_3 22 rfl rfl
theorem dksX2_end_5 : cX2_end.data.toList.drop 117 = dktX2_end_5 := dk_seg dksX2_end_4 24 rfl rfl
theorem dksX2_end_6 : cX2_end.data.toList.drop 139 = dktX2_end_6 := dk_seg dksX2_end_5 22 rfl rfl
theorem dksX2_end_7 : cX2_end.data.toList.drop 163 = dktX2_end_7 := dk_seg dksX2_end_6 24 rfl rfl
theorem dX2_end_0 : decode cX2_end 0 = .ok (.iload_n 1, 1) := dk_27 (dk_at dksX2_end_0 0 rfl rfl)
theorem dX2_end_1 : decode cX2_end 1 = .ok (.istore_n 2, 1) := dk_61 (dk_at dksX2_end_0 1 rfl rfl)
theorem dX2_end_2 : decode cX2_end 2 = .ok (.aload_n 0, 1) := dk_42 (dk_at dksX2_end_0 2 rfl rfl)
theorem dX2_end_3 : decode cX2_end 3 = .ok (.getfield 114, 3) := dk_180 0 114 (dk_at dksX2_end_0 3 rfl rfl)
theorem dX2_end_6 : decode cX2_end 6 = .ok (.ifCond .le 86, 3) := dk_158 0 86 (dk_at dksX2_end_0 6 rfl rfl)
theorem dX2_end_9 : decode cX2_end 9 = .ok (.aload_n 0, 1) := dk_42 (dk_at dksX2_end_0 9 rfl rfl)
theorem dX2_end_10 : decode cX2_end 10 = .ok (.getfield 38, 3) := dk_180 0 38 (dk_at dksX2_end_0 10 rfl rfl)
theorem dX2_end_13 : decode cX2_end 13 = .ok (.aload_n 0, 1) := dk_42 (dk_at dksX2_end_0 13 rfl rfl)
theorem dX2_end_14 : decode cX2_end 14 = .ok (.getfield 114, 3) := dk_180 0 114 (dk_at dksX2_end_0 14 rfl rfl)
theorem dX2_end_17 : decode cX2_end 17 = .ok (.iconst 1, 1) := dk_4 (dk_at dksX2_end_0 17 rfl rfl)
theorem dX2_end_18 : decode cX2_end 18 = .ok (.isub, 1) := dk_100 (dk_at dksX2_end_0 18 rfl rfl)
theorem dX2_end_19 : decode cX2_end 19 = .ok (.iaload, 1) := dk_46 (dk_at dksX2_end_0 19 rfl rfl)
theorem dX2_end_20 : decode cX2_end 20 = .ok (.iconst 2, 1) := dk_5 (dk_at dksX2_end_0 20 rfl rfl)
theorem dX2_end_21 : decode cX2_end 21 = .ok (.if_icmp .eq 24, 3) := dk_159 0 24 (dk_at dksX2_end_0 21 rfl rfl)
theorem dX2_end_24 : decode cX2_end 24 = .ok (.aload_n 0, 1) := dk_42 (dk_at dksX2_end_1 0 rfl rfl)
theorem dX2_end_25 : decode cX2_end 25 = .ok (.getfield 38, 3) := dk_180 0 38 (dk_at dksX2_end_1 1 rfl rfl)
theorem dX2_end_28 : decode cX2_end 28 = .ok (.aload_n 0, 1) := dk_42 (dk_at dksX2_end_1 4 rfl rfl)
theorem dX2_end_29 : decode cX2_end 29 = .ok (.getfield 114, 3) := dk_180 0 114 (dk_at dksX2_end_1 5 rfl rfl)
theorem dX2_end_32 : decode cX2_end 32 = .ok (.iconst 1, 1) := dk_4 (dk_at dksX2_end_1 8 rfl rfl)
theorem dX2_end_33 : decode cX2_end 33 = .ok (.isub, 1) := dk_100 (dk_at dksX2_end_1 9 rfl rfl)
theorem dX2_end_34 : decode cX2_end 34 = .ok (.iaload, 1) := dk_46 (dk_at dksX2_end_1 10 rfl rfl)
theorem dX2_end_35 : decode cX2_end 35 = .ok (.bipush 6, 2) := dk_16 6 (dk_at dksX2_end_1 11 rfl rfl)
theorem dX2_end_37 : decode cX2_end 37 = .ok (.bipush 9, 2) := dk_16 9 (dk_at dksX2_end_1 13 rfl rfl)
theorem dX2_end_39 : decode cX2_end 39 = .ok (.invokestatic 85, 3) := dk_184 0 85 (dk_at dksX2_end_1 15 rfl rfl)
theorem dX2_end_42 : decode cX2_end 42 = .ok (.ifCond .eq 50, 3) := dk_153 0 50 (dk_at dksX2_end_1 18 rfl rfl)
theorem dX2_end_45 : decode cX2_end 45 = .ok (.aload_n 0, 1) := dk_42 (dk_at dksX2_end_1 21 rfl rfl)
theorem dX2_end_46 : decode cX2_end 46 = .ok (.dup, 1) := dk_89 (dk_at dksX2_end_1 22 rfl rfl)
theorem dX2_end_47 : decode cX2_end 47 = .ok (.getfield 114, 3) := dk_180 0 114 (dk_at dksX2_end_2 0 rfl rfl)
theorem dX2_end_50 : decode cX2_end 50 = .ok (.iconst 1, 1) := dk_4 (dk_at dksX2_end_2 3 rfl rfl)
theorem dX2_end_51 : decode cX2_end 51 = .ok (.isub, 1) := dk_100 (dk_at dksX2_end_2 4 rfl rfl)
theorem dX2_end_52 : decode cX2_end 52 = .ok (.putfield 114, 3) := dk_181 0 114 (dk_at dksX2_end_2 5 rfl rfl)
theorem dX2_end_55 : decode cX2_end 55 = .ok (.aload_n 0, 1) := dk_42 (dk_at dksX2_end_2 8 rfl rfl)
theorem dX2_end_56 : decode cX2_end 56 = .ok (.aload_n 0, 1) := dk_42 (dk_at dksX2_end_2 9 rfl rfl)
theorem dX2_end_57 : decode cX2_end 57 = .ok (.getfield 38, 3) := dk_180 0 38 (dk_at dksX2_end_2 10 rfl rfl)
theorem dX2_end_60 : decode cX2_end 60 = .ok (.aload_n 0, 1) := dk_42 (dk_at dksX2_end_2 13 rfl rfl)
theorem dX2_end_61 : decode cX2_end 61 = .ok (.getfield 114, 3) := dk_180 0 114 (dk_at dksX2_end_2 14 rfl rfl)
theorem dX2_end_64 : decode cX2_end 64 = .ok (.iaload, 1) := dk_46 (dk_at dksX2_end_2 17 rfl rfl)
theorem dX2_end_65 : decode cX2_end 65 = .ok (.iload_n 2, 1) := dk_28 (dk_at dksX2_end_2 18 rfl rfl)
theorem dX2_end_66 : decode cX2_end 66 = .ok (.iconst (-1), 1) := dk_2 (dk_at dksX2_end_2 19 rfl rfl)
theorem dX2_end_67 : decode cX2_end 67 = .ok (.aload_n 0, 1) := dk_42 (dk_at dksX2_end_2 20 rfl rfl)
theorem dX2_end_68 : decode cX2_end 68 = .ok (.getfield 41, 3) := dk_180 0 41 (dk_at dksX2_end_2 21 rfl rfl)
theorem dX2_end_71 : decode cX2_end 71 = .ok (.aload_n 0, 1) := dk_42 (dk_at dksX2_end_3 0 rfl rfl)
theorem dX2_end_72 : decode cX2_end 72 = .ok (.getfield 114, 3) := dk_180 0 114 (dk_at dksX2_end_3 1 rfl rfl)
theorem dX2_end_75 : decode cX2_end 75 = .ok (.iaload, 1) := dk_46 (dk_at dksX2_end_3 4 rfl rfl)
theorem dX2_end_76 : decode cX2_end 76 = .ok (.aload_n 0, 1) := dk_42 (dk_at dksX2_end_3 5 rfl rfl)
theorem dX2_end_77 : decode cX2_end 77 = .ok (.getfield 44, 3) := dk_180 0 44 (dk_at dksX2_end_3 6 rfl rfl)
theorem dX2_end_80 : decode cX2_end 80 = .ok (.aload_n 0, 1) := dk_42 (dk_at dksX2_end_3 9 rfl rfl)
theorem dX2_end_81 : decode cX2_end 81 = .ok (.getfield 114, 3) := dk_180 0 114 (dk_at dksX2_end_3 10 rfl rfl)
theorem dX2_end_84 : decode cX2_end 84 = .ok (.iaload, 1) := dk_46 (dk_at dksX2_end_3 13 rfl rfl)
theorem dX2_end_85 : decode cX2_end 85 = .ok (.invokevirtual 117, 3) := dk_182 0 117 (dk_at dksX2_end_3 14 rfl rfl)
theorem dX2_end_88 : decode cX2_end 88 = .ok (.istore_n 2, 1) := dk_61 (dk_at dksX2_end_3 17 rfl rfl)
theorem dX2_end_89 : decode cX2_end 89 = .ok (.goto (-87), 3) := dk_167 255 169 (dk_at dksX2_end_3 18 rfl rfl)
theorem dX2_end_92 : decode cX2_end 92 = .ok (.aload_n 0, 1) := dk_42 (dk_at dksX2_end_3 21 rfl rfl)
theorem dX2_end_93 : decode cX2_end 93 = .ok (.getfield 114, 3) := dk_180 0 114 (dk_at dksX2_end_4 0 rfl rfl)
theorem dX2_end_96 : decode cX2_end 96 = .ok (.ifCond .ne 12, 3) := dk_154 0 12 (dk_at dksX2_end_4 3 rfl rfl)
theorem dX2_end_99 : decode cX2_end 99 = .ok (.aload_n 0, 1) := dk_42 (dk_at dksX2_end_4 6 rfl rfl)
theorem dX2_end_100 : decode cX2_end 100 = .ok (.bipush 8, 2) := dk_16 8 (dk_at dksX2_end_4 7 rfl rfl)
theorem dX2_end_102 : decode cX2_end 102 = .ok (.putfield 121, 3) := dk_181 0 121 (dk_at dksX2_end_4 9 rfl rfl)
theorem dX2_end_105 : decode cX2_end 105 = .ok (.goto 58, 3) := dk_167 0 58 (dk_at dksX2_end_4 12 rfl rfl)
theorem dX2_end_108 : decode cX2_end 108 = .ok (.aload_n 0, 1) := dk_42 (dk_at dksX2_end_4 15 rfl rfl)
theorem dX2_end_109 : decode cX2_end 109 = .ok (.getfield 38, 3) := dk_180 0 38 (dk_at dksX2_end_4 16 rfl rfl)
theorem dX2_end_112 : decode cX2_end 112 = .ok (.aload_n 0, 1) := dk_42 (dk_at dksX2_end_4 19 rfl rfl)
theorem dX2_end_113 : decode cX2_end 113 = .ok (.getfield 114, 3) := dk_180 0 114 (dk_at dksX2_end_4 20 rfl rfl)
theorem dX2_end_116 : decode cX2_end 116 = .ok (.iconst 1, 1) := dk_4 (dk_at dksX2_end_4 23 rfl rfl)
theorem dX2_end_117 : decode cX2_end 117 = .ok (.isub, 1) := dk_100 (dk_at dksX2_end_5 0 rfl rfl)
theorem dX2_end_118 : decode cX2_end 118 = .ok (.iaload, 1) := dk_46 (dk_at dksX2_end_5 1 rfl rfl)
theorem dX2_end_119 : decode cX2_end 119 = .ok (.bipush 10, 2) := dk_16 10 (dk_at dksX2_end_5 2 rfl rfl)
theorem dX2_end_121 : decode cX2_end 121 = .ok (.if_icmp .ne 24, 3) := dk_160 0 24 (dk_at dksX2_end_5 4 rfl rfl)
theorem dX2_end_124 : decode cX2_end 124 = .ok (.aload_n 0, 1) := dk_42 (dk_at dksX2_end_5 7 rfl rfl)
theorem dX2_end_125 : decode cX2_end 125 = .ok (.getfield 41, 3) := dk_180 0 41 (dk_at dksX2_end_5 8 rfl rfl)
theorem dX2_end_128 : decode cX2_end 128 = .ok (.aload_n 0, 1) := dk_42 (dk_at dksX2_end_5 11 rfl rfl)
theorem dX2_end_129 : decode cX2_end 129 = .ok (.getfield 114, 3) := dk_180 0 114 (dk_at dksX2_end_5 12 rfl rfl)
theorem dX2_end_132 : decode cX2_end 132 = .ok (.iconst 1, 1) := dk_4 (dk_at dksX2_end_5 15 rfl rfl)
theorem dX2_end_133 : decode cX2_end 133 = .ok (.isub, 1) := dk_100 (dk_at dksX2_end_5 16 rfl rfl)
theorem dX2_end_134 : decode cX2_end 134 = .ok (.iload_n 2, 1) := dk_28 (dk_at dksX2_end_5 17 rfl rfl)
theorem dX2_end_135 : decode cX2_end 135 = .ok (.iastore, 1) := dk_79 (dk_at dksX2_end_5 18 rfl rfl)
theorem dX2_end_136 : decode cX2_end 136 = .ok (.aload_n 0, 1) := dk_42 (dk_at dksX2_end_5 19 rfl rfl)
theorem dX2_end_137 : decode cX2_end 137 = .ok (.bipush 6, 2) := dk_16 6 (dk_at dksX2_end_5 20 rfl rfl)
theorem dX2_end_139 : decode cX2_end 139 = .ok (.putfield 121, 3) := dk_181 0 121 (dk_at dksX2_end_6 0 rfl rfl)
theorem dX2_end_142 : decode cX2_end 142 = .ok (.goto 21, 3) := dk_167 0 21 (dk_at dksX2_end_6 3 rfl rfl)
theorem dX2_end_145 : decode cX2_end 145 = .ok (.aload_n 0, 1) := dk_42 (dk_at dksX2_end_6 6 rfl rfl)
theorem dX2_end_146 : decode cX2_end 146 = .ok (.getfield 44, 3) := dk_180 0 44 (dk_at dksX2_end_6 7 rfl rfl)
theorem dX2_end_149 : decode cX2_end 149 = .ok (.aload_n 0, 1) := dk_42 (dk_at dksX2_end_6 10 rfl rfl)
theorem dX2_end_150 : decode cX2_end 150 = .ok (.getfield 114, 3) := dk_180 0 114 (dk_at dksX2_end_6 11 rfl rfl)
theorem dX2_end_153 : decode cX2_end 153 = .ok (.iconst 1, 1) := dk_4 (dk_at dksX2_end_6 14 rfl rfl)
theorem dX2_end_154 : decode cX2_end 154 = .ok (.isub, 1) := dk_100 (dk_at dksX2_end_6 15 rfl rfl)
theorem dX2_end_155 : decode cX2_end 155 = .ok (.iload_n 2, 1) := dk_28 (dk_at dksX2_end_6 16 rfl rfl)
theorem dX2_end_156 : decode cX2_end 156 = .ok (.iastore, 1) := dk_79 (dk_at dksX2_end_6 17 rfl rfl)
theorem dX2_end_157 : decode cX2_end 157 = .ok (.aload_n 0, 1) := dk_42 (dk_at dksX2_end_6 18 rfl rfl)
theorem dX2_end_158 : decode cX2_end 158 = .ok (.bipush 7, 2) := dk_16 7 (dk_at dksX2_end_6 19 rfl rfl)
theorem dX2_end_160 : decode cX2_end 160 = .ok (.putfield 121, 3) := dk_181 0 121 (dk_at dksX2_end_6 21 rfl rfl)
theorem dX2_end_163 : decode cX2_end 163 = .ok (.return_, 1) := dk_177 (dk_at dksX2_end_7 0 rfl rfl)
abbrev cX2_names : ByteArray := prog_17_method_15_code
def yX2_names : MethodName := ⟨RX2, "names", "(C)Z"⟩
def dkwX2_names_5 : List UInt8 := [3, 181, 0, 121, 4, 172]
abbrev dktX2_names_5 : List UInt8 := dkwX2_names_5 ++ []
def dkwX2_names_4 : List UInt8 := [180, 0, 41, 42, 180, 0, 114, 4, 100, 28, 79, 42, 42, 180, 0, 121, 7, 160, 0, 7, 8, 167, 0, 4]
abbrev dktX2_names_4 : List UInt8 := dkwX2_names_4 ++ dktX2_names_5
def dkwX2_names_3 : List UInt8 := [160, 0, 23, 42, 180, 0, 44, 42, 180, 0, 114, 4, 100, 28, 79, 42, 3, 181, 0, 121, 167, 0, 32, 42]
abbrev dktX2_names_3 : List UInt8 := dkwX2_names_3 ++ dktX2_names_4
def dkwX2_names_2 : List UInt8 := [180, 0, 41, 42, 180, 0, 114, 46, 28, 182, 0, 117, 182, 0, 128, 167, 0, 60, 42, 180, 0, 121, 8]
abbrev dktX2_names_2 : List UInt8 := dkwX2_names_2 ++ dktX2_names_3
def dkwX2_names_1 : List UInt8 := [180, 0, 114, 4, 100, 181, 0, 114, 42, 42, 42, 180, 0, 38, 42, 180, 0, 114, 46, 2, 2, 42]
abbrev dktX2_names_1 : List UInt8 := dkwX2_names_1 ++ dktX2_names_2
def dkwX2_names_0 : List UInt8 := [27, 184, 0, 89, 61, 28, 2, 160, 0, 5, 3, 172, 42, 180, 0, 121, 5, 160, 0, 45, 42, 89]
abbrev dktX2_names_0 : List UInt8 := dkwX2_names_0 ++ dktX2_names_1
theorem dksX2_names_0 : cX2_names.data.toList.drop 0 = dktX2_names_0 := by decide +kernel
theorem dksX2_names_1 : cX2_names.data.toList.drop 22 = dktX2_names_1 := dk_seg dksX2_names_0 22 rfl rfl
theorem dksX2_names_2 : cX2_names.data.toList.drop 44 = dktX2_names_2 := dk_seg dksX2_names_1 22 rfl rfl
theorem dksX2_names_3 : cX2_names.data.toList.drop 67 = dktX2_names_3 := dk_seg dksX2_names_2 23 rfl rfl
theorem dksX2_names_4 : cX2_names.data.toList.drop 91 = dktX2_names_4 := dk_seg dksX2_names_3 24 rfl rfl
theorem dksX2_names_5 : cX2_names.data.toList.drop 115 = dktX2_names_5 := dk_seg dksX2_names_4 24 rfl rfl
theorem dX2_names_0 : decode cX2_names 0 = .ok (.iload_n 1, 1) := dk_27 (dk_at dksX2_names_0 0 rfl rfl)
theorem dX2_names_1 : decode cX2_names 1 = .ok (.invokestatic 89, 3) := dk_184 0 89 (dk_at dksX2_names_0 1 rfl rfl)
theorem dX2_names_4 : decode cX2_names 4 = .ok (.istore_n 2, 1) := dk_61 (dk_at dksX2_names_0 4 rfl rfl)
theorem dX2_names_5 : decode cX2_names 5 = .ok (.iload_n 2, 1) := dk_28 (dk_at dksX2_names_0 5 rfl rfl)
theorem dX2_names_6 : decode cX2_names 6 = .ok (.iconst (-1), 1) := dk_2 (dk_at dksX2_names_0 6 rfl rfl)
theorem dX2_names_7 : decode cX2_names 7 = .ok (.if_icmp .ne 5, 3) := dk_160 0 5 (dk_at dksX2_names_0 7 rfl rfl)
theorem dX2_names_10 : decode cX2_names 10 = .ok (.iconst 0, 1) := dk_3 (dk_at dksX2_names_0 10 rfl rfl)
theorem dX2_names_11 : decode cX2_names 11 = .ok (.ireturn, 1) := dk_172 (dk_at dksX2_names_0 11 rfl rfl)
theorem dX2_names_12 : decode cX2_names 12 = .ok (.aload_n 0, 1) := dk_42 (dk_at dksX2_names_0 12 rfl rfl)
theorem dX2_names_13 : decode cX2_names 13 = .ok (.getfield 121, 3) := dk_180 0 121 (dk_at dksX2_names_0 13 rfl rfl)
theorem dX2_names_16 : decode cX2_names 16 = .ok (.iconst 2, 1) := dk_5 (dk_at dksX2_names_0 16 rfl rfl)
theorem dX2_names_17 : decode cX2_names 17 = .ok (.if_icmp .ne 45, 3) := dk_160 0 45 (dk_at dksX2_names_0 17 rfl rfl)
theorem dX2_names_20 : decode cX2_names 20 = .ok (.aload_n 0, 1) := dk_42 (dk_at dksX2_names_0 20 rfl rfl)
theorem dX2_names_21 : decode cX2_names 21 = .ok (.dup, 1) := dk_89 (dk_at dksX2_names_0 21 rfl rfl)
theorem dX2_names_22 : decode cX2_names 22 = .ok (.getfield 114, 3) := dk_180 0 114 (dk_at dksX2_names_1 0 rfl rfl)
theorem dX2_names_25 : decode cX2_names 25 = .ok (.iconst 1, 1) := dk_4 (dk_at dksX2_names_1 3 rfl rfl)
theorem dX2_names_26 : decode cX2_names 26 = .ok (.isub, 1) := dk_100 (dk_at dksX2_names_1 4 rfl rfl)
theorem dX2_names_27 : decode cX2_names 27 = .ok (.putfield 114, 3) := dk_181 0 114 (dk_at dksX2_names_1 5 rfl rfl)
theorem dX2_names_30 : decode cX2_names 30 = .ok (.aload_n 0, 1) := dk_42 (dk_at dksX2_names_1 8 rfl rfl)
theorem dX2_names_31 : decode cX2_names 31 = .ok (.aload_n 0, 1) := dk_42 (dk_at dksX2_names_1 9 rfl rfl)
theorem dX2_names_32 : decode cX2_names 32 = .ok (.aload_n 0, 1) := dk_42 (dk_at dksX2_names_1 10 rfl rfl)
theorem dX2_names_33 : decode cX2_names 33 = .ok (.getfield 38, 3) := dk_180 0 38 (dk_at dksX2_names_1 11 rfl rfl)
theorem dX2_names_36 : decode cX2_names 36 = .ok (.aload_n 0, 1) := dk_42 (dk_at dksX2_names_1 14 rfl rfl)
theorem dX2_names_37 : decode cX2_names 37 = .ok (.getfield 114, 3) := dk_180 0 114 (dk_at dksX2_names_1 15 rfl rfl)
theorem dX2_names_40 : decode cX2_names 40 = .ok (.iaload, 1) := dk_46 (dk_at dksX2_names_1 18 rfl rfl)
theorem dX2_names_41 : decode cX2_names 41 = .ok (.iconst (-1), 1) := dk_2 (dk_at dksX2_names_1 19 rfl rfl)
theorem dX2_names_42 : decode cX2_names 42 = .ok (.iconst (-1), 1) := dk_2 (dk_at dksX2_names_1 20 rfl rfl)
theorem dX2_names_43 : decode cX2_names 43 = .ok (.aload_n 0, 1) := dk_42 (dk_at dksX2_names_1 21 rfl rfl)
theorem dX2_names_44 : decode cX2_names 44 = .ok (.getfield 41, 3) := dk_180 0 41 (dk_at dksX2_names_2 0 rfl rfl)
theorem dX2_names_47 : decode cX2_names 47 = .ok (.aload_n 0, 1) := dk_42 (dk_at dksX2_names_2 3 rfl rfl)
theorem dX2_names_48 : decode cX2_names 48 = .ok (.getfield 114, 3) := dk_180 0 114 (dk_at dksX2_names_2 4 rfl rfl)
theorem dX2_names_51 : decode cX2_names 51 = .ok (.iaload, 1) := dk_46 (dk_at dksX2_names_2 7 rfl rfl)
theorem dX2_names_52 : decode cX2_names 52 = .ok (.iload_n 2, 1) := dk_28 (dk_at dksX2_names_2 8 rfl rfl)
theorem dX2_names_53 : decode cX2_names 53 = .ok (.invokevirtual 117, 3) := dk_182 0 117 (dk_at dksX2_names_2 9 rfl rfl)
theorem dX2_names_56 : decode cX2_names 56 = .ok (.invokevirtual 128, 3) := dk_182 0 128 (dk_at dksX2_names_2 12 rfl rfl)
theorem dX2_names_59 : decode cX2_names 59 = .ok (.goto 60, 3) := dk_167 0 60 (dk_at dksX2_names_2 15 rfl rfl)
theorem dX2_names_62 : decode cX2_names 62 = .ok (.aload_n 0, 1) := dk_42 (dk_at dksX2_names_2 18 rfl rfl)
theorem dX2_names_63 : decode cX2_names 63 = .ok (.getfield 121, 3) := dk_180 0 121 (dk_at dksX2_names_2 19 rfl rfl)
theorem dX2_names_66 : decode cX2_names 66 = .ok (.iconst 5, 1) := dk_8 (dk_at dksX2_names_2 22 rfl rfl)
theorem dX2_names_67 : decode cX2_names 67 = .ok (.if_icmp .ne 23, 3) := dk_160 0 23 (dk_at dksX2_names_3 0 rfl rfl)
theorem dX2_names_70 : decode cX2_names 70 = .ok (.aload_n 0, 1) := dk_42 (dk_at dksX2_names_3 3 rfl rfl)
theorem dX2_names_71 : decode cX2_names 71 = .ok (.getfield 44, 3) := dk_180 0 44 (dk_at dksX2_names_3 4 rfl rfl)
theorem dX2_names_74 : decode cX2_names 74 = .ok (.aload_n 0, 1) := dk_42 (dk_at dksX2_names_3 7 rfl rfl)
theorem dX2_names_75 : decode cX2_names 75 = .ok (.getfield 114, 3) := dk_180 0 114 (dk_at dksX2_names_3 8 rfl rfl)
theorem dX2_names_78 : decode cX2_names 78 = .ok (.iconst 1, 1) := dk_4 (dk_at dksX2_names_3 11 rfl rfl)
theorem dX2_names_79 : decode cX2_names 79 = .ok (.isub, 1) := dk_100 (dk_at dksX2_names_3 12 rfl rfl)
theorem dX2_names_80 : decode cX2_names 80 = .ok (.iload_n 2, 1) := dk_28 (dk_at dksX2_names_3 13 rfl rfl)
theorem dX2_names_81 : decode cX2_names 81 = .ok (.iastore, 1) := dk_79 (dk_at dksX2_names_3 14 rfl rfl)
theorem dX2_names_82 : decode cX2_names 82 = .ok (.aload_n 0, 1) := dk_42 (dk_at dksX2_names_3 15 rfl rfl)
theorem dX2_names_83 : decode cX2_names 83 = .ok (.iconst 0, 1) := dk_3 (dk_at dksX2_names_3 16 rfl rfl)
theorem dX2_names_84 : decode cX2_names 84 = .ok (.putfield 121, 3) := dk_181 0 121 (dk_at dksX2_names_3 17 rfl rfl)
theorem dX2_names_87 : decode cX2_names 87 = .ok (.goto 32, 3) := dk_167 0 32 (dk_at dksX2_names_3 20 rfl rfl)
theorem dX2_names_90 : decode cX2_names 90 = .ok (.aload_n 0, 1) := dk_42 (dk_at dksX2_names_3 23 rfl rfl)
theorem dX2_names_91 : decode cX2_names 91 = .ok (.getfield 41, 3) := dk_180 0 41 (dk_at dksX2_names_4 0 rfl rfl)
theorem dX2_names_94 : decode cX2_names 94 = .ok (.aload_n 0, 1) := dk_42 (dk_at dksX2_names_4 3 rfl rfl)
theorem dX2_names_95 : decode cX2_names 95 = .ok (.getfield 114, 3) := dk_180 0 114 (dk_at dksX2_names_4 4 rfl rfl)
theorem dX2_names_98 : decode cX2_names 98 = .ok (.iconst 1, 1) := dk_4 (dk_at dksX2_names_4 7 rfl rfl)
theorem dX2_names_99 : decode cX2_names 99 = .ok (.isub, 1) := dk_100 (dk_at dksX2_names_4 8 rfl rfl)
theorem dX2_names_100 : decode cX2_names 100 = .ok (.iload_n 2, 1) := dk_28 (dk_at dksX2_names_4 9 rfl rfl)
theorem dX2_names_101 : decode cX2_names 101 = .ok (.iastore, 1) := dk_79 (dk_at dksX2_names_4 10 rfl rfl)
theorem dX2_names_102 : decode cX2_names 102 = .ok (.aload_n 0, 1) := dk_42 (dk_at dksX2_names_4 11 rfl rfl)
theorem dX2_names_103 : decode cX2_names 103 = .ok (.aload_n 0, 1) := dk_42 (dk_at dksX2_names_4 12 rfl rfl)
theorem dX2_names_104 : decode cX2_names 104 = .ok (.getfield 121, 3) := dk_180 0 121 (dk_at dksX2_names_4 13 rfl rfl)
theorem dX2_names_107 : decode cX2_names 107 = .ok (.iconst 4, 1) := dk_7 (dk_at dksX2_names_4 16 rfl rfl)
theorem dX2_names_108 : decode cX2_names 108 = .ok (.if_icmp .ne 7, 3) := dk_160 0 7 (dk_at dksX2_names_4 17 rfl rfl)
theorem dX2_names_111 : decode cX2_names 111 = .ok (.iconst 5, 1) := dk_8 (dk_at dksX2_names_4 20 rfl rfl)
theorem dX2_names_112 : decode cX2_names 112 = .ok (.goto 4, 3) := dk_167 0 4 (dk_at dksX2_names_4 21 rfl rfl)
theorem dX2_names_115 : decode cX2_names 115 = .ok (.iconst 0, 1) := dk_3 (dk_at dksX2_names_5 0 rfl rfl)
theorem dX2_names_116 : decode cX2_names 116 = .ok (.putfield 121, 3) := dk_181 0 121 (dk_at dksX2_names_5 1 rfl rfl)
theorem dX2_names_119 : decode cX2_names 119 = .ok (.iconst 1, 1) := dk_4 (dk_at dksX2_names_5 4 rfl rfl)
theorem dX2_names_120 : decode cX2_names 120 = .ok (.ireturn, 1) := dk_172 (dk_at dksX2_names_5 5 rfl rfl)
abbrev cX2_sigma : ByteArray := prog_17_method_20_code
def yX2_sigma : MethodName := ⟨RX2, "sigma", "()I"⟩
def dkwX2_sigma_1 : List UInt8 := [167, 0, 4, 2, 172]
abbrev dktX2_sigma_1 : List UInt8 := dkwX2_sigma_1 ++ []
def dkwX2_sigma_0 : List UInt8 := [42, 3, 181, 0, 81, 42, 182, 0, 145, 153, 0, 17, 42, 180, 0, 29, 42, 180, 0, 103, 4, 100, 46]
abbrev dktX2_sigma_0 : List UInt8 := dkwX2_sigma_0 ++ dktX2_sigma_1
theorem dksX2_sigma_0 : cX2_sigma.data.toList.drop 0 = dktX2_sigma_0 := by decide +kernel
theorem dksX2_sigma_1 : cX2_sigma.data.toList.drop 23 = dktX2_sigma_1 := dk_seg dksX2_sigma_0 23 rfl rfl
theorem dX2_sigma_0 : decode cX2_sigma 0 = .ok (.aload_n 0, 1) := dk_42 (dk_at dksX2_sigma_0 0 rfl rfl)
theorem dX2_sigma_1 : decode cX2_sigma 1 = .ok (.iconst 0, 1) := dk_3 (dk_at dksX2_sigma_0 1 rfl rfl)
theorem dX2_sigma_2 : decode cX2_sigma 2 = .ok (.putfield 81, 3) := dk_181 0 81 (dk_at dksX2_sigma_0 2 rfl rfl)
theorem dX2_sigma_5 : decode cX2_sigma 5 = .ok (.aload_n 0, 1) := dk_42 (dk_at dksX2_sigma_0 5 rfl rfl)
theorem dX2_sigma_6 : decode cX2_sigma 6 = .ok (.invokevirtual 145, 3) := dk_182 0 145 (dk_at dksX2_sigma_0 6 rfl rfl)
theorem dX2_sigma_9 : decode cX2_sigma 9 = .ok (.ifCond .eq 17, 3) := dk_153 0 17 (dk_at dksX2_sigma_0 9 rfl rfl)
theorem dX2_sigma_12 : decode cX2_sigma 12 = .ok (.aload_n 0, 1) := dk_42 (dk_at dksX2_sigma_0 12 rfl rfl)
theorem dX2_sigma_13 : decode cX2_sigma 13 = .ok (.getfield 29, 3) := dk_180 0 29 (dk_at dksX2_sigma_0 13 rfl rfl)
theorem dX2_sigma_16 : decode cX2_sigma 16 = .ok (.aload_n 0, 1) := dk_42 (dk_at dksX2_sigma_0 16 rfl rfl)
theorem dX2_sigma_17 : decode cX2_sigma 17 = .ok (.getfield 103, 3) := dk_180 0 103 (dk_at dksX2_sigma_0 17 rfl rfl)
theorem dX2_sigma_20 : decode cX2_sigma 20 = .ok (.iconst 1, 1) := dk_4 (dk_at dksX2_sigma_0 20 rfl rfl)
theorem dX2_sigma_21 : decode cX2_sigma 21 = .ok (.isub, 1) := dk_100 (dk_at dksX2_sigma_0 21 rfl rfl)
theorem dX2_sigma_22 : decode cX2_sigma 22 = .ok (.iaload, 1) := dk_46 (dk_at dksX2_sigma_0 22 rfl rfl)
theorem dX2_sigma_23 : decode cX2_sigma 23 = .ok (.goto 4, 3) := dk_167 0 4 (dk_at dksX2_sigma_1 0 rfl rfl)
theorem dX2_sigma_26 : decode cX2_sigma 26 = .ok (.iconst (-1), 1) := dk_2 (dk_at dksX2_sigma_1 3 rfl rfl)
theorem dX2_sigma_27 : decode cX2_sigma 27 = .ok (.ireturn, 1) := dk_172 (dk_at dksX2_sigma_1 4 rfl rfl)
abbrev cX2_isFormula : ByteArray := prog_17_method_18_code
def yX2_isFormula : MethodName := ⟨RX2, "isFormula", "()Z"⟩
def dkwX2_isFormula_1 : List UInt8 := [3, 172]
abbrev dktX2_isFormula_1 : List UInt8 := dkwX2_isFormula_1 ++ []
def dkwX2_isFormula_0 : List UInt8 := [42, 182, 0, 141, 42, 180, 0, 96, 160, 0, 16, 42, 180, 0, 121, 16, 8, 160, 0, 7, 4, 167, 0, 4]
abbrev dktX2_isFormula_0 : List UInt8 := dkwX2_isFormula_0 ++ dktX2_isFormula_1
theorem dksX2_isFormula_0 : cX2_isFormula.data.toList.drop 0 = dktX2_isFormula_0 := by decide +kernel
theorem dksX2_isFormula_1 : cX2_isFormula.data.toList.drop 24 = dktX2_isFormula_1 := dk_seg dksX2_isFormula_0 24 rfl rfl
theorem dX2_isFormula_0 : decode cX2_isFormula 0 = .ok (.aload_n 0, 1) := dk_42 (dk_at dksX2_isFormula_0 0 rfl rfl)
theorem dX2_isFormula_1 : decode cX2_isFormula 1 = .ok (.invokevirtual 141, 3) := dk_182 0 141 (dk_at dksX2_isFormula_0 1 rfl rfl)
theorem dX2_isFormula_4 : decode cX2_isFormula 4 = .ok (.aload_n 0, 1) := dk_42 (dk_at dksX2_isFormula_0 4 rfl rfl)
theorem dX2_isFormula_5 : decode cX2_isFormula 5 = .ok (.getfield 96, 3) := dk_180 0 96 (dk_at dksX2_isFormula_0 5 rfl rfl)
theorem dX2_isFormula_8 : decode cX2_isFormula 8 = .ok (.if_icmp .ne 16, 3) := dk_160 0 16 (dk_at dksX2_isFormula_0 8 rfl rfl)
theorem dX2_isFormula_11 : decode cX2_isFormula 11 = .ok (.aload_n 0, 1) := dk_42 (dk_at dksX2_isFormula_0 11 rfl rfl)
theorem dX2_isFormula_12 : decode cX2_isFormula 12 = .ok (.getfield 121, 3) := dk_180 0 121 (dk_at dksX2_isFormula_0 12 rfl rfl)
theorem dX2_isFormula_15 : decode cX2_isFormula 15 = .ok (.bipush 8, 2) := dk_16 8 (dk_at dksX2_isFormula_0 15 rfl rfl)
theorem dX2_isFormula_17 : decode cX2_isFormula 17 = .ok (.if_icmp .ne 7, 3) := dk_160 0 7 (dk_at dksX2_isFormula_0 17 rfl rfl)
theorem dX2_isFormula_20 : decode cX2_isFormula 20 = .ok (.iconst 1, 1) := dk_4 (dk_at dksX2_isFormula_0 20 rfl rfl)
theorem dX2_isFormula_21 : decode cX2_isFormula 21 = .ok (.goto 4, 3) := dk_167 0 4 (dk_at dksX2_isFormula_0 21 rfl rfl)
theorem dX2_isFormula_24 : decode cX2_isFormula 24 = .ok (.iconst 0, 1) := dk_3 (dk_at dksX2_isFormula_1 0 rfl rfl)
theorem dX2_isFormula_25 : decode cX2_isFormula 25 = .ok (.ireturn, 1) := dk_172 (dk_at dksX2_isFormula_1 1 rfl rfl)
abbrev cX2_pi : ByteArray := prog_17_method_21_code
def yX2_pi : MethodName := ⟨RX2, "pi", "()I"⟩
def dkwX2_pi_1 : List UInt8 := [167, 0, 4, 2, 172]
abbrev dktX2_pi_1 : List UInt8 := dkwX2_pi_1 ++ []
def dkwX2_pi_0 : List UInt8 := [42, 3, 181, 0, 81, 42, 182, 0, 145, 153, 0, 17, 42, 180, 0, 32, 42, 180, 0, 103, 4, 100, 46]
abbrev dktX2_pi_0 : List UInt8 := dkwX2_pi_0 ++ dktX2_pi_1
theorem dksX2_pi_0 : cX2_pi.data.toList.drop 0 = dktX2_pi_0 := by decide +kernel
theorem dksX2_pi_1 : cX2_pi.data.toList.drop 23 = dktX2_pi_1 := dk_seg dksX2_pi_0 23 rfl rfl
theorem dX2_pi_0 : decode cX2_pi 0 = .ok (.aload_n 0, 1) := dk_42 (dk_at dksX2_pi_0 0 rfl rfl)
theorem dX2_pi_1 : decode cX2_pi 1 = .ok (.iconst 0, 1) := dk_3 (dk_at dksX2_pi_0 1 rfl rfl)
theorem dX2_pi_2 : decode cX2_pi 2 = .ok (.putfield 81, 3) := dk_181 0 81 (dk_at dksX2_pi_0 2 rfl rfl)
theorem dX2_pi_5 : decode cX2_pi 5 = .ok (.aload_n 0, 1) := dk_42 (dk_at dksX2_pi_0 5 rfl rfl)
theorem dX2_pi_6 : decode cX2_pi 6 = .ok (.invokevirtual 145, 3) := dk_182 0 145 (dk_at dksX2_pi_0 6 rfl rfl)
theorem dX2_pi_9 : decode cX2_pi 9 = .ok (.ifCond .eq 17, 3) := dk_153 0 17 (dk_at dksX2_pi_0 9 rfl rfl)
theorem dX2_pi_12 : decode cX2_pi 12 = .ok (.aload_n 0, 1) := dk_42 (dk_at dksX2_pi_0 12 rfl rfl)
theorem dX2_pi_13 : decode cX2_pi 13 = .ok (.getfield 32, 3) := dk_180 0 32 (dk_at dksX2_pi_0 13 rfl rfl)
theorem dX2_pi_16 : decode cX2_pi 16 = .ok (.aload_n 0, 1) := dk_42 (dk_at dksX2_pi_0 16 rfl rfl)
theorem dX2_pi_17 : decode cX2_pi 17 = .ok (.getfield 103, 3) := dk_180 0 103 (dk_at dksX2_pi_0 17 rfl rfl)
theorem dX2_pi_20 : decode cX2_pi 20 = .ok (.iconst 1, 1) := dk_4 (dk_at dksX2_pi_0 20 rfl rfl)
theorem dX2_pi_21 : decode cX2_pi 21 = .ok (.isub, 1) := dk_100 (dk_at dksX2_pi_0 21 rfl rfl)
theorem dX2_pi_22 : decode cX2_pi 22 = .ok (.iaload, 1) := dk_46 (dk_at dksX2_pi_0 22 rfl rfl)
theorem dX2_pi_23 : decode cX2_pi 23 = .ok (.goto 4, 3) := dk_167 0 4 (dk_at dksX2_pi_1 0 rfl rfl)
theorem dX2_pi_26 : decode cX2_pi 26 = .ok (.iconst (-1), 1) := dk_2 (dk_at dksX2_pi_1 3 rfl rfl)
theorem dX2_pi_27 : decode cX2_pi 27 = .ok (.ireturn, 1) := dk_172 (dk_at dksX2_pi_1 4 rfl rfl)
abbrev cX2_free : ByteArray := prog_17_method_22_code
def yX2_free : MethodName := ⟨RX2, "free", "()I"⟩
def dkwX2_free_1 : List UInt8 := [167, 0, 4, 2, 172]
abbrev dktX2_free_1 : List UInt8 := dkwX2_free_1 ++ []
def dkwX2_free_0 : List UInt8 := [42, 3, 181, 0, 81, 42, 182, 0, 145, 153, 0, 17, 42, 180, 0, 35, 42, 180, 0, 103, 4, 100, 46]
abbrev dktX2_free_0 : List UInt8 := dkwX2_free_0 ++ dktX2_free_1
theorem dksX2_free_0 : cX2_free.data.toList.drop 0 = dktX2_free_0 := by decide +kernel
theorem dksX2_free_1 : cX2_free.data.toList.drop 23 = dktX2_free_1 := dk_seg dksX2_free_0 23 rfl rfl
theorem dX2_free_0 : decode cX2_free 0 = .ok (.aload_n 0, 1) := dk_42 (dk_at dksX2_free_0 0 rfl rfl)
theorem dX2_free_1 : decode cX2_free 1 = .ok (.iconst 0, 1) := dk_3 (dk_at dksX2_free_0 1 rfl rfl)
theorem dX2_free_2 : decode cX2_free 2 = .ok (.putfield 81, 3) := dk_181 0 81 (dk_at dksX2_free_0 2 rfl rfl)
theorem dX2_free_5 : decode cX2_free 5 = .ok (.aload_n 0, 1) := dk_42 (dk_at dksX2_free_0 5 rfl rfl)
theorem dX2_free_6 : decode cX2_free 6 = .ok (.invokevirtual 145, 3) := dk_182 0 145 (dk_at dksX2_free_0 6 rfl rfl)
theorem dX2_free_9 : decode cX2_free 9 = .ok (.ifCond .eq 17, 3) := dk_153 0 17 (dk_at dksX2_free_0 9 rfl rfl)
theorem dX2_free_12 : decode cX2_free 12 = .ok (.aload_n 0, 1) := dk_42 (dk_at dksX2_free_0 12 rfl rfl)
theorem dX2_free_13 : decode cX2_free 13 = .ok (.getfield 35, 3) := dk_180 0 35 (dk_at dksX2_free_0 13 rfl rfl)
theorem dX2_free_16 : decode cX2_free 16 = .ok (.aload_n 0, 1) := dk_42 (dk_at dksX2_free_0 16 rfl rfl)
theorem dX2_free_17 : decode cX2_free 17 = .ok (.getfield 103, 3) := dk_180 0 103 (dk_at dksX2_free_0 17 rfl rfl)
theorem dX2_free_20 : decode cX2_free 20 = .ok (.iconst 1, 1) := dk_4 (dk_at dksX2_free_0 20 rfl rfl)
theorem dX2_free_21 : decode cX2_free 21 = .ok (.isub, 1) := dk_100 (dk_at dksX2_free_0 21 rfl rfl)
theorem dX2_free_22 : decode cX2_free 22 = .ok (.iaload, 1) := dk_46 (dk_at dksX2_free_0 22 rfl rfl)
theorem dX2_free_23 : decode cX2_free 23 = .ok (.goto 4, 3) := dk_167 0 4 (dk_at dksX2_free_1 0 rfl rfl)
theorem dX2_free_26 : decode cX2_free 26 = .ok (.iconst (-1), 1) := dk_2 (dk_at dksX2_free_1 3 rfl rfl)
theorem dX2_free_27 : decode cX2_free 27 = .ok (.ireturn, 1) := dk_172 (dk_at dksX2_free_1 4 rfl rfl)
abbrev cX2_isSo : ByteArray := prog_17_method_29_code
def yX2_isSo : MethodName := ⟨RX2, "isSo", "(IIII)Z"⟩
def dkwX2_isSo_5 : List UInt8 := [51, 172]
abbrev dktX2_isSo_5 : List UInt8 := dkwX2_isSo_5 ++ []
def dkwX2_isSo_4 : List UInt8 := [180, 0, 47, 16, 125, 42, 180, 0, 103, 4, 100, 104, 28, 96, 8, 29, 104, 96, 16, 25, 21, 4, 104, 96]
abbrev dktX2_isSo_4 : List UInt8 := dkwX2_isSo_4 ++ dktX2_isSo_5
def dkwX2_isSo_3 : List UInt8 := [16, 6, 163, 0, 7, 3, 167, 0, 4, 5, 182, 0, 99, 154, 0, 5, 3, 172, 42, 27, 182, 0, 165, 42]
abbrev dktX2_isSo_3 : List UInt8 := dkwX2_isSo_3 ++ dktX2_isSo_4
def dkwX2_isSo_2 : List UInt8 := [54, 5, 42, 21, 5, 154, 0, 7, 4, 167, 0, 24, 42, 182, 0, 145, 153, 0, 16, 42, 182, 0, 162]
abbrev dktX2_isSo_2 : List UInt8 := dkwX2_isSo_2 ++ dktX2_isSo_3
def dkwX2_isSo_1 : List UInt8 := [100, 184, 0, 85, 153, 0, 19, 21, 4, 3, 27, 4, 100, 184, 0, 85, 153, 0, 7, 4, 167, 0, 4, 3]
abbrev dktX2_isSo_1 : List UInt8 := dkwX2_isSo_1 ++ dktX2_isSo_2
def dkwX2_isSo_0 : List UInt8 := [27, 4, 8, 184, 0, 85, 153, 0, 41, 28, 3, 27, 4, 100, 184, 0, 85, 153, 0, 30, 29, 3, 27, 4]
abbrev dktX2_isSo_0 : List UInt8 := dkwX2_isSo_0 ++ dktX2_isSo_1
theorem dksX2_isSo_0 : cX2_isSo.data.toList.drop 0 = dktX2_isSo_0 := by decide +kernel
theorem dksX2_isSo_1 : cX2_isSo.data.toList.drop 24 = dktX2_isSo_1 := dk_seg dksX2_isSo_0 24 rfl rfl
theorem dksX2_isSo_2 : cX2_isSo.data.toList.drop 48 = dktX2_isSo_2 := dk_seg dksX2_isSo_1 24 rfl rfl
theorem dksX2_isSo_3 : cX2_isSo.data.toList.drop 71 = dktX2_isSo_3 := dk_seg dksX2_isSo_2 23 rfl rfl
theorem dksX2_isSo_4 : cX2_isSo.data.toList.drop 95 = dktX2_isSo_4 := dk_seg dksX2_isSo_3 24 rfl rfl
theorem dksX2_isSo_5 : cX2_isSo.data.toList.drop 119 = dktX2_isSo_5 := dk_seg dksX2_isSo_4 24 rfl rfl
theorem dX2_isSo_0 : decode cX2_isSo 0 = .ok (.iload_n 1, 1) := dk_27 (dk_at dksX2_isSo_0 0 rfl rfl)
theorem dX2_isSo_1 : decode cX2_isSo 1 = .ok (.iconst 1, 1) := dk_4 (dk_at dksX2_isSo_0 1 rfl rfl)
theorem dX2_isSo_2 : decode cX2_isSo 2 = .ok (.iconst 5, 1) := dk_8 (dk_at dksX2_isSo_0 2 rfl rfl)
theorem dX2_isSo_3 : decode cX2_isSo 3 = .ok (.invokestatic 85, 3) := dk_184 0 85 (dk_at dksX2_isSo_0 3 rfl rfl)
theorem dX2_isSo_6 : decode cX2_isSo 6 = .ok (.ifCond .eq 41, 3) := dk_153 0 41 (dk_at dksX2_isSo_0 6 rfl rfl)
theorem dX2_isSo_9 : decode cX2_isSo 9 = .ok (.iload_n 2, 1) := dk_28 (dk_at dksX2_isSo_0 9 rfl rfl)
theorem dX2_isSo_10 : decode cX2_isSo 10 = .ok (.iconst 0, 1) := dk_3 (dk_at dksX2_isSo_0 10 rfl rfl)
theorem dX2_isSo_11 : decode cX2_isSo 11 = .ok (.iload_n 1, 1) := dk_27 (dk_at dksX2_isSo_0 11 rfl rfl)
theorem dX2_isSo_12 : decode cX2_isSo 12 = .ok (.iconst 1, 1) := dk_4 (dk_at dksX2_isSo_0 12 rfl rfl)
theorem dX2_isSo_13 : decode cX2_isSo 13 = .ok (.isub, 1) := dk_100 (dk_at dksX2_isSo_0 13 rfl rfl)
theorem dX2_isSo_14 : decode cX2_isSo 14 = .ok (.invokestatic 85, 3) := dk_184 0 85 (dk_at dksX2_isSo_0 14 rfl rfl)
theorem dX2_isSo_17 : decode cX2_isSo 17 = .ok (.ifCond .eq 30, 3) := dk_153 0 30 (dk_at dksX2_isSo_0 17 rfl rfl)
theorem dX2_isSo_20 : decode cX2_isSo 20 = .ok (.iload_n 3, 1) := dk_29 (dk_at dksX2_isSo_0 20 rfl rfl)
theorem dX2_isSo_21 : decode cX2_isSo 21 = .ok (.iconst 0, 1) := dk_3 (dk_at dksX2_isSo_0 21 rfl rfl)
theorem dX2_isSo_22 : decode cX2_isSo 22 = .ok (.iload_n 1, 1) := dk_27 (dk_at dksX2_isSo_0 22 rfl rfl)
theorem dX2_isSo_23 : decode cX2_isSo 23 = .ok (.iconst 1, 1) := dk_4 (dk_at dksX2_isSo_0 23 rfl rfl)
theorem dX2_isSo_24 : decode cX2_isSo 24 = .ok (.isub, 1) := dk_100 (dk_at dksX2_isSo_1 0 rfl rfl)
theorem dX2_isSo_25 : decode cX2_isSo 25 = .ok (.invokestatic 85, 3) := dk_184 0 85 (dk_at dksX2_isSo_1 1 rfl rfl)
theorem dX2_isSo_28 : decode cX2_isSo 28 = .ok (.ifCond .eq 19, 3) := dk_153 0 19 (dk_at dksX2_isSo_1 4 rfl rfl)
theorem dX2_isSo_31 : decode cX2_isSo 31 = .ok (.iload 4, 2) := dk_21 4 (dk_at dksX2_isSo_1 7 rfl rfl)
theorem dX2_isSo_33 : decode cX2_isSo 33 = .ok (.iconst 0, 1) := dk_3 (dk_at dksX2_isSo_1 9 rfl rfl)
theorem dX2_isSo_34 : decode cX2_isSo 34 = .ok (.iload_n 1, 1) := dk_27 (dk_at dksX2_isSo_1 10 rfl rfl)
theorem dX2_isSo_35 : decode cX2_isSo 35 = .ok (.iconst 1, 1) := dk_4 (dk_at dksX2_isSo_1 11 rfl rfl)
theorem dX2_isSo_36 : decode cX2_isSo 36 = .ok (.isub, 1) := dk_100 (dk_at dksX2_isSo_1 12 rfl rfl)
theorem dX2_isSo_37 : decode cX2_isSo 37 = .ok (.invokestatic 85, 3) := dk_184 0 85 (dk_at dksX2_isSo_1 13 rfl rfl)
theorem dX2_isSo_40 : decode cX2_isSo 40 = .ok (.ifCond .eq 7, 3) := dk_153 0 7 (dk_at dksX2_isSo_1 16 rfl rfl)
theorem dX2_isSo_43 : decode cX2_isSo 43 = .ok (.iconst 1, 1) := dk_4 (dk_at dksX2_isSo_1 19 rfl rfl)
theorem dX2_isSo_44 : decode cX2_isSo 44 = .ok (.goto 4, 3) := dk_167 0 4 (dk_at dksX2_isSo_1 20 rfl rfl)
theorem dX2_isSo_47 : decode cX2_isSo 47 = .ok (.iconst 0, 1) := dk_3 (dk_at dksX2_isSo_1 23 rfl rfl)
theorem dX2_isSo_48 : decode cX2_isSo 48 = .ok (.istore 5, 2) := dk_54 5 (dk_at dksX2_isSo_2 0 rfl rfl)
theorem dX2_isSo_50 : decode cX2_isSo 50 = .ok (.aload_n 0, 1) := dk_42 (dk_at dksX2_isSo_2 2 rfl rfl)
theorem dX2_isSo_51 : decode cX2_isSo 51 = .ok (.iload 5, 2) := dk_21 5 (dk_at dksX2_isSo_2 3 rfl rfl)
theorem dX2_isSo_53 : decode cX2_isSo 53 = .ok (.ifCond .ne 7, 3) := dk_154 0 7 (dk_at dksX2_isSo_2 5 rfl rfl)
theorem dX2_isSo_56 : decode cX2_isSo 56 = .ok (.iconst 1, 1) := dk_4 (dk_at dksX2_isSo_2 8 rfl rfl)
theorem dX2_isSo_57 : decode cX2_isSo 57 = .ok (.goto 24, 3) := dk_167 0 24 (dk_at dksX2_isSo_2 9 rfl rfl)
theorem dX2_isSo_60 : decode cX2_isSo 60 = .ok (.aload_n 0, 1) := dk_42 (dk_at dksX2_isSo_2 12 rfl rfl)
theorem dX2_isSo_61 : decode cX2_isSo 61 = .ok (.invokevirtual 145, 3) := dk_182 0 145 (dk_at dksX2_isSo_2 13 rfl rfl)
theorem dX2_isSo_64 : decode cX2_isSo 64 = .ok (.ifCond .eq 16, 3) := dk_153 0 16 (dk_at dksX2_isSo_2 16 rfl rfl)
theorem dX2_isSo_67 : decode cX2_isSo 67 = .ok (.aload_n 0, 1) := dk_42 (dk_at dksX2_isSo_2 19 rfl rfl)
theorem dX2_isSo_68 : decode cX2_isSo 68 = .ok (.invokevirtual 162, 3) := dk_182 0 162 (dk_at dksX2_isSo_2 20 rfl rfl)
theorem dX2_isSo_71 : decode cX2_isSo 71 = .ok (.bipush 6, 2) := dk_16 6 (dk_at dksX2_isSo_3 0 rfl rfl)
theorem dX2_isSo_73 : decode cX2_isSo 73 = .ok (.if_icmp .gt 7, 3) := dk_163 0 7 (dk_at dksX2_isSo_3 2 rfl rfl)
theorem dX2_isSo_76 : decode cX2_isSo 76 = .ok (.iconst 0, 1) := dk_3 (dk_at dksX2_isSo_3 5 rfl rfl)
theorem dX2_isSo_77 : decode cX2_isSo 77 = .ok (.goto 4, 3) := dk_167 0 4 (dk_at dksX2_isSo_3 6 rfl rfl)
theorem dX2_isSo_80 : decode cX2_isSo 80 = .ok (.iconst 2, 1) := dk_5 (dk_at dksX2_isSo_3 9 rfl rfl)
theorem dX2_isSo_81 : decode cX2_isSo 81 = .ok (.invokevirtual 99, 3) := dk_182 0 99 (dk_at dksX2_isSo_3 10 rfl rfl)
theorem dX2_isSo_84 : decode cX2_isSo 84 = .ok (.ifCond .ne 5, 3) := dk_154 0 5 (dk_at dksX2_isSo_3 13 rfl rfl)
theorem dX2_isSo_87 : decode cX2_isSo 87 = .ok (.iconst 0, 1) := dk_3 (dk_at dksX2_isSo_3 16 rfl rfl)
theorem dX2_isSo_88 : decode cX2_isSo 88 = .ok (.ireturn, 1) := dk_172 (dk_at dksX2_isSo_3 17 rfl rfl)
theorem dX2_isSo_89 : decode cX2_isSo 89 = .ok (.aload_n 0, 1) := dk_42 (dk_at dksX2_isSo_3 18 rfl rfl)
theorem dX2_isSo_90 : decode cX2_isSo 90 = .ok (.iload_n 1, 1) := dk_27 (dk_at dksX2_isSo_3 19 rfl rfl)
theorem dX2_isSo_91 : decode cX2_isSo 91 = .ok (.invokevirtual 165, 3) := dk_182 0 165 (dk_at dksX2_isSo_3 20 rfl rfl)
theorem dX2_isSo_94 : decode cX2_isSo 94 = .ok (.aload_n 0, 1) := dk_42 (dk_at dksX2_isSo_3 23 rfl rfl)
theorem dX2_isSo_95 : decode cX2_isSo 95 = .ok (.getfield 47, 3) := dk_180 0 47 (dk_at dksX2_isSo_4 0 rfl rfl)
theorem dX2_isSo_98 : decode cX2_isSo 98 = .ok (.bipush 125, 2) := dk_16 125 (dk_at dksX2_isSo_4 3 rfl rfl)
theorem dX2_isSo_100 : decode cX2_isSo 100 = .ok (.aload_n 0, 1) := dk_42 (dk_at dksX2_isSo_4 5 rfl rfl)
theorem dX2_isSo_101 : decode cX2_isSo 101 = .ok (.getfield 103, 3) := dk_180 0 103 (dk_at dksX2_isSo_4 6 rfl rfl)
theorem dX2_isSo_104 : decode cX2_isSo 104 = .ok (.iconst 1, 1) := dk_4 (dk_at dksX2_isSo_4 9 rfl rfl)
theorem dX2_isSo_105 : decode cX2_isSo 105 = .ok (.isub, 1) := dk_100 (dk_at dksX2_isSo_4 10 rfl rfl)
theorem dX2_isSo_106 : decode cX2_isSo 106 = .ok (.imul, 1) := dk_104 (dk_at dksX2_isSo_4 11 rfl rfl)
theorem dX2_isSo_107 : decode cX2_isSo 107 = .ok (.iload_n 2, 1) := dk_28 (dk_at dksX2_isSo_4 12 rfl rfl)
theorem dX2_isSo_108 : decode cX2_isSo 108 = .ok (.iadd, 1) := dk_96 (dk_at dksX2_isSo_4 13 rfl rfl)
theorem dX2_isSo_109 : decode cX2_isSo 109 = .ok (.iconst 5, 1) := dk_8 (dk_at dksX2_isSo_4 14 rfl rfl)
theorem dX2_isSo_110 : decode cX2_isSo 110 = .ok (.iload_n 3, 1) := dk_29 (dk_at dksX2_isSo_4 15 rfl rfl)
theorem dX2_isSo_111 : decode cX2_isSo 111 = .ok (.imul, 1) := dk_104 (dk_at dksX2_isSo_4 16 rfl rfl)
theorem dX2_isSo_112 : decode cX2_isSo 112 = .ok (.iadd, 1) := dk_96 (dk_at dksX2_isSo_4 17 rfl rfl)
theorem dX2_isSo_113 : decode cX2_isSo 113 = .ok (.bipush 25, 2) := dk_16 25 (dk_at dksX2_isSo_4 18 rfl rfl)
theorem dX2_isSo_115 : decode cX2_isSo 115 = .ok (.iload 4, 2) := dk_21 4 (dk_at dksX2_isSo_4 20 rfl rfl)
theorem dX2_isSo_117 : decode cX2_isSo 117 = .ok (.imul, 1) := dk_104 (dk_at dksX2_isSo_4 22 rfl rfl)
theorem dX2_isSo_118 : decode cX2_isSo 118 = .ok (.iadd, 1) := dk_96 (dk_at dksX2_isSo_4 23 rfl rfl)
theorem dX2_isSo_119 : decode cX2_isSo 119 = .ok (.baload, 1) := dk_51 (dk_at dksX2_isSo_5 0 rfl rfl)
theorem dX2_isSo_120 : decode cX2_isSo 120 = .ok (.ireturn, 1) := dk_172 (dk_at dksX2_isSo_5 1 rfl rfl)
abbrev cX2_quantifiers : ByteArray := prog_17_method_28_code
def yX2_quantifiers : MethodName := ⟨RX2, "quantifiers", "()I"⟩
def dkwX2_quantifiers_1 : List UInt8 := [16, 9, 184, 0, 85, 153, 0, 7, 4, 167, 0, 4, 3, 96, 60, 132, 2, 1, 167, 255, 218, 27, 172]
abbrev dktX2_quantifiers_1 : List UInt8 := dkwX2_quantifiers_1 ++ []
def dkwX2_quantifiers_0 : List UInt8 := [3, 60, 3, 61, 28, 42, 180, 0, 96, 162, 0, 36, 27, 42, 180, 0, 7, 28, 52, 184, 0, 93, 16, 6]
abbrev dktX2_quantifiers_0 : List UInt8 := dkwX2_quantifiers_0 ++ dktX2_quantifiers_1
theorem dksX2_quantifiers_0 : cX2_quantifiers.data.toList.drop 0 = dktX2_quantifiers_0 := by decide +kernel
theorem dksX2_quantifiers_1 : cX2_quantifiers.data.toList.drop 24 = dktX2_quantifiers_1 := dk_seg dksX2_quantifiers_0 24 rfl rfl
theorem dX2_quantifiers_0 : decode cX2_quantifiers 0 = .ok (.iconst 0, 1) := dk_3 (dk_at dksX2_quantifiers_0 0 rfl rfl)
theorem dX2_quantifiers_1 : decode cX2_quantifiers 1 = .ok (.istore_n 1, 1) := dk_60 (dk_at dksX2_quantifiers_0 1 rfl rfl)
theorem dX2_quantifiers_2 : decode cX2_quantifiers 2 = .ok (.iconst 0, 1) := dk_3 (dk_at dksX2_quantifiers_0 2 rfl rfl)
theorem dX2_quantifiers_3 : decode cX2_quantifiers 3 = .ok (.istore_n 2, 1) := dk_61 (dk_at dksX2_quantifiers_0 3 rfl rfl)
theorem dX2_quantifiers_4 : decode cX2_quantifiers 4 = .ok (.iload_n 2, 1) := dk_28 (dk_at dksX2_quantifiers_0 4 rfl rfl)
theorem dX2_quantifiers_5 : decode cX2_quantifiers 5 = .ok (.aload_n 0, 1) := dk_42 (dk_at dksX2_quantifiers_0 5 rfl rfl)
theorem dX2_quantifiers_6 : decode cX2_quantifiers 6 = .ok (.getfield 96, 3) := dk_180 0 96 (dk_at dksX2_quantifiers_0 6 rfl rfl)
theorem dX2_quantifiers_9 : decode cX2_quantifiers 9 = .ok (.if_icmp .ge 36, 3) := dk_162 0 36 (dk_at dksX2_quantifiers_0 9 rfl rfl)
theorem dX2_quantifiers_12 : decode cX2_quantifiers 12 = .ok (.iload_n 1, 1) := dk_27 (dk_at dksX2_quantifiers_0 12 rfl rfl)
theorem dX2_quantifiers_13 : decode cX2_quantifiers 13 = .ok (.aload_n 0, 1) := dk_42 (dk_at dksX2_quantifiers_0 13 rfl rfl)
theorem dX2_quantifiers_14 : decode cX2_quantifiers 14 = .ok (.getfield 7, 3) := dk_180 0 7 (dk_at dksX2_quantifiers_0 14 rfl rfl)
theorem dX2_quantifiers_17 : decode cX2_quantifiers 17 = .ok (.iload_n 2, 1) := dk_28 (dk_at dksX2_quantifiers_0 17 rfl rfl)
theorem dX2_quantifiers_18 : decode cX2_quantifiers 18 = .ok (.caload, 1) := dk_52 (dk_at dksX2_quantifiers_0 18 rfl rfl)
theorem dX2_quantifiers_19 : decode cX2_quantifiers 19 = .ok (.invokestatic 93, 3) := dk_184 0 93 (dk_at dksX2_quantifiers_0 19 rfl rfl)
theorem dX2_quantifiers_22 : decode cX2_quantifiers 22 = .ok (.bipush 6, 2) := dk_16 6 (dk_at dksX2_quantifiers_0 22 rfl rfl)
theorem dX2_quantifiers_24 : decode cX2_quantifiers 24 = .ok (.bipush 9, 2) := dk_16 9 (dk_at dksX2_quantifiers_1 0 rfl rfl)
theorem dX2_quantifiers_26 : decode cX2_quantifiers 26 = .ok (.invokestatic 85, 3) := dk_184 0 85 (dk_at dksX2_quantifiers_1 2 rfl rfl)
theorem dX2_quantifiers_29 : decode cX2_quantifiers 29 = .ok (.ifCond .eq 7, 3) := dk_153 0 7 (dk_at dksX2_quantifiers_1 5 rfl rfl)
theorem dX2_quantifiers_32 : decode cX2_quantifiers 32 = .ok (.iconst 1, 1) := dk_4 (dk_at dksX2_quantifiers_1 8 rfl rfl)
theorem dX2_quantifiers_33 : decode cX2_quantifiers 33 = .ok (.goto 4, 3) := dk_167 0 4 (dk_at dksX2_quantifiers_1 9 rfl rfl)
theorem dX2_quantifiers_36 : decode cX2_quantifiers 36 = .ok (.iconst 0, 1) := dk_3 (dk_at dksX2_quantifiers_1 12 rfl rfl)
theorem dX2_quantifiers_37 : decode cX2_quantifiers 37 = .ok (.iadd, 1) := dk_96 (dk_at dksX2_quantifiers_1 13 rfl rfl)
theorem dX2_quantifiers_38 : decode cX2_quantifiers 38 = .ok (.istore_n 1, 1) := dk_60 (dk_at dksX2_quantifiers_1 14 rfl rfl)
theorem dX2_quantifiers_39 : decode cX2_quantifiers 39 = .ok (.iinc 2 1, 3) := dk_132 2 1 (dk_at dksX2_quantifiers_1 15 rfl rfl)
theorem dX2_quantifiers_42 : decode cX2_quantifiers 42 = .ok (.goto (-38), 3) := dk_167 255 218 (dk_at dksX2_quantifiers_1 18 rfl rfl)
theorem dX2_quantifiers_45 : decode cX2_quantifiers 45 = .ok (.iload_n 1, 1) := dk_27 (dk_at dksX2_quantifiers_1 21 rfl rfl)
theorem dX2_quantifiers_46 : decode cX2_quantifiers 46 = .ok (.ireturn, 1) := dk_172 (dk_at dksX2_quantifiers_1 22 rfl rfl)
abbrev cX2_fill : ByteArray := prog_17_method_27_code
def yX2_fill : MethodName := ⟨RX2, "fill", "(I)V"⟩
def dkwX2_fill_4 : List UInt8 := [167, 255, 166, 177]
abbrev dktX2_fill_4 : List UInt8 := dkwX2_fill_4 ++ []
def dkwX2_fill_3 : List UInt8 := [27, 182, 0, 159, 153, 0, 7, 4, 167, 0, 4, 3, 84, 132, 3, 1, 167, 255, 182, 132, 2, 1]
abbrev dktX2_fill_3 : List UInt8 := dkwX2_fill_3 ++ dktX2_fill_4
def dkwX2_fill_2 : List UInt8 := [167, 0, 4, 3, 54, 4, 42, 180, 0, 47, 16, 125, 28, 104, 29, 96, 21, 4, 153, 0, 17, 42, 28, 29]
abbrev dktX2_fill_2 : List UInt8 := dkwX2_fill_2 ++ dktX2_fill_3
def dkwX2_fill_1 : List UInt8 := [162, 0, 25, 29, 4, 184, 0, 153, 27, 162, 0, 16, 29, 5, 184, 0, 153, 27, 162, 0, 7, 4]
abbrev dktX2_fill_1 : List UInt8 := dkwX2_fill_1 ++ dktX2_fill_2
def dkwX2_fill_0 : List UInt8 := [3, 61, 28, 42, 180, 0, 103, 162, 0, 88, 3, 62, 29, 16, 125, 162, 0, 74, 29, 3, 184, 0, 153, 27]
abbrev dktX2_fill_0 : List UInt8 := dkwX2_fill_0 ++ dktX2_fill_1
theorem dksX2_fill_0 : cX2_fill.data.toList.drop 0 = dktX2_fill_0 := by decide +kernel
theorem dksX2_fill_1 : cX2_fill.data.toList.drop 24 = dktX2_fill_1 := dk_seg dksX2_fill_0 24 rfl rfl
theorem dksX2_fill_2 : cX2_fill.data.toList.drop 46 = dktX2_fill_2 := dk_seg dksX2_fill_1 22 rfl rfl
theorem dksX2_fill_3 : cX2_fill.data.toList.drop 70 = dktX2_fill_3 := dk_seg dksX2_fill_2 24 rfl rfl
theorem dksX2_fill_4 : cX2_fill.data.toList.drop 92 = dktX2_fill_4 := dk_seg dksX2_fill_3 22 rfl rfl
theorem dX2_fill_0 : decode cX2_fill 0 = .ok (.iconst 0, 1) := dk_3 (dk_at dksX2_fill_0 0 rfl rfl)
theorem dX2_fill_1 : decode cX2_fill 1 = .ok (.istore_n 2, 1) := dk_61 (dk_at dksX2_fill_0 1 rfl rfl)
theorem dX2_fill_2 : decode cX2_fill 2 = .ok (.iload_n 2, 1) := dk_28 (dk_at dksX2_fill_0 2 rfl rfl)
theorem dX2_fill_3 : decode cX2_fill 3 = .ok (.aload_n 0, 1) := dk_42 (dk_at dksX2_fill_0 3 rfl rfl)
theorem dX2_fill_4 : decode cX2_fill 4 = .ok (.getfield 103, 3) := dk_180 0 103 (dk_at dksX2_fill_0 4 rfl rfl)
theorem dX2_fill_7 : decode cX2_fill 7 = .ok (.if_icmp .ge 88, 3) := dk_162 0 88 (dk_at dksX2_fill_0 7 rfl rfl)
theorem dX2_fill_10 : decode cX2_fill 10 = .ok (.iconst 0, 1) := dk_3 (dk_at dksX2_fill_0 10 rfl rfl)
theorem dX2_fill_11 : decode cX2_fill 11 = .ok (.istore_n 3, 1) := dk_62 (dk_at dksX2_fill_0 11 rfl rfl)
theorem dX2_fill_12 : decode cX2_fill 12 = .ok (.iload_n 3, 1) := dk_29 (dk_at dksX2_fill_0 12 rfl rfl)
theorem dX2_fill_13 : decode cX2_fill 13 = .ok (.bipush 125, 2) := dk_16 125 (dk_at dksX2_fill_0 13 rfl rfl)
theorem dX2_fill_15 : decode cX2_fill 15 = .ok (.if_icmp .ge 74, 3) := dk_162 0 74 (dk_at dksX2_fill_0 15 rfl rfl)
theorem dX2_fill_18 : decode cX2_fill 18 = .ok (.iload_n 3, 1) := dk_29 (dk_at dksX2_fill_0 18 rfl rfl)
theorem dX2_fill_19 : decode cX2_fill 19 = .ok (.iconst 0, 1) := dk_3 (dk_at dksX2_fill_0 19 rfl rfl)
theorem dX2_fill_20 : decode cX2_fill 20 = .ok (.invokestatic 153, 3) := dk_184 0 153 (dk_at dksX2_fill_0 20 rfl rfl)
theorem dX2_fill_23 : decode cX2_fill 23 = .ok (.iload_n 1, 1) := dk_27 (dk_at dksX2_fill_0 23 rfl rfl)
theorem dX2_fill_24 : decode cX2_fill 24 = .ok (.if_icmp .ge 25, 3) := dk_162 0 25 (dk_at dksX2_fill_1 0 rfl rfl)
theorem dX2_fill_27 : decode cX2_fill 27 = .ok (.iload_n 3, 1) := dk_29 (dk_at dksX2_fill_1 3 rfl rfl)
theorem dX2_fill_28 : decode cX2_fill 28 = .ok (.iconst 1, 1) := dk_4 (dk_at dksX2_fill_1 4 rfl rfl)
theorem dX2_fill_29 : decode cX2_fill 29 = .ok (.invokestatic 153, 3) := dk_184 0 153 (dk_at dksX2_fill_1 5 rfl rfl)
theorem dX2_fill_32 : decode cX2_fill 32 = .ok (.iload_n 1, 1) := dk_27 (dk_at dksX2_fill_1 8 rfl rfl)
theorem dX2_fill_33 : decode cX2_fill 33 = .ok (.if_icmp .ge 16, 3) := dk_162 0 16 (dk_at dksX2_fill_1 9 rfl rfl)
theorem dX2_fill_36 : decode cX2_fill 36 = .ok (.iload_n 3, 1) := dk_29 (dk_at dksX2_fill_1 12 rfl rfl)
theorem dX2_fill_37 : decode cX2_fill 37 = .ok (.iconst 2, 1) := dk_5 (dk_at dksX2_fill_1 13 rfl rfl)
theorem dX2_fill_38 : decode cX2_fill 38 = .ok (.invokestatic 153, 3) := dk_184 0 153 (dk_at dksX2_fill_1 14 rfl rfl)
theorem dX2_fill_41 : decode cX2_fill 41 = .ok (.iload_n 1, 1) := dk_27 (dk_at dksX2_fill_1 17 rfl rfl)
theorem dX2_fill_42 : decode cX2_fill 42 = .ok (.if_icmp .ge 7, 3) := dk_162 0 7 (dk_at dksX2_fill_1 18 rfl rfl)
theorem dX2_fill_45 : decode cX2_fill 45 = .ok (.iconst 1, 1) := dk_4 (dk_at dksX2_fill_1 21 rfl rfl)
theorem dX2_fill_46 : decode cX2_fill 46 = .ok (.goto 4, 3) := dk_167 0 4 (dk_at dksX2_fill_2 0 rfl rfl)
theorem dX2_fill_49 : decode cX2_fill 49 = .ok (.iconst 0, 1) := dk_3 (dk_at dksX2_fill_2 3 rfl rfl)
theorem dX2_fill_50 : decode cX2_fill 50 = .ok (.istore 4, 2) := dk_54 4 (dk_at dksX2_fill_2 4 rfl rfl)
theorem dX2_fill_52 : decode cX2_fill 52 = .ok (.aload_n 0, 1) := dk_42 (dk_at dksX2_fill_2 6 rfl rfl)
theorem dX2_fill_53 : decode cX2_fill 53 = .ok (.getfield 47, 3) := dk_180 0 47 (dk_at dksX2_fill_2 7 rfl rfl)
theorem dX2_fill_56 : decode cX2_fill 56 = .ok (.bipush 125, 2) := dk_16 125 (dk_at dksX2_fill_2 10 rfl rfl)
theorem dX2_fill_58 : decode cX2_fill 58 = .ok (.iload_n 2, 1) := dk_28 (dk_at dksX2_fill_2 12 rfl rfl)
theorem dX2_fill_59 : decode cX2_fill 59 = .ok (.imul, 1) := dk_104 (dk_at dksX2_fill_2 13 rfl rfl)
theorem dX2_fill_60 : decode cX2_fill 60 = .ok (.iload_n 3, 1) := dk_29 (dk_at dksX2_fill_2 14 rfl rfl)
theorem dX2_fill_61 : decode cX2_fill 61 = .ok (.iadd, 1) := dk_96 (dk_at dksX2_fill_2 15 rfl rfl)
theorem dX2_fill_62 : decode cX2_fill 62 = .ok (.iload 4, 2) := dk_21 4 (dk_at dksX2_fill_2 16 rfl rfl)
theorem dX2_fill_64 : decode cX2_fill 64 = .ok (.ifCond .eq 17, 3) := dk_153 0 17 (dk_at dksX2_fill_2 18 rfl rfl)
theorem dX2_fill_67 : decode cX2_fill 67 = .ok (.aload_n 0, 1) := dk_42 (dk_at dksX2_fill_2 21 rfl rfl)
theorem dX2_fill_68 : decode cX2_fill 68 = .ok (.iload_n 2, 1) := dk_28 (dk_at dksX2_fill_2 22 rfl rfl)
theorem dX2_fill_69 : decode cX2_fill 69 = .ok (.iload_n 3, 1) := dk_29 (dk_at dksX2_fill_2 23 rfl rfl)
theorem dX2_fill_70 : decode cX2_fill 70 = .ok (.iload_n 1, 1) := dk_27 (dk_at dksX2_fill_3 0 rfl rfl)
theorem dX2_fill_71 : decode cX2_fill 71 = .ok (.invokevirtual 159, 3) := dk_182 0 159 (dk_at dksX2_fill_3 1 rfl rfl)
theorem dX2_fill_74 : decode cX2_fill 74 = .ok (.ifCond .eq 7, 3) := dk_153 0 7 (dk_at dksX2_fill_3 4 rfl rfl)
theorem dX2_fill_77 : decode cX2_fill 77 = .ok (.iconst 1, 1) := dk_4 (dk_at dksX2_fill_3 7 rfl rfl)
theorem dX2_fill_78 : decode cX2_fill 78 = .ok (.goto 4, 3) := dk_167 0 4 (dk_at dksX2_fill_3 8 rfl rfl)
theorem dX2_fill_81 : decode cX2_fill 81 = .ok (.iconst 0, 1) := dk_3 (dk_at dksX2_fill_3 11 rfl rfl)
theorem dX2_fill_82 : decode cX2_fill 82 = .ok (.bastore, 1) := dk_84 (dk_at dksX2_fill_3 12 rfl rfl)
theorem dX2_fill_83 : decode cX2_fill 83 = .ok (.iinc 3 1, 3) := dk_132 3 1 (dk_at dksX2_fill_3 13 rfl rfl)
theorem dX2_fill_86 : decode cX2_fill 86 = .ok (.goto (-74), 3) := dk_167 255 182 (dk_at dksX2_fill_3 16 rfl rfl)
theorem dX2_fill_89 : decode cX2_fill 89 = .ok (.iinc 2 1, 3) := dk_132 2 1 (dk_at dksX2_fill_3 19 rfl rfl)
theorem dX2_fill_92 : decode cX2_fill 92 = .ok (.goto (-90), 3) := dk_167 255 166 (dk_at dksX2_fill_4 0 rfl rfl)
theorem dX2_fill_95 : decode cX2_fill 95 = .ok (.return_, 1) := dk_177 (dk_at dksX2_fill_4 3 rfl rfl)
abbrev cX2_numberAt : ByteArray := prog_17_method_24_code
def yX2_numberAt : MethodName := ⟨RX2, "numberAt", "(II)I"⟩
def dkwX2_numberAt_0 : List UInt8 := [26, 27, 184, 0, 149, 108, 8, 112, 172]
abbrev dktX2_numberAt_0 : List UInt8 := dkwX2_numberAt_0 ++ []
theorem dksX2_numberAt_0 : cX2_numberAt.data.toList.drop 0 = dktX2_numberAt_0 := by decide +kernel
theorem dX2_numberAt_0 : decode cX2_numberAt 0 = .ok (.iload_n 0, 1) := dk_26 (dk_at dksX2_numberAt_0 0 rfl rfl)
theorem dX2_numberAt_1 : decode cX2_numberAt 1 = .ok (.iload_n 1, 1) := dk_27 (dk_at dksX2_numberAt_0 1 rfl rfl)
theorem dX2_numberAt_2 : decode cX2_numberAt 2 = .ok (.invokestatic 149, 3) := dk_184 0 149 (dk_at dksX2_numberAt_0 2 rfl rfl)
theorem dX2_numberAt_5 : decode cX2_numberAt 5 = .ok (.idiv, 1) := dk_108 (dk_at dksX2_numberAt_0 5 rfl rfl)
theorem dX2_numberAt_6 : decode cX2_numberAt 6 = .ok (.iconst 5, 1) := dk_8 (dk_at dksX2_numberAt_0 6 rfl rfl)
theorem dX2_numberAt_7 : decode cX2_numberAt 7 = .ok (.irem, 1) := dk_112 (dk_at dksX2_numberAt_0 7 rfl rfl)
theorem dX2_numberAt_8 : decode cX2_numberAt 8 = .ok (.ireturn, 1) := dk_172 (dk_at dksX2_numberAt_0 8 rfl rfl)
abbrev cX2_power : ByteArray := prog_17_method_23_code
def yX2_power : MethodName := ⟨RX2, "power", "(I)I"⟩
def dkwX2_power_0 : List UInt8 := [26, 154, 0, 7, 4, 167, 0, 14, 26, 4, 160, 0, 7, 8, 167, 0, 5, 16, 25, 172]
abbrev dktX2_power_0 : List UInt8 := dkwX2_power_0 ++ []
theorem dksX2_power_0 : cX2_power.data.toList.drop 0 = dktX2_power_0 := by decide +kernel
theorem dX2_power_0 : decode cX2_power 0 = .ok (.iload_n 0, 1) := dk_26 (dk_at dksX2_power_0 0 rfl rfl)
theorem dX2_power_1 : decode cX2_power 1 = .ok (.ifCond .ne 7, 3) := dk_154 0 7 (dk_at dksX2_power_0 1 rfl rfl)
theorem dX2_power_4 : decode cX2_power 4 = .ok (.iconst 1, 1) := dk_4 (dk_at dksX2_power_0 4 rfl rfl)
theorem dX2_power_5 : decode cX2_power 5 = .ok (.goto 14, 3) := dk_167 0 14 (dk_at dksX2_power_0 5 rfl rfl)
theorem dX2_power_8 : decode cX2_power 8 = .ok (.iload_n 0, 1) := dk_26 (dk_at dksX2_power_0 8 rfl rfl)
theorem dX2_power_9 : decode cX2_power 9 = .ok (.iconst 1, 1) := dk_4 (dk_at dksX2_power_0 9 rfl rfl)
theorem dX2_power_10 : decode cX2_power 10 = .ok (.if_icmp .ne 7, 3) := dk_160 0 7 (dk_at dksX2_power_0 10 rfl rfl)
theorem dX2_power_13 : decode cX2_power 13 = .ok (.iconst 5, 1) := dk_8 (dk_at dksX2_power_0 13 rfl rfl)
theorem dX2_power_14 : decode cX2_power 14 = .ok (.goto 5, 3) := dk_167 0 5 (dk_at dksX2_power_0 14 rfl rfl)
theorem dX2_power_17 : decode cX2_power 17 = .ok (.bipush 25, 2) := dk_16 25 (dk_at dksX2_power_0 17 rfl rfl)
theorem dX2_power_19 : decode cX2_power 19 = .ok (.ireturn, 1) := dk_172 (dk_at dksX2_power_0 19 rfl rfl)
abbrev cX2_isPartSo : ByteArray := prog_17_method_25_code
def yX2_isPartSo : MethodName := ⟨RX2, "isPartSo", "(III)Z"⟩
def dkwX2_isPartSo_10 : List UInt8 := [172, 42, 27, 28, 29, 182, 0, 156, 172]
abbrev dktX2_isPartSo_10 : List UInt8 := dkwX2_isPartSo_10 ++ []
def dkwX2_isPartSo_9 : List UInt8 := [153, 0, 7, 4, 167, 0, 4, 3, 172, 21, 4, 153, 0, 8, 21, 5, 153, 0, 7, 4, 167, 0, 4, 3]
abbrev dktX2_isPartSo_9 : List UInt8 := dkwX2_isPartSo_9 ++ dktX2_isPartSo_10
def dkwX2_isPartSo_8 : List UInt8 := [21, 4, 153, 0, 12, 21, 5, 153, 0, 7, 4, 167, 0, 4, 3, 172, 21, 4, 154, 0, 8, 21, 5]
abbrev dktX2_isPartSo_8 : List UInt8 := dkwX2_isPartSo_8 ++ dktX2_isPartSo_9
def dkwX2_isPartSo_7 : List UInt8 := [184, 0, 153, 160, 0, 7, 4, 167, 0, 4, 3, 172, 21, 4, 154, 0, 7, 4, 167, 0, 4, 3, 172]
abbrev dktX2_isPartSo_7 : List UInt8 := dkwX2_isPartSo_7 ++ dktX2_isPartSo_8
def dkwX2_isPartSo_6 : List UInt8 := [167, 0, 4, 3, 172, 28, 42, 180, 0, 23, 27, 46, 184, 0, 153, 28, 42, 180, 0, 26, 27, 46]
abbrev dktX2_isPartSo_6 : List UInt8 := dkwX2_isPartSo_6 ++ dktX2_isPartSo_7
def dkwX2_isPartSo_5 : List UInt8 := [28, 42, 180, 0, 23, 27, 46, 184, 0, 153, 28, 42, 180, 0, 26, 27, 46, 184, 0, 153, 162, 0, 7, 4]
abbrev dktX2_isPartSo_5 : List UInt8 := dkwX2_isPartSo_5 ++ dktX2_isPartSo_6
def dkwX2_isPartSo_4 : List UInt8 := [170, 0, 0, 0, 0, 155, 0, 0, 0, 0, 0, 0, 0, 5, 0, 0, 0, 38, 0, 0, 0, 67, 0, 0, 0, 96, 0, 0, 0, 107, 0, 0, 0, 123, 0, 0, 0, 139]
abbrev dktX2_isPartSo_4 : List UInt8 := dkwX2_isPartSo_4 ++ dktX2_isPartSo_5
def dkwX2_isPartSo_3 : List UInt8 := [54, 5, 42, 180, 0, 13, 27, 46]
abbrev dktX2_isPartSo_3 : List UInt8 := dkwX2_isPartSo_3 ++ dktX2_isPartSo_4
def dkwX2_isPartSo_2 : List UInt8 := [180, 0, 47, 16, 125, 42, 180, 0, 20, 27, 46, 104, 28, 96, 51, 153, 0, 7, 4, 167, 0, 4, 3]
abbrev dktX2_isPartSo_2 : List UInt8 := dkwX2_isPartSo_2 ++ dktX2_isPartSo_3
def dkwX2_isPartSo_1 : List UInt8 := [96, 51, 153, 0, 7, 4, 167, 0, 4, 3, 54, 4, 42, 180, 0, 20, 27, 46, 2, 159, 0, 26, 42]
abbrev dktX2_isPartSo_1 : List UInt8 := dkwX2_isPartSo_1 ++ dktX2_isPartSo_2
def dkwX2_isPartSo_0 : List UInt8 := [42, 180, 0, 17, 27, 46, 2, 159, 0, 26, 42, 180, 0, 47, 16, 125, 42, 180, 0, 17, 27, 46, 104, 28]
abbrev dktX2_isPartSo_0 : List UInt8 := dkwX2_isPartSo_0 ++ dktX2_isPartSo_1
theorem dksX2_isPartSo_0 : cX2_isPartSo.data.toList.drop 0 = dktX2_isPartSo_0 := by decide +kernel
theorem dksX2_isPartSo_1 : cX2_isPartSo.data.toList.drop 24 = dktX2_isPartSo_1 := dk_seg dksX2_isPartSo_0 24 rfl rfl
theorem dksX2_isPartSo_2 : cX2_isPartSo.data.toList.drop 47 = dktX2_isPartSo_2 := dk_seg dksX2_isPartSo_1 23 rfl rfl
theorem dksX2_isPartSo_3 : cX2_isPartSo.data.toList.drop 70 = dktX2_isPartSo_3 := dk_seg dksX2_isPartSo_2 23 rfl rfl
theorem dksX2_isPartSo_4 : cX2_isPartSo.data.toList.drop 78 = dktX2_isPartSo_4 := dk_seg dksX2_isPartSo_3 8 rfl rfl
theorem dksX2_isPartSo_5 : cX2_isPartSo.data.toList.drop 116 = dktX2_isPartSo_5 := dk_seg dksX2_isPartSo_4 38 rfl rfl
theorem dksX2_isPartSo_6 : cX2_isPartSo.data.toList.drop 140 = dktX2_isPartSo_6 := dk_seg dksX2_isPartSo_5 24 rfl rfl
theorem dksX2_isPartSo_7 : cX2_isPartSo.data.toList.drop 162 = dktX2_isPartSo_7 := dk_seg dksX2_isPartSo_6 22 rfl rfl
theorem dksX2_isPartSo_8 : cX2_isPartSo.data.toList.drop 185 = dktX2_isPartSo_8 := dk_seg dksX2_isPartSo_7 23 rfl rfl
theorem dksX2_isPartSo_9 : cX2_isPartSo.data.toList.drop 208 = dktX2_isPartSo_9 := dk_seg dksX2_isPartSo_8 23 rfl rfl
theorem dksX2_isPartSo_10 : cX2_isPartSo.data.toList.drop 232 = dktX2_isPartSo_10 := dk_seg dksX2_isPartSo_9 24 rfl rfl
theorem dX2_isPartSo_0 : decode cX2_isPartSo 0 = .ok (.aload_n 0, 1) := dk_42 (dk_at dksX2_isPartSo_0 0 rfl rfl)
theorem dX2_isPartSo_1 : decode cX2_isPartSo 1 = .ok (.getfield 17, 3) := dk_180 0 17 (dk_at dksX2_isPartSo_0 1 rfl rfl)
theorem dX2_isPartSo_4 : decode cX2_isPartSo 4 = .ok (.iload_n 1, 1) := dk_27 (dk_at dksX2_isPartSo_0 4 rfl rfl)
theorem dX2_isPartSo_5 : decode cX2_isPartSo 5 = .ok (.iaload, 1) := dk_46 (dk_at dksX2_isPartSo_0 5 rfl rfl)
theorem dX2_isPartSo_6 : decode cX2_isPartSo 6 = .ok (.iconst (-1), 1) := dk_2 (dk_at dksX2_isPartSo_0 6 rfl rfl)
theorem dX2_isPartSo_7 : decode cX2_isPartSo 7 = .ok (.if_icmp .eq 26, 3) := dk_159 0 26 (dk_at dksX2_isPartSo_0 7 rfl rfl)
theorem dX2_isPartSo_10 : decode cX2_isPartSo 10 = .ok (.aload_n 0, 1) := dk_42 (dk_at dksX2_isPartSo_0 10 rfl rfl)
theorem dX2_isPartSo_11 : decode cX2_isPartSo 11 = .ok (.getfield 47, 3) := dk_180 0 47 (dk_at dksX2_isPartSo_0 11 rfl rfl)
theorem dX2_isPartSo_14 : decode cX2_isPartSo 14 = .ok (.bipush 125, 2) := dk_16 125 (dk_at dksX2_isPartSo_0 14 rfl rfl)
theorem dX2_isPartSo_16 : decode cX2_isPartSo 16 = .ok (.aload_n 0, 1) := dk_42 (dk_at dksX2_isPartSo_0 16 rfl rfl)
theorem dX2_isPartSo_17 : decode cX2_isPartSo 17 = .ok (.getfield 17, 3) := dk_180 0 17 (dk_at dksX2_isPartSo_0 17 rfl rfl)
theorem dX2_isPartSo_20 : decode cX2_isPartSo 20 = .ok (.iload_n 1, 1) := dk_27 (dk_at dksX2_isPartSo_0 20 rfl rfl)
theorem dX2_isPartSo_21 : decode cX2_isPartSo 21 = .ok (.iaload, 1) := dk_46 (dk_at dksX2_isPartSo_0 21 rfl rfl)
theorem dX2_isPartSo_22 : decode cX2_isPartSo 22 = .ok (.imul, 1) := dk_104 (dk_at dksX2_isPartSo_0 22 rfl rfl)
theorem dX2_isPartSo_23 : decode cX2_isPartSo 23 = .ok (.iload_n 2, 1) := dk_28 (dk_at dksX2_isPartSo_0 23 rfl rfl)
theorem dX2_isPartSo_24 : decode cX2_isPartSo 24 = .ok (.iadd, 1) := dk_96 (dk_at dksX2_isPartSo_1 0 rfl rfl)
theorem dX2_isPartSo_25 : decode cX2_isPartSo 25 = .ok (.baload, 1) := dk_51 (dk_at dksX2_isPartSo_1 1 rfl rfl)
theorem dX2_isPartSo_26 : decode cX2_isPartSo 26 = .ok (.ifCond .eq 7, 3) := dk_153 0 7 (dk_at dksX2_isPartSo_1 2 rfl rfl)
theorem dX2_isPartSo_29 : decode cX2_isPartSo 29 = .ok (.iconst 1, 1) := dk_4 (dk_at dksX2_isPartSo_1 5 rfl rfl)
theorem dX2_isPartSo_30 : decode cX2_isPartSo 30 = .ok (.goto 4, 3) := dk_167 0 4 (dk_at dksX2_isPartSo_1 6 rfl rfl)
theorem dX2_isPartSo_33 : decode cX2_isPartSo 33 = .ok (.iconst 0, 1) := dk_3 (dk_at dksX2_isPartSo_1 9 rfl rfl)
theorem dX2_isPartSo_34 : decode cX2_isPartSo 34 = .ok (.istore 4, 2) := dk_54 4 (dk_at dksX2_isPartSo_1 10 rfl rfl)
theorem dX2_isPartSo_36 : decode cX2_isPartSo 36 = .ok (.aload_n 0, 1) := dk_42 (dk_at dksX2_isPartSo_1 12 rfl rfl)
theorem dX2_isPartSo_37 : decode cX2_isPartSo 37 = .ok (.getfield 20, 3) := dk_180 0 20 (dk_at dksX2_isPartSo_1 13 rfl rfl)
theorem dX2_isPartSo_40 : decode cX2_isPartSo 40 = .ok (.iload_n 1, 1) := dk_27 (dk_at dksX2_isPartSo_1 16 rfl rfl)
theorem dX2_isPartSo_41 : decode cX2_isPartSo 41 = .ok (.iaload, 1) := dk_46 (dk_at dksX2_isPartSo_1 17 rfl rfl)
theorem dX2_isPartSo_42 : decode cX2_isPartSo 42 = .ok (.iconst (-1), 1) := dk_2 (dk_at dksX2_isPartSo_1 18 rfl rfl)
theorem dX2_isPartSo_43 : decode cX2_isPartSo 43 = .ok (.if_icmp .eq 26, 3) := dk_159 0 26 (dk_at dksX2_isPartSo_1 19 rfl rfl)
theorem dX2_isPartSo_46 : decode cX2_isPartSo 46 = .ok (.aload_n 0, 1) := dk_42 (dk_at dksX2_isPartSo_1 22 rfl rfl)
theorem dX2_isPartSo_47 : decode cX2_isPartSo 47 = .ok (.getfield 47, 3) := dk_180 0 47 (dk_at dksX2_isPartSo_2 0 rfl rfl)
theorem dX2_isPartSo_50 : decode cX2_isPartSo 50 = .ok (.bipush 125, 2) := dk_16 125 (dk_at dksX2_isPartSo_2 3 rfl rfl)
theorem dX2_isPartSo_52 : decode cX2_isPartSo 52 = .ok (.aload_n 0, 1) := dk_42 (dk_at dksX2_isPartSo_2 5 rfl rfl)
theorem dX2_isPartSo_53 : decode cX2_isPartSo 53 = .ok (.getfield 20, 3) := dk_180 0 20 (dk_at dksX2_isPartSo_2 6 rfl rfl)
theorem dX2_isPartSo_56 : decode cX2_isPartSo 56 = .ok (.iload_n 1, 1) := dk_27 (dk_at dksX2_isPartSo_2 9 rfl rfl)
theorem dX2_isPartSo_57 : decode cX2_isPartSo 57 = .ok (.iaload, 1) := dk_46 (dk_at dksX2_isPartSo_2 10 rfl rfl)
theorem dX2_isPartSo_58 : decode cX2_isPartSo 58 = .ok (.imul, 1) := dk_104 (dk_at dksX2_isPartSo_2 11 rfl rfl)
theorem dX2_isPartSo_59 : decode cX2_isPartSo 59 = .ok (.iload_n 2, 1) := dk_28 (dk_at dksX2_isPartSo_2 12 rfl rfl)
theorem dX2_isPartSo_60 : decode cX2_isPartSo 60 = .ok (.iadd, 1) := dk_96 (dk_at dksX2_isPartSo_2 13 rfl rfl)
theorem dX2_isPartSo_61 : decode cX2_isPartSo 61 = .ok (.baload, 1) := dk_51 (dk_at dksX2_isPartSo_2 14 rfl rfl)
theorem dX2_isPartSo_62 : decode cX2_isPartSo 62 = .ok (.ifCond .eq 7, 3) := dk_153 0 7 (dk_at dksX2_isPartSo_2 15 rfl rfl)
theorem dX2_isPartSo_65 : decode cX2_isPartSo 65 = .ok (.iconst 1, 1) := dk_4 (dk_at dksX2_isPartSo_2 18 rfl rfl)
theorem dX2_isPartSo_66 : decode cX2_isPartSo 66 = .ok (.goto 4, 3) := dk_167 0 4 (dk_at dksX2_isPartSo_2 19 rfl rfl)
theorem dX2_isPartSo_69 : decode cX2_isPartSo 69 = .ok (.iconst 0, 1) := dk_3 (dk_at dksX2_isPartSo_2 22 rfl rfl)
theorem dX2_isPartSo_70 : decode cX2_isPartSo 70 = .ok (.istore 5, 2) := dk_54 5 (dk_at dksX2_isPartSo_3 0 rfl rfl)
theorem dX2_isPartSo_72 : decode cX2_isPartSo 72 = .ok (.aload_n 0, 1) := dk_42 (dk_at dksX2_isPartSo_3 2 rfl rfl)
theorem dX2_isPartSo_73 : decode cX2_isPartSo 73 = .ok (.getfield 13, 3) := dk_180 0 13 (dk_at dksX2_isPartSo_3 3 rfl rfl)
theorem dX2_isPartSo_76 : decode cX2_isPartSo 76 = .ok (.iload_n 1, 1) := dk_27 (dk_at dksX2_isPartSo_3 6 rfl rfl)
theorem dX2_isPartSo_77 : decode cX2_isPartSo 77 = .ok (.iaload, 1) := dk_46 (dk_at dksX2_isPartSo_3 7 rfl rfl)
theorem dX2_isPartSo_78 : decode cX2_isPartSo 78 = .ok (.tableswitch 155 0 5 #[38, 67, 96, 107, 123, 139], 38) := by decide +kernel
theorem dX2_isPartSo_116 : decode cX2_isPartSo 116 = .ok (.iload_n 2, 1) := dk_28 (dk_at dksX2_isPartSo_5 0 rfl rfl)
theorem dX2_isPartSo_117 : decode cX2_isPartSo 117 = .ok (.aload_n 0, 1) := dk_42 (dk_at dksX2_isPartSo_5 1 rfl rfl)
theorem dX2_isPartSo_118 : decode cX2_isPartSo 118 = .ok (.getfield 23, 3) := dk_180 0 23 (dk_at dksX2_isPartSo_5 2 rfl rfl)
theorem dX2_isPartSo_121 : decode cX2_isPartSo 121 = .ok (.iload_n 1, 1) := dk_27 (dk_at dksX2_isPartSo_5 5 rfl rfl)
theorem dX2_isPartSo_122 : decode cX2_isPartSo 122 = .ok (.iaload, 1) := dk_46 (dk_at dksX2_isPartSo_5 6 rfl rfl)
theorem dX2_isPartSo_123 : decode cX2_isPartSo 123 = .ok (.invokestatic 153, 3) := dk_184 0 153 (dk_at dksX2_isPartSo_5 7 rfl rfl)
theorem dX2_isPartSo_126 : decode cX2_isPartSo 126 = .ok (.iload_n 2, 1) := dk_28 (dk_at dksX2_isPartSo_5 10 rfl rfl)
theorem dX2_isPartSo_127 : decode cX2_isPartSo 127 = .ok (.aload_n 0, 1) := dk_42 (dk_at dksX2_isPartSo_5 11 rfl rfl)
theorem dX2_isPartSo_128 : decode cX2_isPartSo 128 = .ok (.getfield 26, 3) := dk_180 0 26 (dk_at dksX2_isPartSo_5 12 rfl rfl)
theorem dX2_isPartSo_131 : decode cX2_isPartSo 131 = .ok (.iload_n 1, 1) := dk_27 (dk_at dksX2_isPartSo_5 15 rfl rfl)
theorem dX2_isPartSo_132 : decode cX2_isPartSo 132 = .ok (.iaload, 1) := dk_46 (dk_at dksX2_isPartSo_5 16 rfl rfl)
theorem dX2_isPartSo_133 : decode cX2_isPartSo 133 = .ok (.invokestatic 153, 3) := dk_184 0 153 (dk_at dksX2_isPartSo_5 17 rfl rfl)
theorem dX2_isPartSo_136 : decode cX2_isPartSo 136 = .ok (.if_icmp .ge 7, 3) := dk_162 0 7 (dk_at dksX2_isPartSo_5 20 rfl rfl)
theorem dX2_isPartSo_139 : decode cX2_isPartSo 139 = .ok (.iconst 1, 1) := dk_4 (dk_at dksX2_isPartSo_5 23 rfl rfl)
theorem dX2_isPartSo_140 : decode cX2_isPartSo 140 = .ok (.goto 4, 3) := dk_167 0 4 (dk_at dksX2_isPartSo_6 0 rfl rfl)
theorem dX2_isPartSo_143 : decode cX2_isPartSo 143 = .ok (.iconst 0, 1) := dk_3 (dk_at dksX2_isPartSo_6 3 rfl rfl)
theorem dX2_isPartSo_144 : decode cX2_isPartSo 144 = .ok (.ireturn, 1) := dk_172 (dk_at dksX2_isPartSo_6 4 rfl rfl)
theorem dX2_isPartSo_145 : decode cX2_isPartSo 145 = .ok (.iload_n 2, 1) := dk_28 (dk_at dksX2_isPartSo_6 5 rfl rfl)
theorem dX2_isPartSo_146 : decode cX2_isPartSo 146 = .ok (.aload_n 0, 1) := dk_42 (dk_at dksX2_isPartSo_6 6 rfl rfl)
theorem dX2_isPartSo_147 : decode cX2_isPartSo 147 = .ok (.getfield 23, 3) := dk_180 0 23 (dk_at dksX2_isPartSo_6 7 rfl rfl)
theorem dX2_isPartSo_150 : decode cX2_isPartSo 150 = .ok (.iload_n 1, 1) := dk_27 (dk_at dksX2_isPartSo_6 10 rfl rfl)
theorem dX2_isPartSo_151 : decode cX2_isPartSo 151 = .ok (.iaload, 1) := dk_46 (dk_at dksX2_isPartSo_6 11 rfl rfl)
theorem dX2_isPartSo_152 : decode cX2_isPartSo 152 = .ok (.invokestatic 153, 3) := dk_184 0 153 (dk_at dksX2_isPartSo_6 12 rfl rfl)
theorem dX2_isPartSo_155 : decode cX2_isPartSo 155 = .ok (.iload_n 2, 1) := dk_28 (dk_at dksX2_isPartSo_6 15 rfl rfl)
theorem dX2_isPartSo_156 : decode cX2_isPartSo 156 = .ok (.aload_n 0, 1) := dk_42 (dk_at dksX2_isPartSo_6 16 rfl rfl)
theorem dX2_isPartSo_157 : decode cX2_isPartSo 157 = .ok (.getfield 26, 3) := dk_180 0 26 (dk_at dksX2_isPartSo_6 17 rfl rfl)
theorem dX2_isPartSo_160 : decode cX2_isPartSo 160 = .ok (.iload_n 1, 1) := dk_27 (dk_at dksX2_isPartSo_6 20 rfl rfl)
theorem dX2_isPartSo_161 : decode cX2_isPartSo 161 = .ok (.iaload, 1) := dk_46 (dk_at dksX2_isPartSo_6 21 rfl rfl)
theorem dX2_isPartSo_162 : decode cX2_isPartSo 162 = .ok (.invokestatic 153, 3) := dk_184 0 153 (dk_at dksX2_isPartSo_7 0 rfl rfl)
theorem dX2_isPartSo_165 : decode cX2_isPartSo 165 = .ok (.if_icmp .ne 7, 3) := dk_160 0 7 (dk_at dksX2_isPartSo_7 3 rfl rfl)
theorem dX2_isPartSo_168 : decode cX2_isPartSo 168 = .ok (.iconst 1, 1) := dk_4 (dk_at dksX2_isPartSo_7 6 rfl rfl)
theorem dX2_isPartSo_169 : decode cX2_isPartSo 169 = .ok (.goto 4, 3) := dk_167 0 4 (dk_at dksX2_isPartSo_7 7 rfl rfl)
theorem dX2_isPartSo_172 : decode cX2_isPartSo 172 = .ok (.iconst 0, 1) := dk_3 (dk_at dksX2_isPartSo_7 10 rfl rfl)
theorem dX2_isPartSo_173 : decode cX2_isPartSo 173 = .ok (.ireturn, 1) := dk_172 (dk_at dksX2_isPartSo_7 11 rfl rfl)
theorem dX2_isPartSo_174 : decode cX2_isPartSo 174 = .ok (.iload 4, 2) := dk_21 4 (dk_at dksX2_isPartSo_7 12 rfl rfl)
theorem dX2_isPartSo_176 : decode cX2_isPartSo 176 = .ok (.ifCond .ne 7, 3) := dk_154 0 7 (dk_at dksX2_isPartSo_7 14 rfl rfl)
theorem dX2_isPartSo_179 : decode cX2_isPartSo 179 = .ok (.iconst 1, 1) := dk_4 (dk_at dksX2_isPartSo_7 17 rfl rfl)
theorem dX2_isPartSo_180 : decode cX2_isPartSo 180 = .ok (.goto 4, 3) := dk_167 0 4 (dk_at dksX2_isPartSo_7 18 rfl rfl)
theorem dX2_isPartSo_183 : decode cX2_isPartSo 183 = .ok (.iconst 0, 1) := dk_3 (dk_at dksX2_isPartSo_7 21 rfl rfl)
theorem dX2_isPartSo_184 : decode cX2_isPartSo 184 = .ok (.ireturn, 1) := dk_172 (dk_at dksX2_isPartSo_7 22 rfl rfl)
theorem dX2_isPartSo_185 : decode cX2_isPartSo 185 = .ok (.iload 4, 2) := dk_21 4 (dk_at dksX2_isPartSo_8 0 rfl rfl)
theorem dX2_isPartSo_187 : decode cX2_isPartSo 187 = .ok (.ifCond .eq 12, 3) := dk_153 0 12 (dk_at dksX2_isPartSo_8 2 rfl rfl)
theorem dX2_isPartSo_190 : decode cX2_isPartSo 190 = .ok (.iload 5, 2) := dk_21 5 (dk_at dksX2_isPartSo_8 5 rfl rfl)
theorem dX2_isPartSo_192 : decode cX2_isPartSo 192 = .ok (.ifCond .eq 7, 3) := dk_153 0 7 (dk_at dksX2_isPartSo_8 7 rfl rfl)
theorem dX2_isPartSo_195 : decode cX2_isPartSo 195 = .ok (.iconst 1, 1) := dk_4 (dk_at dksX2_isPartSo_8 10 rfl rfl)
theorem dX2_isPartSo_196 : decode cX2_isPartSo 196 = .ok (.goto 4, 3) := dk_167 0 4 (dk_at dksX2_isPartSo_8 11 rfl rfl)
theorem dX2_isPartSo_199 : decode cX2_isPartSo 199 = .ok (.iconst 0, 1) := dk_3 (dk_at dksX2_isPartSo_8 14 rfl rfl)
theorem dX2_isPartSo_200 : decode cX2_isPartSo 200 = .ok (.ireturn, 1) := dk_172 (dk_at dksX2_isPartSo_8 15 rfl rfl)
theorem dX2_isPartSo_201 : decode cX2_isPartSo 201 = .ok (.iload 4, 2) := dk_21 4 (dk_at dksX2_isPartSo_8 16 rfl rfl)
theorem dX2_isPartSo_203 : decode cX2_isPartSo 203 = .ok (.ifCond .ne 8, 3) := dk_154 0 8 (dk_at dksX2_isPartSo_8 18 rfl rfl)
theorem dX2_isPartSo_206 : decode cX2_isPartSo 206 = .ok (.iload 5, 2) := dk_21 5 (dk_at dksX2_isPartSo_8 21 rfl rfl)
theorem dX2_isPartSo_208 : decode cX2_isPartSo 208 = .ok (.ifCond .eq 7, 3) := dk_153 0 7 (dk_at dksX2_isPartSo_9 0 rfl rfl)
theorem dX2_isPartSo_211 : decode cX2_isPartSo 211 = .ok (.iconst 1, 1) := dk_4 (dk_at dksX2_isPartSo_9 3 rfl rfl)
theorem dX2_isPartSo_212 : decode cX2_isPartSo 212 = .ok (.goto 4, 3) := dk_167 0 4 (dk_at dksX2_isPartSo_9 4 rfl rfl)
theorem dX2_isPartSo_215 : decode cX2_isPartSo 215 = .ok (.iconst 0, 1) := dk_3 (dk_at dksX2_isPartSo_9 7 rfl rfl)
theorem dX2_isPartSo_216 : decode cX2_isPartSo 216 = .ok (.ireturn, 1) := dk_172 (dk_at dksX2_isPartSo_9 8 rfl rfl)
theorem dX2_isPartSo_217 : decode cX2_isPartSo 217 = .ok (.iload 4, 2) := dk_21 4 (dk_at dksX2_isPartSo_9 9 rfl rfl)
theorem dX2_isPartSo_219 : decode cX2_isPartSo 219 = .ok (.ifCond .eq 8, 3) := dk_153 0 8 (dk_at dksX2_isPartSo_9 11 rfl rfl)
theorem dX2_isPartSo_222 : decode cX2_isPartSo 222 = .ok (.iload 5, 2) := dk_21 5 (dk_at dksX2_isPartSo_9 14 rfl rfl)
theorem dX2_isPartSo_224 : decode cX2_isPartSo 224 = .ok (.ifCond .eq 7, 3) := dk_153 0 7 (dk_at dksX2_isPartSo_9 16 rfl rfl)
theorem dX2_isPartSo_227 : decode cX2_isPartSo 227 = .ok (.iconst 1, 1) := dk_4 (dk_at dksX2_isPartSo_9 19 rfl rfl)
theorem dX2_isPartSo_228 : decode cX2_isPartSo 228 = .ok (.goto 4, 3) := dk_167 0 4 (dk_at dksX2_isPartSo_9 20 rfl rfl)
theorem dX2_isPartSo_231 : decode cX2_isPartSo 231 = .ok (.iconst 0, 1) := dk_3 (dk_at dksX2_isPartSo_9 23 rfl rfl)
theorem dX2_isPartSo_232 : decode cX2_isPartSo 232 = .ok (.ireturn, 1) := dk_172 (dk_at dksX2_isPartSo_10 0 rfl rfl)
theorem dX2_isPartSo_233 : decode cX2_isPartSo 233 = .ok (.aload_n 0, 1) := dk_42 (dk_at dksX2_isPartSo_10 1 rfl rfl)
theorem dX2_isPartSo_234 : decode cX2_isPartSo 234 = .ok (.iload_n 1, 1) := dk_27 (dk_at dksX2_isPartSo_10 2 rfl rfl)
theorem dX2_isPartSo_235 : decode cX2_isPartSo 235 = .ok (.iload_n 2, 1) := dk_28 (dk_at dksX2_isPartSo_10 3 rfl rfl)
theorem dX2_isPartSo_236 : decode cX2_isPartSo 236 = .ok (.iload_n 3, 1) := dk_29 (dk_at dksX2_isPartSo_10 4 rfl rfl)
theorem dX2_isPartSo_237 : decode cX2_isPartSo 237 = .ok (.invokevirtual 156, 3) := dk_182 0 156 (dk_at dksX2_isPartSo_10 5 rfl rfl)
theorem dX2_isPartSo_240 : decode cX2_isPartSo 240 = .ok (.ireturn, 1) := dk_172 (dk_at dksX2_isPartSo_10 8 rfl rfl)
abbrev cX2_isSoFor : ByteArray := prog_17_method_26_code
def yX2_isSoFor : MethodName := ⟨RX2, "isSoFor", "(III)Z"⟩
def dkwX2_isSoFor_7 : List UInt8 := [167, 0, 4, 3, 54, 7, 132, 8, 1, 167, 255, 174, 21, 7, 172]
abbrev dktX2_isSoFor_7 : List UInt8 := dkwX2_isSoFor_7 ++ []
def dkwX2_isSoFor_6 : List UInt8 := [21, 9, 153, 0, 7, 4, 167, 0, 22, 3, 167, 0, 18, 21, 7, 154, 0, 8, 21, 9, 153, 0, 7, 4]
abbrev dktX2_isSoFor_6 : List UInt8 := dkwX2_isSoFor_6 ++ dktX2_isSoFor_7
def dkwX2_isSoFor_5 : List UInt8 := [180, 0, 23, 27, 46, 184, 0, 149, 104, 96, 51, 54, 9, 21, 4, 153, 0, 21, 21, 7, 153, 0, 12]
abbrev dktX2_isSoFor_5 : List UInt8 := dkwX2_isSoFor_5 ++ dktX2_isSoFor_6
def dkwX2_isSoFor_4 : List UInt8 := [162, 0, 81, 42, 180, 0, 47, 16, 125, 42, 180, 0, 17, 27, 46, 104, 21, 6, 96, 21, 8, 42]
abbrev dktX2_isSoFor_4 : List UInt8 := dkwX2_isSoFor_4 ++ dktX2_isSoFor_5
def dkwX2_isSoFor_3 : List UInt8 := [180, 0, 23, 27, 46, 184, 0, 149, 104, 100, 54, 6, 21, 4, 54, 7, 3, 54, 8, 21, 8, 21, 5]
abbrev dktX2_isSoFor_3 : List UInt8 := dkwX2_isSoFor_3 ++ dktX2_isSoFor_4
def dkwX2_isSoFor_2 : List UInt8 := [180, 0, 26, 27, 46, 184, 0, 153, 54, 5, 28, 28, 42, 180, 0, 23, 27, 46, 184, 0, 153, 42]
abbrev dktX2_isSoFor_2 : List UInt8 := dkwX2_isSoFor_2 ++ dktX2_isSoFor_3
def dkwX2_isSoFor_1 : List UInt8 := [167, 0, 4, 3, 54, 4, 42, 180, 0, 13, 27, 46, 16, 8, 162, 0, 7, 29, 167, 0, 13, 28, 42]
abbrev dktX2_isSoFor_1 : List UInt8 := dkwX2_isSoFor_1 ++ dktX2_isSoFor_2
def dkwX2_isSoFor_0 : List UInt8 := [42, 180, 0, 13, 27, 46, 16, 6, 159, 0, 14, 42, 180, 0, 13, 27, 46, 16, 8, 160, 0, 7, 4]
abbrev dktX2_isSoFor_0 : List UInt8 := dkwX2_isSoFor_0 ++ dktX2_isSoFor_1
theorem dksX2_isSoFor_0 : cX2_isSoFor.data.toList.drop 0 = dktX2_isSoFor_0 := by decide +kernel
theorem dksX2_isSoFor_1 : cX2_isSoFor.data.toList.drop 23 = dktX2_isSoFor_1 := dk_seg dksX2_isSoFor_0 23 rfl rfl
theorem dksX2_isSoFor_2 : cX2_isSoFor.data.toList.drop 46 = dktX2_isSoFor_2 := dk_seg dksX2_isSoFor_1 23 rfl rfl
theorem dksX2_isSoFor_3 : cX2_isSoFor.data.toList.drop 68 = dktX2_isSoFor_3 := dk_seg dksX2_isSoFor_2 22 rfl rfl
theorem dksX2_isSoFor_4 : cX2_isSoFor.data.toList.drop 91 = dktX2_isSoFor_4 := dk_seg dksX2_isSoFor_3 23 rfl rfl
theorem dksX2_isSoFor_5 : cX2_isSoFor.data.toList.drop 113 = dktX2_isSoFor_5 := dk_seg dksX2_isSoFor_4 22 rfl rfl
theorem dksX2_isSoFor_6 : cX2_isSoFor.data.toList.drop 136 = dktX2_isSoFor_6 := dk_seg dksX2_isSoFor_5 23 rfl rfl
theorem dksX2_isSoFor_7 : cX2_isSoFor.data.toList.drop 160 = dktX2_isSoFor_7 := dk_seg dksX2_isSoFor_6 24 rfl rfl
theorem dX2_isSoFor_0 : decode cX2_isSoFor 0 = .ok (.aload_n 0, 1) := dk_42 (dk_at dksX2_isSoFor_0 0 rfl rfl)
theorem dX2_isSoFor_1 : decode cX2_isSoFor 1 = .ok (.getfield 13, 3) := dk_180 0 13 (dk_at dksX2_isSoFor_0 1 rfl rfl)
theorem dX2_isSoFor_4 : decode cX2_isSoFor 4 = .ok (.iload_n 1, 1) := dk_27 (dk_at dksX2_isSoFor_0 4 rfl rfl)
theorem dX2_isSoFor_5 : decode cX2_isSoFor 5 = .ok (.iaload, 1) := dk_46 (dk_at dksX2_isSoFor_0 5 rfl rfl)
theorem dX2_isSoFor_6 : decode cX2_isSoFor 6 = .ok (.bipush 6, 2) := dk_16 6 (dk_at dksX2_isSoFor_0 6 rfl rfl)
theorem dX2_isSoFor_8 : decode cX2_isSoFor 8 = .ok (.if_icmp .eq 14, 3) := dk_159 0 14 (dk_at dksX2_isSoFor_0 8 rfl rfl)
theorem dX2_isSoFor_11 : decode cX2_isSoFor 11 = .ok (.aload_n 0, 1) := dk_42 (dk_at dksX2_isSoFor_0 11 rfl rfl)
theorem dX2_isSoFor_12 : decode cX2_isSoFor 12 = .ok (.getfield 13, 3) := dk_180 0 13 (dk_at dksX2_isSoFor_0 12 rfl rfl)
theorem dX2_isSoFor_15 : decode cX2_isSoFor 15 = .ok (.iload_n 1, 1) := dk_27 (dk_at dksX2_isSoFor_0 15 rfl rfl)
theorem dX2_isSoFor_16 : decode cX2_isSoFor 16 = .ok (.iaload, 1) := dk_46 (dk_at dksX2_isSoFor_0 16 rfl rfl)
theorem dX2_isSoFor_17 : decode cX2_isSoFor 17 = .ok (.bipush 8, 2) := dk_16 8 (dk_at dksX2_isSoFor_0 17 rfl rfl)
theorem dX2_isSoFor_19 : decode cX2_isSoFor 19 = .ok (.if_icmp .ne 7, 3) := dk_160 0 7 (dk_at dksX2_isSoFor_0 19 rfl rfl)
theorem dX2_isSoFor_22 : decode cX2_isSoFor 22 = .ok (.iconst 1, 1) := dk_4 (dk_at dksX2_isSoFor_0 22 rfl rfl)
theorem dX2_isSoFor_23 : decode cX2_isSoFor 23 = .ok (.goto 4, 3) := dk_167 0 4 (dk_at dksX2_isSoFor_1 0 rfl rfl)
theorem dX2_isSoFor_26 : decode cX2_isSoFor 26 = .ok (.iconst 0, 1) := dk_3 (dk_at dksX2_isSoFor_1 3 rfl rfl)
theorem dX2_isSoFor_27 : decode cX2_isSoFor 27 = .ok (.istore 4, 2) := dk_54 4 (dk_at dksX2_isSoFor_1 4 rfl rfl)
theorem dX2_isSoFor_29 : decode cX2_isSoFor 29 = .ok (.aload_n 0, 1) := dk_42 (dk_at dksX2_isSoFor_1 6 rfl rfl)
theorem dX2_isSoFor_30 : decode cX2_isSoFor 30 = .ok (.getfield 13, 3) := dk_180 0 13 (dk_at dksX2_isSoFor_1 7 rfl rfl)
theorem dX2_isSoFor_33 : decode cX2_isSoFor 33 = .ok (.iload_n 1, 1) := dk_27 (dk_at dksX2_isSoFor_1 10 rfl rfl)
theorem dX2_isSoFor_34 : decode cX2_isSoFor 34 = .ok (.iaload, 1) := dk_46 (dk_at dksX2_isSoFor_1 11 rfl rfl)
theorem dX2_isSoFor_35 : decode cX2_isSoFor 35 = .ok (.bipush 8, 2) := dk_16 8 (dk_at dksX2_isSoFor_1 12 rfl rfl)
theorem dX2_isSoFor_37 : decode cX2_isSoFor 37 = .ok (.if_icmp .ge 7, 3) := dk_162 0 7 (dk_at dksX2_isSoFor_1 14 rfl rfl)
theorem dX2_isSoFor_40 : decode cX2_isSoFor 40 = .ok (.iload_n 3, 1) := dk_29 (dk_at dksX2_isSoFor_1 17 rfl rfl)
theorem dX2_isSoFor_41 : decode cX2_isSoFor 41 = .ok (.goto 13, 3) := dk_167 0 13 (dk_at dksX2_isSoFor_1 18 rfl rfl)
theorem dX2_isSoFor_44 : decode cX2_isSoFor 44 = .ok (.iload_n 2, 1) := dk_28 (dk_at dksX2_isSoFor_1 21 rfl rfl)
theorem dX2_isSoFor_45 : decode cX2_isSoFor 45 = .ok (.aload_n 0, 1) := dk_42 (dk_at dksX2_isSoFor_1 22 rfl rfl)
theorem dX2_isSoFor_46 : decode cX2_isSoFor 46 = .ok (.getfield 26, 3) := dk_180 0 26 (dk_at dksX2_isSoFor_2 0 rfl rfl)
theorem dX2_isSoFor_49 : decode cX2_isSoFor 49 = .ok (.iload_n 1, 1) := dk_27 (dk_at dksX2_isSoFor_2 3 rfl rfl)
theorem dX2_isSoFor_50 : decode cX2_isSoFor 50 = .ok (.iaload, 1) := dk_46 (dk_at dksX2_isSoFor_2 4 rfl rfl)
theorem dX2_isSoFor_51 : decode cX2_isSoFor 51 = .ok (.invokestatic 153, 3) := dk_184 0 153 (dk_at dksX2_isSoFor_2 5 rfl rfl)
theorem dX2_isSoFor_54 : decode cX2_isSoFor 54 = .ok (.istore 5, 2) := dk_54 5 (dk_at dksX2_isSoFor_2 8 rfl rfl)
theorem dX2_isSoFor_56 : decode cX2_isSoFor 56 = .ok (.iload_n 2, 1) := dk_28 (dk_at dksX2_isSoFor_2 10 rfl rfl)
theorem dX2_isSoFor_57 : decode cX2_isSoFor 57 = .ok (.iload_n 2, 1) := dk_28 (dk_at dksX2_isSoFor_2 11 rfl rfl)
theorem dX2_isSoFor_58 : decode cX2_isSoFor 58 = .ok (.aload_n 0, 1) := dk_42 (dk_at dksX2_isSoFor_2 12 rfl rfl)
theorem dX2_isSoFor_59 : decode cX2_isSoFor 59 = .ok (.getfield 23, 3) := dk_180 0 23 (dk_at dksX2_isSoFor_2 13 rfl rfl)
theorem dX2_isSoFor_62 : decode cX2_isSoFor 62 = .ok (.iload_n 1, 1) := dk_27 (dk_at dksX2_isSoFor_2 16 rfl rfl)
theorem dX2_isSoFor_63 : decode cX2_isSoFor 63 = .ok (.iaload, 1) := dk_46 (dk_at dksX2_isSoFor_2 17 rfl rfl)
theorem dX2_isSoFor_64 : decode cX2_isSoFor 64 = .ok (.invokestatic 153, 3) := dk_184 0 153 (dk_at dksX2_isSoFor_2 18 rfl rfl)
theorem dX2_isSoFor_67 : decode cX2_isSoFor 67 = .ok (.aload_n 0, 1) := dk_42 (dk_at dksX2_isSoFor_2 21 rfl rfl)
theorem dX2_isSoFor_68 : decode cX2_isSoFor 68 = .ok (.getfield 23, 3) := dk_180 0 23 (dk_at dksX2_isSoFor_3 0 rfl rfl)
theorem dX2_isSoFor_71 : decode cX2_isSoFor 71 = .ok (.iload_n 1, 1) := dk_27 (dk_at dksX2_isSoFor_3 3 rfl rfl)
theorem dX2_isSoFor_72 : decode cX2_isSoFor 72 = .ok (.iaload, 1) := dk_46 (dk_at dksX2_isSoFor_3 4 rfl rfl)
theorem dX2_isSoFor_73 : decode cX2_isSoFor 73 = .ok (.invokestatic 149, 3) := dk_184 0 149 (dk_at dksX2_isSoFor_3 5 rfl rfl)
theorem dX2_isSoFor_76 : decode cX2_isSoFor 76 = .ok (.imul, 1) := dk_104 (dk_at dksX2_isSoFor_3 8 rfl rfl)
theorem dX2_isSoFor_77 : decode cX2_isSoFor 77 = .ok (.isub, 1) := dk_100 (dk_at dksX2_isSoFor_3 9 rfl rfl)
theorem dX2_isSoFor_78 : decode cX2_isSoFor 78 = .ok (.istore 6, 2) := dk_54 6 (dk_at dksX2_isSoFor_3 10 rfl rfl)
theorem dX2_isSoFor_80 : decode cX2_isSoFor 80 = .ok (.iload 4, 2) := dk_21 4 (dk_at dksX2_isSoFor_3 12 rfl rfl)
theorem dX2_isSoFor_82 : decode cX2_isSoFor 82 = .ok (.istore 7, 2) := dk_54 7 (dk_at dksX2_isSoFor_3 14 rfl rfl)
theorem dX2_isSoFor_84 : decode cX2_isSoFor 84 = .ok (.iconst 0, 1) := dk_3 (dk_at dksX2_isSoFor_3 16 rfl rfl)
theorem dX2_isSoFor_85 : decode cX2_isSoFor 85 = .ok (.istore 8, 2) := dk_54 8 (dk_at dksX2_isSoFor_3 17 rfl rfl)
theorem dX2_isSoFor_87 : decode cX2_isSoFor 87 = .ok (.iload 8, 2) := dk_21 8 (dk_at dksX2_isSoFor_3 19 rfl rfl)
theorem dX2_isSoFor_89 : decode cX2_isSoFor 89 = .ok (.iload 5, 2) := dk_21 5 (dk_at dksX2_isSoFor_3 21 rfl rfl)
theorem dX2_isSoFor_91 : decode cX2_isSoFor 91 = .ok (.if_icmp .ge 81, 3) := dk_162 0 81 (dk_at dksX2_isSoFor_4 0 rfl rfl)
theorem dX2_isSoFor_94 : decode cX2_isSoFor 94 = .ok (.aload_n 0, 1) := dk_42 (dk_at dksX2_isSoFor_4 3 rfl rfl)
theorem dX2_isSoFor_95 : decode cX2_isSoFor 95 = .ok (.getfield 47, 3) := dk_180 0 47 (dk_at dksX2_isSoFor_4 4 rfl rfl)
theorem dX2_isSoFor_98 : decode cX2_isSoFor 98 = .ok (.bipush 125, 2) := dk_16 125 (dk_at dksX2_isSoFor_4 7 rfl rfl)
theorem dX2_isSoFor_100 : decode cX2_isSoFor 100 = .ok (.aload_n 0, 1) := dk_42 (dk_at dksX2_isSoFor_4 9 rfl rfl)
theorem dX2_isSoFor_101 : decode cX2_isSoFor 101 = .ok (.getfield 17, 3) := dk_180 0 17 (dk_at dksX2_isSoFor_4 10 rfl rfl)
theorem dX2_isSoFor_104 : decode cX2_isSoFor 104 = .ok (.iload_n 1, 1) := dk_27 (dk_at dksX2_isSoFor_4 13 rfl rfl)
theorem dX2_isSoFor_105 : decode cX2_isSoFor 105 = .ok (.iaload, 1) := dk_46 (dk_at dksX2_isSoFor_4 14 rfl rfl)
theorem dX2_isSoFor_106 : decode cX2_isSoFor 106 = .ok (.imul, 1) := dk_104 (dk_at dksX2_isSoFor_4 15 rfl rfl)
theorem dX2_isSoFor_107 : decode cX2_isSoFor 107 = .ok (.iload 6, 2) := dk_21 6 (dk_at dksX2_isSoFor_4 16 rfl rfl)
theorem dX2_isSoFor_109 : decode cX2_isSoFor 109 = .ok (.iadd, 1) := dk_96 (dk_at dksX2_isSoFor_4 18 rfl rfl)
theorem dX2_isSoFor_110 : decode cX2_isSoFor 110 = .ok (.iload 8, 2) := dk_21 8 (dk_at dksX2_isSoFor_4 19 rfl rfl)
theorem dX2_isSoFor_112 : decode cX2_isSoFor 112 = .ok (.aload_n 0, 1) := dk_42 (dk_at dksX2_isSoFor_4 21 rfl rfl)
theorem dX2_isSoFor_113 : decode cX2_isSoFor 113 = .ok (.getfield 23, 3) := dk_180 0 23 (dk_at dksX2_isSoFor_5 0 rfl rfl)
theorem dX2_isSoFor_116 : decode cX2_isSoFor 116 = .ok (.iload_n 1, 1) := dk_27 (dk_at dksX2_isSoFor_5 3 rfl rfl)
theorem dX2_isSoFor_117 : decode cX2_isSoFor 117 = .ok (.iaload, 1) := dk_46 (dk_at dksX2_isSoFor_5 4 rfl rfl)
theorem dX2_isSoFor_118 : decode cX2_isSoFor 118 = .ok (.invokestatic 149, 3) := dk_184 0 149 (dk_at dksX2_isSoFor_5 5 rfl rfl)
theorem dX2_isSoFor_121 : decode cX2_isSoFor 121 = .ok (.imul, 1) := dk_104 (dk_at dksX2_isSoFor_5 8 rfl rfl)
theorem dX2_isSoFor_122 : decode cX2_isSoFor 122 = .ok (.iadd, 1) := dk_96 (dk_at dksX2_isSoFor_5 9 rfl rfl)
theorem dX2_isSoFor_123 : decode cX2_isSoFor 123 = .ok (.baload, 1) := dk_51 (dk_at dksX2_isSoFor_5 10 rfl rfl)
theorem dX2_isSoFor_124 : decode cX2_isSoFor 124 = .ok (.istore 9, 2) := dk_54 9 (dk_at dksX2_isSoFor_5 11 rfl rfl)
theorem dX2_isSoFor_126 : decode cX2_isSoFor 126 = .ok (.iload 4, 2) := dk_21 4 (dk_at dksX2_isSoFor_5 13 rfl rfl)
theorem dX2_isSoFor_128 : decode cX2_isSoFor 128 = .ok (.ifCond .eq 21, 3) := dk_153 0 21 (dk_at dksX2_isSoFor_5 15 rfl rfl)
theorem dX2_isSoFor_131 : decode cX2_isSoFor 131 = .ok (.iload 7, 2) := dk_21 7 (dk_at dksX2_isSoFor_5 18 rfl rfl)
theorem dX2_isSoFor_133 : decode cX2_isSoFor 133 = .ok (.ifCond .eq 12, 3) := dk_153 0 12 (dk_at dksX2_isSoFor_5 20 rfl rfl)
theorem dX2_isSoFor_136 : decode cX2_isSoFor 136 = .ok (.iload 9, 2) := dk_21 9 (dk_at dksX2_isSoFor_6 0 rfl rfl)
theorem dX2_isSoFor_138 : decode cX2_isSoFor 138 = .ok (.ifCond .eq 7, 3) := dk_153 0 7 (dk_at dksX2_isSoFor_6 2 rfl rfl)
theorem dX2_isSoFor_141 : decode cX2_isSoFor 141 = .ok (.iconst 1, 1) := dk_4 (dk_at dksX2_isSoFor_6 5 rfl rfl)
theorem dX2_isSoFor_142 : decode cX2_isSoFor 142 = .ok (.goto 22, 3) := dk_167 0 22 (dk_at dksX2_isSoFor_6 6 rfl rfl)
theorem dX2_isSoFor_145 : decode cX2_isSoFor 145 = .ok (.iconst 0, 1) := dk_3 (dk_at dksX2_isSoFor_6 9 rfl rfl)
theorem dX2_isSoFor_146 : decode cX2_isSoFor 146 = .ok (.goto 18, 3) := dk_167 0 18 (dk_at dksX2_isSoFor_6 10 rfl rfl)
theorem dX2_isSoFor_149 : decode cX2_isSoFor 149 = .ok (.iload 7, 2) := dk_21 7 (dk_at dksX2_isSoFor_6 13 rfl rfl)
theorem dX2_isSoFor_151 : decode cX2_isSoFor 151 = .ok (.ifCond .ne 8, 3) := dk_154 0 8 (dk_at dksX2_isSoFor_6 15 rfl rfl)
theorem dX2_isSoFor_154 : decode cX2_isSoFor 154 = .ok (.iload 9, 2) := dk_21 9 (dk_at dksX2_isSoFor_6 18 rfl rfl)
theorem dX2_isSoFor_156 : decode cX2_isSoFor 156 = .ok (.ifCond .eq 7, 3) := dk_153 0 7 (dk_at dksX2_isSoFor_6 20 rfl rfl)
theorem dX2_isSoFor_159 : decode cX2_isSoFor 159 = .ok (.iconst 1, 1) := dk_4 (dk_at dksX2_isSoFor_6 23 rfl rfl)
theorem dX2_isSoFor_160 : decode cX2_isSoFor 160 = .ok (.goto 4, 3) := dk_167 0 4 (dk_at dksX2_isSoFor_7 0 rfl rfl)
theorem dX2_isSoFor_163 : decode cX2_isSoFor 163 = .ok (.iconst 0, 1) := dk_3 (dk_at dksX2_isSoFor_7 3 rfl rfl)
theorem dX2_isSoFor_164 : decode cX2_isSoFor 164 = .ok (.istore 7, 2) := dk_54 7 (dk_at dksX2_isSoFor_7 4 rfl rfl)
theorem dX2_isSoFor_166 : decode cX2_isSoFor 166 = .ok (.iinc 8 1, 3) := dk_132 8 1 (dk_at dksX2_isSoFor_7 6 rfl rfl)
theorem dX2_isSoFor_169 : decode cX2_isSoFor 169 = .ok (.goto (-82), 3) := dk_167 255 174 (dk_at dksX2_isSoFor_7 9 rfl rfl)
theorem dX2_isSoFor_172 : decode cX2_isSoFor 172 = .ok (.iload 7, 2) := dk_21 7 (dk_at dksX2_isSoFor_7 12 rfl rfl)
theorem dX2_isSoFor_174 : decode cX2_isSoFor 174 = .ok (.ireturn, 1) := dk_172 (dk_at dksX2_isSoFor_7 14 rfl rfl)
abbrev cX2_principle : ByteArray := prog_17_method_30_code
def yX2_principle : MethodName := ⟨RX2, "principle", "()I"⟩
def dkwX2_principle_4 : List UInt8 := [180, 0, 168, 4, 96, 181, 0, 168, 42, 180, 0, 168, 4, 100, 172]
abbrev dktX2_principle_4 : List UInt8 := dkwX2_principle_4 ++ []
def dkwX2_principle_3 : List UInt8 := [180, 0, 168, 42, 180, 0, 32, 42, 180, 0, 103, 4, 100, 46, 79, 42, 3, 181, 0, 96, 42, 89]
abbrev dktX2_principle_3 : List UInt8 := dkwX2_principle_3 ++ dktX2_principle_4
def dkwX2_principle_2 : List UInt8 := [180, 0, 51, 42, 180, 0, 168, 42, 180, 0, 29, 42, 180, 0, 103, 4, 100, 46, 79, 42, 180, 0, 54, 42]
abbrev dktX2_principle_2 : List UInt8 := dkwX2_principle_2 ++ dktX2_principle_3
def dkwX2_principle_1 : List UInt8 := [42, 180, 0, 168, 16, 10, 162, 0, 7, 3, 167, 0, 4, 4, 182, 0, 99, 154, 0, 5, 3, 172, 42]
abbrev dktX2_principle_1 : List UInt8 := dkwX2_principle_1 ++ dktX2_principle_2
def dkwX2_principle_0 : List UInt8 := [42, 182, 0, 145, 60, 42, 27, 153, 0, 30, 42, 180, 0, 35, 42, 180, 0, 103, 4, 100, 46, 154, 0, 16]
abbrev dktX2_principle_0 : List UInt8 := dkwX2_principle_0 ++ dktX2_principle_1
theorem dksX2_principle_0 : cX2_principle.data.toList.drop 0 = dktX2_principle_0 := by decide +kernel
theorem dksX2_principle_1 : cX2_principle.data.toList.drop 24 = dktX2_principle_1 := dk_seg dksX2_principle_0 24 rfl rfl
theorem dksX2_principle_2 : cX2_principle.data.toList.drop 47 = dktX2_principle_2 := dk_seg dksX2_principle_1 23 rfl rfl
theorem dksX2_principle_3 : cX2_principle.data.toList.drop 71 = dktX2_principle_3 := dk_seg dksX2_principle_2 24 rfl rfl
theorem dksX2_principle_4 : cX2_principle.data.toList.drop 93 = dktX2_principle_4 := dk_seg dksX2_principle_3 22 rfl rfl
theorem dX2_principle_0 : decode cX2_principle 0 = .ok (.aload_n 0, 1) := dk_42 (dk_at dksX2_principle_0 0 rfl rfl)
theorem dX2_principle_1 : decode cX2_principle 1 = .ok (.invokevirtual 145, 3) := dk_182 0 145 (dk_at dksX2_principle_0 1 rfl rfl)
theorem dX2_principle_4 : decode cX2_principle 4 = .ok (.istore_n 1, 1) := dk_60 (dk_at dksX2_principle_0 4 rfl rfl)
theorem dX2_principle_5 : decode cX2_principle 5 = .ok (.aload_n 0, 1) := dk_42 (dk_at dksX2_principle_0 5 rfl rfl)
theorem dX2_principle_6 : decode cX2_principle 6 = .ok (.iload_n 1, 1) := dk_27 (dk_at dksX2_principle_0 6 rfl rfl)
theorem dX2_principle_7 : decode cX2_principle 7 = .ok (.ifCond .eq 30, 3) := dk_153 0 30 (dk_at dksX2_principle_0 7 rfl rfl)
theorem dX2_principle_10 : decode cX2_principle 10 = .ok (.aload_n 0, 1) := dk_42 (dk_at dksX2_principle_0 10 rfl rfl)
theorem dX2_principle_11 : decode cX2_principle 11 = .ok (.getfield 35, 3) := dk_180 0 35 (dk_at dksX2_principle_0 11 rfl rfl)
theorem dX2_principle_14 : decode cX2_principle 14 = .ok (.aload_n 0, 1) := dk_42 (dk_at dksX2_principle_0 14 rfl rfl)
theorem dX2_principle_15 : decode cX2_principle 15 = .ok (.getfield 103, 3) := dk_180 0 103 (dk_at dksX2_principle_0 15 rfl rfl)
theorem dX2_principle_18 : decode cX2_principle 18 = .ok (.iconst 1, 1) := dk_4 (dk_at dksX2_principle_0 18 rfl rfl)
theorem dX2_principle_19 : decode cX2_principle 19 = .ok (.isub, 1) := dk_100 (dk_at dksX2_principle_0 19 rfl rfl)
theorem dX2_principle_20 : decode cX2_principle 20 = .ok (.iaload, 1) := dk_46 (dk_at dksX2_principle_0 20 rfl rfl)
theorem dX2_principle_21 : decode cX2_principle 21 = .ok (.ifCond .ne 16, 3) := dk_154 0 16 (dk_at dksX2_principle_0 21 rfl rfl)
theorem dX2_principle_24 : decode cX2_principle 24 = .ok (.aload_n 0, 1) := dk_42 (dk_at dksX2_principle_1 0 rfl rfl)
theorem dX2_principle_25 : decode cX2_principle 25 = .ok (.getfield 168, 3) := dk_180 0 168 (dk_at dksX2_principle_1 1 rfl rfl)
theorem dX2_principle_28 : decode cX2_principle 28 = .ok (.bipush 10, 2) := dk_16 10 (dk_at dksX2_principle_1 4 rfl rfl)
theorem dX2_principle_30 : decode cX2_principle 30 = .ok (.if_icmp .ge 7, 3) := dk_162 0 7 (dk_at dksX2_principle_1 6 rfl rfl)
theorem dX2_principle_33 : decode cX2_principle 33 = .ok (.iconst 0, 1) := dk_3 (dk_at dksX2_principle_1 9 rfl rfl)
theorem dX2_principle_34 : decode cX2_principle 34 = .ok (.goto 4, 3) := dk_167 0 4 (dk_at dksX2_principle_1 10 rfl rfl)
theorem dX2_principle_37 : decode cX2_principle 37 = .ok (.iconst 1, 1) := dk_4 (dk_at dksX2_principle_1 13 rfl rfl)
theorem dX2_principle_38 : decode cX2_principle 38 = .ok (.invokevirtual 99, 3) := dk_182 0 99 (dk_at dksX2_principle_1 14 rfl rfl)
theorem dX2_principle_41 : decode cX2_principle 41 = .ok (.ifCond .ne 5, 3) := dk_154 0 5 (dk_at dksX2_principle_1 17 rfl rfl)
theorem dX2_principle_44 : decode cX2_principle 44 = .ok (.iconst 0, 1) := dk_3 (dk_at dksX2_principle_1 20 rfl rfl)
theorem dX2_principle_45 : decode cX2_principle 45 = .ok (.ireturn, 1) := dk_172 (dk_at dksX2_principle_1 21 rfl rfl)
theorem dX2_principle_46 : decode cX2_principle 46 = .ok (.aload_n 0, 1) := dk_42 (dk_at dksX2_principle_1 22 rfl rfl)
theorem dX2_principle_47 : decode cX2_principle 47 = .ok (.getfield 51, 3) := dk_180 0 51 (dk_at dksX2_principle_2 0 rfl rfl)
theorem dX2_principle_50 : decode cX2_principle 50 = .ok (.aload_n 0, 1) := dk_42 (dk_at dksX2_principle_2 3 rfl rfl)
theorem dX2_principle_51 : decode cX2_principle 51 = .ok (.getfield 168, 3) := dk_180 0 168 (dk_at dksX2_principle_2 4 rfl rfl)
theorem dX2_principle_54 : decode cX2_principle 54 = .ok (.aload_n 0, 1) := dk_42 (dk_at dksX2_principle_2 7 rfl rfl)
theorem dX2_principle_55 : decode cX2_principle 55 = .ok (.getfield 29, 3) := dk_180 0 29 (dk_at dksX2_principle_2 8 rfl rfl)
theorem dX2_principle_58 : decode cX2_principle 58 = .ok (.aload_n 0, 1) := dk_42 (dk_at dksX2_principle_2 11 rfl rfl)
theorem dX2_principle_59 : decode cX2_principle 59 = .ok (.getfield 103, 3) := dk_180 0 103 (dk_at dksX2_principle_2 12 rfl rfl)
theorem dX2_principle_62 : decode cX2_principle 62 = .ok (.iconst 1, 1) := dk_4 (dk_at dksX2_principle_2 15 rfl rfl)
theorem dX2_principle_63 : decode cX2_principle 63 = .ok (.isub, 1) := dk_100 (dk_at dksX2_principle_2 16 rfl rfl)
theorem dX2_principle_64 : decode cX2_principle 64 = .ok (.iaload, 1) := dk_46 (dk_at dksX2_principle_2 17 rfl rfl)
theorem dX2_principle_65 : decode cX2_principle 65 = .ok (.iastore, 1) := dk_79 (dk_at dksX2_principle_2 18 rfl rfl)
theorem dX2_principle_66 : decode cX2_principle 66 = .ok (.aload_n 0, 1) := dk_42 (dk_at dksX2_principle_2 19 rfl rfl)
theorem dX2_principle_67 : decode cX2_principle 67 = .ok (.getfield 54, 3) := dk_180 0 54 (dk_at dksX2_principle_2 20 rfl rfl)
theorem dX2_principle_70 : decode cX2_principle 70 = .ok (.aload_n 0, 1) := dk_42 (dk_at dksX2_principle_2 23 rfl rfl)
theorem dX2_principle_71 : decode cX2_principle 71 = .ok (.getfield 168, 3) := dk_180 0 168 (dk_at dksX2_principle_3 0 rfl rfl)
theorem dX2_principle_74 : decode cX2_principle 74 = .ok (.aload_n 0, 1) := dk_42 (dk_at dksX2_principle_3 3 rfl rfl)
theorem dX2_principle_75 : decode cX2_principle 75 = .ok (.getfield 32, 3) := dk_180 0 32 (dk_at dksX2_principle_3 4 rfl rfl)
theorem dX2_principle_78 : decode cX2_principle 78 = .ok (.aload_n 0, 1) := dk_42 (dk_at dksX2_principle_3 7 rfl rfl)
theorem dX2_principle_79 : decode cX2_principle 79 = .ok (.getfield 103, 3) := dk_180 0 103 (dk_at dksX2_principle_3 8 rfl rfl)
theorem dX2_principle_82 : decode cX2_principle 82 = .ok (.iconst 1, 1) := dk_4 (dk_at dksX2_principle_3 11 rfl rfl)
theorem dX2_principle_83 : decode cX2_principle 83 = .ok (.isub, 1) := dk_100 (dk_at dksX2_principle_3 12 rfl rfl)
theorem dX2_principle_84 : decode cX2_principle 84 = .ok (.iaload, 1) := dk_46 (dk_at dksX2_principle_3 13 rfl rfl)
theorem dX2_principle_85 : decode cX2_principle 85 = .ok (.iastore, 1) := dk_79 (dk_at dksX2_principle_3 14 rfl rfl)
theorem dX2_principle_86 : decode cX2_principle 86 = .ok (.aload_n 0, 1) := dk_42 (dk_at dksX2_principle_3 15 rfl rfl)
theorem dX2_principle_87 : decode cX2_principle 87 = .ok (.iconst 0, 1) := dk_3 (dk_at dksX2_principle_3 16 rfl rfl)
theorem dX2_principle_88 : decode cX2_principle 88 = .ok (.putfield 96, 3) := dk_181 0 96 (dk_at dksX2_principle_3 17 rfl rfl)
theorem dX2_principle_91 : decode cX2_principle 91 = .ok (.aload_n 0, 1) := dk_42 (dk_at dksX2_principle_3 20 rfl rfl)
theorem dX2_principle_92 : decode cX2_principle 92 = .ok (.dup, 1) := dk_89 (dk_at dksX2_principle_3 21 rfl rfl)
theorem dX2_principle_93 : decode cX2_principle 93 = .ok (.getfield 168, 3) := dk_180 0 168 (dk_at dksX2_principle_4 0 rfl rfl)
theorem dX2_principle_96 : decode cX2_principle 96 = .ok (.iconst 1, 1) := dk_4 (dk_at dksX2_principle_4 3 rfl rfl)
theorem dX2_principle_97 : decode cX2_principle 97 = .ok (.iadd, 1) := dk_96 (dk_at dksX2_principle_4 4 rfl rfl)
theorem dX2_principle_98 : decode cX2_principle 98 = .ok (.putfield 168, 3) := dk_181 0 168 (dk_at dksX2_principle_4 5 rfl rfl)
theorem dX2_principle_101 : decode cX2_principle 101 = .ok (.aload_n 0, 1) := dk_42 (dk_at dksX2_principle_4 8 rfl rfl)
theorem dX2_principle_102 : decode cX2_principle 102 = .ok (.getfield 168, 3) := dk_180 0 168 (dk_at dksX2_principle_4 9 rfl rfl)
theorem dX2_principle_105 : decode cX2_principle 105 = .ok (.iconst 1, 1) := dk_4 (dk_at dksX2_principle_4 12 rfl rfl)
theorem dX2_principle_106 : decode cX2_principle 106 = .ok (.isub, 1) := dk_100 (dk_at dksX2_principle_4 13 rfl rfl)
theorem dX2_principle_107 : decode cX2_principle 107 = .ok (.ireturn, 1) := dk_172 (dk_at dksX2_principle_4 14 rfl rfl)
abbrev cX2_rule : ByteArray := prog_17_method_34_code
def yX2_rule : MethodName := ⟨RX2, "rule", "(II)I"⟩
def dkwX2_rule_7 : List UInt8 := [181, 0, 177, 42, 180, 0, 177, 4, 100, 172]
abbrev dktX2_rule_7 : List UInt8 := dkwX2_rule_7 ++ []
def dkwX2_rule_6 : List UInt8 := [180, 0, 177, 27, 79, 42, 180, 0, 60, 42, 180, 0, 177, 28, 79, 42, 89, 180, 0, 177, 4, 96]
abbrev dktX2_rule_6 : List UInt8 := dkwX2_rule_6 ++ dktX2_rule_7
def dkwX2_rule_5 : List UInt8 := [21, 5, 153, 0, 7, 3, 167, 0, 4, 6, 182, 0, 99, 154, 0, 5, 3, 172, 42, 180, 0, 57, 42]
abbrev dktX2_rule_5 : List UInt8 := dkwX2_rule_5 ++ dktX2_rule_6
def dkwX2_rule_4 : List UInt8 := [132, 6, 1, 167, 255, 212, 42, 29, 154, 0, 7, 4, 167, 0, 22, 21, 4, 154, 0, 7, 5, 167, 0, 13]
abbrev dktX2_rule_4 : List UInt8 := dkwX2_rule_4 ++ dktX2_rule_5
def dkwX2_rule_3 : List UInt8 := [42, 180, 0, 63, 21, 6, 46, 27, 28, 184, 0, 183, 154, 0, 7, 4, 167, 0, 4, 3, 54, 5]
abbrev dktX2_rule_3 : List UInt8 := dkwX2_rule_3 ++ dktX2_rule_4
def dkwX2_rule_2 : List UInt8 := [54, 5, 3, 54, 6, 21, 6, 42, 180, 0, 180, 162, 0, 41, 21, 4, 153, 0, 36, 21, 5, 153, 0, 22]
abbrev dktX2_rule_2 : List UInt8 := dkwX2_rule_2 ++ dktX2_rule_3
def dkwX2_rule_1 : List UInt8 := [154, 0, 7, 4, 167, 0, 4, 3, 54, 4, 42, 180, 0, 177, 16, 30, 162, 0, 7, 4, 167, 0, 4, 3]
abbrev dktX2_rule_1 : List UInt8 := dkwX2_rule_1 ++ dktX2_rule_2
def dkwX2_rule_0 : List UInt8 := [42, 28, 182, 0, 171, 62, 29, 153, 0, 23, 42, 27, 182, 0, 174, 153, 0, 15, 27, 28, 122, 4, 126]
abbrev dktX2_rule_0 : List UInt8 := dkwX2_rule_0 ++ dktX2_rule_1
theorem dksX2_rule_0 : cX2_rule.data.toList.drop 0 = dktX2_rule_0 := by decide +kernel
theorem dksX2_rule_1 : cX2_rule.data.toList.drop 23 = dktX2_rule_1 := dk_seg dksX2_rule_0 23 rfl rfl
theorem dksX2_rule_2 : cX2_rule.data.toList.drop 47 = dktX2_rule_2 := dk_seg dksX2_rule_1 24 rfl rfl
theorem dksX2_rule_3 : cX2_rule.data.toList.drop 71 = dktX2_rule_3 := dk_seg dksX2_rule_2 24 rfl rfl
theorem dksX2_rule_4 : cX2_rule.data.toList.drop 93 = dktX2_rule_4 := dk_seg dksX2_rule_3 22 rfl rfl
theorem dksX2_rule_5 : cX2_rule.data.toList.drop 117 = dktX2_rule_5 := dk_seg dksX2_rule_4 24 rfl rfl
theorem dksX2_rule_6 : cX2_rule.data.toList.drop 140 = dktX2_rule_6 := dk_seg dksX2_rule_5 23 rfl rfl
theorem dksX2_rule_7 : cX2_rule.data.toList.drop 162 = dktX2_rule_7 := dk_seg dksX2_rule_6 22 rfl rfl
theorem dX2_rule_0 : decode cX2_rule 0 = .ok (.aload_n 0, 1) := dk_42 (dk_at dksX2_rule_0 0 rfl rfl)
theorem dX2_rule_1 : decode cX2_rule 1 = .ok (.iload_n 2, 1) := dk_28 (dk_at dksX2_rule_0 1 rfl rfl)
theorem dX2_rule_2 : decode cX2_rule 2 = .ok (.invokevirtual 171, 3) := dk_182 0 171 (dk_at dksX2_rule_0 2 rfl rfl)
theorem dX2_rule_5 : decode cX2_rule 5 = .ok (.istore_n 3, 1) := dk_62 (dk_at dksX2_rule_0 5 rfl rfl)
theorem dX2_rule_6 : decode cX2_rule 6 = .ok (.iload_n 3, 1) := dk_29 (dk_at dksX2_rule_0 6 rfl rfl)
theorem dX2_rule_7 : decode cX2_rule 7 = .ok (.ifCond .eq 23, 3) := dk_153 0 23 (dk_at dksX2_rule_0 7 rfl rfl)
theorem dX2_rule_10 : decode cX2_rule 10 = .ok (.aload_n 0, 1) := dk_42 (dk_at dksX2_rule_0 10 rfl rfl)
theorem dX2_rule_11 : decode cX2_rule 11 = .ok (.iload_n 1, 1) := dk_27 (dk_at dksX2_rule_0 11 rfl rfl)
theorem dX2_rule_12 : decode cX2_rule 12 = .ok (.invokevirtual 174, 3) := dk_182 0 174 (dk_at dksX2_rule_0 12 rfl rfl)
theorem dX2_rule_15 : decode cX2_rule 15 = .ok (.ifCond .eq 15, 3) := dk_153 0 15 (dk_at dksX2_rule_0 15 rfl rfl)
theorem dX2_rule_18 : decode cX2_rule 18 = .ok (.iload_n 1, 1) := dk_27 (dk_at dksX2_rule_0 18 rfl rfl)
theorem dX2_rule_19 : decode cX2_rule 19 = .ok (.iload_n 2, 1) := dk_28 (dk_at dksX2_rule_0 19 rfl rfl)
theorem dX2_rule_20 : decode cX2_rule 20 = .ok (.ishr, 1) := dk_122 (dk_at dksX2_rule_0 20 rfl rfl)
theorem dX2_rule_21 : decode cX2_rule 21 = .ok (.iconst 1, 1) := dk_4 (dk_at dksX2_rule_0 21 rfl rfl)
theorem dX2_rule_22 : decode cX2_rule 22 = .ok (.iand, 1) := dk_126 (dk_at dksX2_rule_0 22 rfl rfl)
theorem dX2_rule_23 : decode cX2_rule 23 = .ok (.ifCond .ne 7, 3) := dk_154 0 7 (dk_at dksX2_rule_1 0 rfl rfl)
theorem dX2_rule_26 : decode cX2_rule 26 = .ok (.iconst 1, 1) := dk_4 (dk_at dksX2_rule_1 3 rfl rfl)
theorem dX2_rule_27 : decode cX2_rule 27 = .ok (.goto 4, 3) := dk_167 0 4 (dk_at dksX2_rule_1 4 rfl rfl)
theorem dX2_rule_30 : decode cX2_rule 30 = .ok (.iconst 0, 1) := dk_3 (dk_at dksX2_rule_1 7 rfl rfl)
theorem dX2_rule_31 : decode cX2_rule 31 = .ok (.istore 4, 2) := dk_54 4 (dk_at dksX2_rule_1 8 rfl rfl)
theorem dX2_rule_33 : decode cX2_rule 33 = .ok (.aload_n 0, 1) := dk_42 (dk_at dksX2_rule_1 10 rfl rfl)
theorem dX2_rule_34 : decode cX2_rule 34 = .ok (.getfield 177, 3) := dk_180 0 177 (dk_at dksX2_rule_1 11 rfl rfl)
theorem dX2_rule_37 : decode cX2_rule 37 = .ok (.bipush 30, 2) := dk_16 30 (dk_at dksX2_rule_1 14 rfl rfl)
theorem dX2_rule_39 : decode cX2_rule 39 = .ok (.if_icmp .ge 7, 3) := dk_162 0 7 (dk_at dksX2_rule_1 16 rfl rfl)
theorem dX2_rule_42 : decode cX2_rule 42 = .ok (.iconst 1, 1) := dk_4 (dk_at dksX2_rule_1 19 rfl rfl)
theorem dX2_rule_43 : decode cX2_rule 43 = .ok (.goto 4, 3) := dk_167 0 4 (dk_at dksX2_rule_1 20 rfl rfl)
theorem dX2_rule_46 : decode cX2_rule 46 = .ok (.iconst 0, 1) := dk_3 (dk_at dksX2_rule_1 23 rfl rfl)
theorem dX2_rule_47 : decode cX2_rule 47 = .ok (.istore 5, 2) := dk_54 5 (dk_at dksX2_rule_2 0 rfl rfl)
theorem dX2_rule_49 : decode cX2_rule 49 = .ok (.iconst 0, 1) := dk_3 (dk_at dksX2_rule_2 2 rfl rfl)
theorem dX2_rule_50 : decode cX2_rule 50 = .ok (.istore 6, 2) := dk_54 6 (dk_at dksX2_rule_2 3 rfl rfl)
theorem dX2_rule_52 : decode cX2_rule 52 = .ok (.iload 6, 2) := dk_21 6 (dk_at dksX2_rule_2 5 rfl rfl)
theorem dX2_rule_54 : decode cX2_rule 54 = .ok (.aload_n 0, 1) := dk_42 (dk_at dksX2_rule_2 7 rfl rfl)
theorem dX2_rule_55 : decode cX2_rule 55 = .ok (.getfield 180, 3) := dk_180 0 180 (dk_at dksX2_rule_2 8 rfl rfl)
theorem dX2_rule_58 : decode cX2_rule 58 = .ok (.if_icmp .ge 41, 3) := dk_162 0 41 (dk_at dksX2_rule_2 11 rfl rfl)
theorem dX2_rule_61 : decode cX2_rule 61 = .ok (.iload 4, 2) := dk_21 4 (dk_at dksX2_rule_2 14 rfl rfl)
theorem dX2_rule_63 : decode cX2_rule 63 = .ok (.ifCond .eq 36, 3) := dk_153 0 36 (dk_at dksX2_rule_2 16 rfl rfl)
theorem dX2_rule_66 : decode cX2_rule 66 = .ok (.iload 5, 2) := dk_21 5 (dk_at dksX2_rule_2 19 rfl rfl)
theorem dX2_rule_68 : decode cX2_rule 68 = .ok (.ifCond .eq 22, 3) := dk_153 0 22 (dk_at dksX2_rule_2 21 rfl rfl)
theorem dX2_rule_71 : decode cX2_rule 71 = .ok (.aload_n 0, 1) := dk_42 (dk_at dksX2_rule_3 0 rfl rfl)
theorem dX2_rule_72 : decode cX2_rule 72 = .ok (.getfield 63, 3) := dk_180 0 63 (dk_at dksX2_rule_3 1 rfl rfl)
theorem dX2_rule_75 : decode cX2_rule 75 = .ok (.iload 6, 2) := dk_21 6 (dk_at dksX2_rule_3 4 rfl rfl)
theorem dX2_rule_77 : decode cX2_rule 77 = .ok (.iaload, 1) := dk_46 (dk_at dksX2_rule_3 6 rfl rfl)
theorem dX2_rule_78 : decode cX2_rule 78 = .ok (.iload_n 1, 1) := dk_27 (dk_at dksX2_rule_3 7 rfl rfl)
theorem dX2_rule_79 : decode cX2_rule 79 = .ok (.iload_n 2, 1) := dk_28 (dk_at dksX2_rule_3 8 rfl rfl)
theorem dX2_rule_80 : decode cX2_rule 80 = .ok (.invokestatic 183, 3) := dk_184 0 183 (dk_at dksX2_rule_3 9 rfl rfl)
theorem dX2_rule_83 : decode cX2_rule 83 = .ok (.ifCond .ne 7, 3) := dk_154 0 7 (dk_at dksX2_rule_3 12 rfl rfl)
theorem dX2_rule_86 : decode cX2_rule 86 = .ok (.iconst 1, 1) := dk_4 (dk_at dksX2_rule_3 15 rfl rfl)
theorem dX2_rule_87 : decode cX2_rule 87 = .ok (.goto 4, 3) := dk_167 0 4 (dk_at dksX2_rule_3 16 rfl rfl)
theorem dX2_rule_90 : decode cX2_rule 90 = .ok (.iconst 0, 1) := dk_3 (dk_at dksX2_rule_3 19 rfl rfl)
theorem dX2_rule_91 : decode cX2_rule 91 = .ok (.istore 5, 2) := dk_54 5 (dk_at dksX2_rule_3 20 rfl rfl)
theorem dX2_rule_93 : decode cX2_rule 93 = .ok (.iinc 6 1, 3) := dk_132 6 1 (dk_at dksX2_rule_4 0 rfl rfl)
theorem dX2_rule_96 : decode cX2_rule 96 = .ok (.goto (-44), 3) := dk_167 255 212 (dk_at dksX2_rule_4 3 rfl rfl)
theorem dX2_rule_99 : decode cX2_rule 99 = .ok (.aload_n 0, 1) := dk_42 (dk_at dksX2_rule_4 6 rfl rfl)
theorem dX2_rule_100 : decode cX2_rule 100 = .ok (.iload_n 3, 1) := dk_29 (dk_at dksX2_rule_4 7 rfl rfl)
theorem dX2_rule_101 : decode cX2_rule 101 = .ok (.ifCond .ne 7, 3) := dk_154 0 7 (dk_at dksX2_rule_4 8 rfl rfl)
theorem dX2_rule_104 : decode cX2_rule 104 = .ok (.iconst 1, 1) := dk_4 (dk_at dksX2_rule_4 11 rfl rfl)
theorem dX2_rule_105 : decode cX2_rule 105 = .ok (.goto 22, 3) := dk_167 0 22 (dk_at dksX2_rule_4 12 rfl rfl)
theorem dX2_rule_108 : decode cX2_rule 108 = .ok (.iload 4, 2) := dk_21 4 (dk_at dksX2_rule_4 15 rfl rfl)
theorem dX2_rule_110 : decode cX2_rule 110 = .ok (.ifCond .ne 7, 3) := dk_154 0 7 (dk_at dksX2_rule_4 17 rfl rfl)
theorem dX2_rule_113 : decode cX2_rule 113 = .ok (.iconst 2, 1) := dk_5 (dk_at dksX2_rule_4 20 rfl rfl)
theorem dX2_rule_114 : decode cX2_rule 114 = .ok (.goto 13, 3) := dk_167 0 13 (dk_at dksX2_rule_4 21 rfl rfl)
theorem dX2_rule_117 : decode cX2_rule 117 = .ok (.iload 5, 2) := dk_21 5 (dk_at dksX2_rule_5 0 rfl rfl)
theorem dX2_rule_119 : decode cX2_rule 119 = .ok (.ifCond .eq 7, 3) := dk_153 0 7 (dk_at dksX2_rule_5 2 rfl rfl)
theorem dX2_rule_122 : decode cX2_rule 122 = .ok (.iconst 0, 1) := dk_3 (dk_at dksX2_rule_5 5 rfl rfl)
theorem dX2_rule_123 : decode cX2_rule 123 = .ok (.goto 4, 3) := dk_167 0 4 (dk_at dksX2_rule_5 6 rfl rfl)
theorem dX2_rule_126 : decode cX2_rule 126 = .ok (.iconst 3, 1) := dk_6 (dk_at dksX2_rule_5 9 rfl rfl)
theorem dX2_rule_127 : decode cX2_rule 127 = .ok (.invokevirtual 99, 3) := dk_182 0 99 (dk_at dksX2_rule_5 10 rfl rfl)
theorem dX2_rule_130 : decode cX2_rule 130 = .ok (.ifCond .ne 5, 3) := dk_154 0 5 (dk_at dksX2_rule_5 13 rfl rfl)
theorem dX2_rule_133 : decode cX2_rule 133 = .ok (.iconst 0, 1) := dk_3 (dk_at dksX2_rule_5 16 rfl rfl)
theorem dX2_rule_134 : decode cX2_rule 134 = .ok (.ireturn, 1) := dk_172 (dk_at dksX2_rule_5 17 rfl rfl)
theorem dX2_rule_135 : decode cX2_rule 135 = .ok (.aload_n 0, 1) := dk_42 (dk_at dksX2_rule_5 18 rfl rfl)
theorem dX2_rule_136 : decode cX2_rule 136 = .ok (.getfield 57, 3) := dk_180 0 57 (dk_at dksX2_rule_5 19 rfl rfl)
theorem dX2_rule_139 : decode cX2_rule 139 = .ok (.aload_n 0, 1) := dk_42 (dk_at dksX2_rule_5 22 rfl rfl)
theorem dX2_rule_140 : decode cX2_rule 140 = .ok (.getfield 177, 3) := dk_180 0 177 (dk_at dksX2_rule_6 0 rfl rfl)
theorem dX2_rule_143 : decode cX2_rule 143 = .ok (.iload_n 1, 1) := dk_27 (dk_at dksX2_rule_6 3 rfl rfl)
theorem dX2_rule_144 : decode cX2_rule 144 = .ok (.iastore, 1) := dk_79 (dk_at dksX2_rule_6 4 rfl rfl)
theorem dX2_rule_145 : decode cX2_rule 145 = .ok (.aload_n 0, 1) := dk_42 (dk_at dksX2_rule_6 5 rfl rfl)
theorem dX2_rule_146 : decode cX2_rule 146 = .ok (.getfield 60, 3) := dk_180 0 60 (dk_at dksX2_rule_6 6 rfl rfl)
theorem dX2_rule_149 : decode cX2_rule 149 = .ok (.aload_n 0, 1) := dk_42 (dk_at dksX2_rule_6 9 rfl rfl)
theorem dX2_rule_150 : decode cX2_rule 150 = .ok (.getfield 177, 3) := dk_180 0 177 (dk_at dksX2_rule_6 10 rfl rfl)
theorem dX2_rule_153 : decode cX2_rule 153 = .ok (.iload_n 2, 1) := dk_28 (dk_at dksX2_rule_6 13 rfl rfl)
theorem dX2_rule_154 : decode cX2_rule 154 = .ok (.iastore, 1) := dk_79 (dk_at dksX2_rule_6 14 rfl rfl)
theorem dX2_rule_155 : decode cX2_rule 155 = .ok (.aload_n 0, 1) := dk_42 (dk_at dksX2_rule_6 15 rfl rfl)
theorem dX2_rule_156 : decode cX2_rule 156 = .ok (.dup, 1) := dk_89 (dk_at dksX2_rule_6 16 rfl rfl)
theorem dX2_rule_157 : decode cX2_rule 157 = .ok (.getfield 177, 3) := dk_180 0 177 (dk_at dksX2_rule_6 17 rfl rfl)
theorem dX2_rule_160 : decode cX2_rule 160 = .ok (.iconst 1, 1) := dk_4 (dk_at dksX2_rule_6 20 rfl rfl)
theorem dX2_rule_161 : decode cX2_rule 161 = .ok (.iadd, 1) := dk_96 (dk_at dksX2_rule_6 21 rfl rfl)
theorem dX2_rule_162 : decode cX2_rule 162 = .ok (.putfield 177, 3) := dk_181 0 177 (dk_at dksX2_rule_7 0 rfl rfl)
theorem dX2_rule_165 : decode cX2_rule 165 = .ok (.aload_n 0, 1) := dk_42 (dk_at dksX2_rule_7 3 rfl rfl)
theorem dX2_rule_166 : decode cX2_rule 166 = .ok (.getfield 177, 3) := dk_180 0 177 (dk_at dksX2_rule_7 4 rfl rfl)
theorem dX2_rule_169 : decode cX2_rule 169 = .ok (.iconst 1, 1) := dk_4 (dk_at dksX2_rule_7 7 rfl rfl)
theorem dX2_rule_170 : decode cX2_rule 170 = .ok (.isub, 1) := dk_100 (dk_at dksX2_rule_7 8 rfl rfl)
theorem dX2_rule_171 : decode cX2_rule 171 = .ok (.ireturn, 1) := dk_172 (dk_at dksX2_rule_7 9 rfl rfl)
abbrev cX2_isPrinciple : ByteArray := prog_17_method_31_code
def yX2_isPrinciple : MethodName := ⟨RX2, "isPrinciple", "(I)Z"⟩
def dkwX2_isPrinciple_0 : List UInt8 := [27, 3, 42, 180, 0, 168, 4, 100, 184, 0, 85, 172]
abbrev dktX2_isPrinciple_0 : List UInt8 := dkwX2_isPrinciple_0 ++ []
theorem dksX2_isPrinciple_0 : cX2_isPrinciple.data.toList.drop 0 = dktX2_isPrinciple_0 := by decide +kernel
theorem dX2_isPrinciple_0 : decode cX2_isPrinciple 0 = .ok (.iload_n 1, 1) := dk_27 (dk_at dksX2_isPrinciple_0 0 rfl rfl)
theorem dX2_isPrinciple_1 : decode cX2_isPrinciple 1 = .ok (.iconst 0, 1) := dk_3 (dk_at dksX2_isPrinciple_0 1 rfl rfl)
theorem dX2_isPrinciple_2 : decode cX2_isPrinciple 2 = .ok (.aload_n 0, 1) := dk_42 (dk_at dksX2_isPrinciple_0 2 rfl rfl)
theorem dX2_isPrinciple_3 : decode cX2_isPrinciple 3 = .ok (.getfield 168, 3) := dk_180 0 168 (dk_at dksX2_isPrinciple_0 3 rfl rfl)
theorem dX2_isPrinciple_6 : decode cX2_isPrinciple 6 = .ok (.iconst 1, 1) := dk_4 (dk_at dksX2_isPrinciple_0 6 rfl rfl)
theorem dX2_isPrinciple_7 : decode cX2_isPrinciple 7 = .ok (.isub, 1) := dk_100 (dk_at dksX2_isPrinciple_0 7 rfl rfl)
theorem dX2_isPrinciple_8 : decode cX2_isPrinciple 8 = .ok (.invokestatic 85, 3) := dk_184 0 85 (dk_at dksX2_isPrinciple_0 8 rfl rfl)
theorem dX2_isPrinciple_11 : decode cX2_isPrinciple 11 = .ok (.ireturn, 1) := dk_172 (dk_at dksX2_isPrinciple_0 11 rfl rfl)
abbrev cX2_isSet : ByteArray := prog_17_method_32_code
def yX2_isSet : MethodName := ⟨RX2, "isSet", "(I)Z"⟩
def dkwX2_isSet_0 : List UInt8 := [27, 3, 4, 42, 180, 0, 168, 120, 4, 100, 184, 0, 85, 172]
abbrev dktX2_isSet_0 : List UInt8 := dkwX2_isSet_0 ++ []
theorem dksX2_isSet_0 : cX2_isSet.data.toList.drop 0 = dktX2_isSet_0 := by decide +kernel
theorem dX2_isSet_0 : decode cX2_isSet 0 = .ok (.iload_n 1, 1) := dk_27 (dk_at dksX2_isSet_0 0 rfl rfl)
theorem dX2_isSet_1 : decode cX2_isSet 1 = .ok (.iconst 0, 1) := dk_3 (dk_at dksX2_isSet_0 1 rfl rfl)
theorem dX2_isSet_2 : decode cX2_isSet 2 = .ok (.iconst 1, 1) := dk_4 (dk_at dksX2_isSet_0 2 rfl rfl)
theorem dX2_isSet_3 : decode cX2_isSet 3 = .ok (.aload_n 0, 1) := dk_42 (dk_at dksX2_isSet_0 3 rfl rfl)
theorem dX2_isSet_4 : decode cX2_isSet 4 = .ok (.getfield 168, 3) := dk_180 0 168 (dk_at dksX2_isSet_0 4 rfl rfl)
theorem dX2_isSet_7 : decode cX2_isSet 7 = .ok (.ishl, 1) := dk_120 (dk_at dksX2_isSet_0 7 rfl rfl)
theorem dX2_isSet_8 : decode cX2_isSet 8 = .ok (.iconst 1, 1) := dk_4 (dk_at dksX2_isSet_0 8 rfl rfl)
theorem dX2_isSet_9 : decode cX2_isSet 9 = .ok (.isub, 1) := dk_100 (dk_at dksX2_isSet_0 9 rfl rfl)
theorem dX2_isSet_10 : decode cX2_isSet 10 = .ok (.invokestatic 85, 3) := dk_184 0 85 (dk_at dksX2_isSet_0 10 rfl rfl)
theorem dX2_isSet_13 : decode cX2_isSet 13 = .ok (.ireturn, 1) := dk_172 (dk_at dksX2_isSet_0 13 rfl rfl)
abbrev cX2_breaks : ByteArray := prog_17_method_33_code
def yX2_breaks : MethodName := ⟨RX2, "breaks", "(III)Z"⟩
def dkwX2_breaks_0 : List UInt8 := [27, 26, 2, 130, 126, 154, 0, 15, 26, 28, 122, 4, 126, 154, 0, 7, 4, 167, 0, 4, 3, 172]
abbrev dktX2_breaks_0 : List UInt8 := dkwX2_breaks_0 ++ []
theorem dksX2_breaks_0 : cX2_breaks.data.toList.drop 0 = dktX2_breaks_0 := by decide +kernel
theorem dX2_breaks_0 : decode cX2_breaks 0 = .ok (.iload_n 1, 1) := dk_27 (dk_at dksX2_breaks_0 0 rfl rfl)
theorem dX2_breaks_1 : decode cX2_breaks 1 = .ok (.iload_n 0, 1) := dk_26 (dk_at dksX2_breaks_0 1 rfl rfl)
theorem dX2_breaks_2 : decode cX2_breaks 2 = .ok (.iconst (-1), 1) := dk_2 (dk_at dksX2_breaks_0 2 rfl rfl)
theorem dX2_breaks_3 : decode cX2_breaks 3 = .ok (.ixor, 1) := dk_130 (dk_at dksX2_breaks_0 3 rfl rfl)
theorem dX2_breaks_4 : decode cX2_breaks 4 = .ok (.iand, 1) := dk_126 (dk_at dksX2_breaks_0 4 rfl rfl)
theorem dX2_breaks_5 : decode cX2_breaks 5 = .ok (.ifCond .ne 15, 3) := dk_154 0 15 (dk_at dksX2_breaks_0 5 rfl rfl)
theorem dX2_breaks_8 : decode cX2_breaks 8 = .ok (.iload_n 0, 1) := dk_26 (dk_at dksX2_breaks_0 8 rfl rfl)
theorem dX2_breaks_9 : decode cX2_breaks 9 = .ok (.iload_n 2, 1) := dk_28 (dk_at dksX2_breaks_0 9 rfl rfl)
theorem dX2_breaks_10 : decode cX2_breaks 10 = .ok (.ishr, 1) := dk_122 (dk_at dksX2_breaks_0 10 rfl rfl)
theorem dX2_breaks_11 : decode cX2_breaks 11 = .ok (.iconst 1, 1) := dk_4 (dk_at dksX2_breaks_0 11 rfl rfl)
theorem dX2_breaks_12 : decode cX2_breaks 12 = .ok (.iand, 1) := dk_126 (dk_at dksX2_breaks_0 12 rfl rfl)
theorem dX2_breaks_13 : decode cX2_breaks 13 = .ok (.ifCond .ne 7, 3) := dk_154 0 7 (dk_at dksX2_breaks_0 13 rfl rfl)
theorem dX2_breaks_16 : decode cX2_breaks 16 = .ok (.iconst 1, 1) := dk_4 (dk_at dksX2_breaks_0 16 rfl rfl)
theorem dX2_breaks_17 : decode cX2_breaks 17 = .ok (.goto 4, 3) := dk_167 0 4 (dk_at dksX2_breaks_0 17 rfl rfl)
theorem dX2_breaks_20 : decode cX2_breaks 20 = .ok (.iconst 0, 1) := dk_3 (dk_at dksX2_breaks_0 20 rfl rfl)
theorem dX2_breaks_21 : decode cX2_breaks 21 = .ok (.ireturn, 1) := dk_172 (dk_at dksX2_breaks_0 21 rfl rfl)
abbrev cX2_model : ByteArray := prog_17_method_35_code
def yX2_model : MethodName := ⟨RX2, "model", "(I)I"⟩
def dkwX2_model_5 : List UInt8 := [181, 0, 180, 42, 180, 0, 180, 4, 100, 172]
abbrev dktX2_model_5 : List UInt8 := dkwX2_model_5 ++ []
def dkwX2_model_4 : List UInt8 := [154, 0, 5, 3, 172, 42, 180, 0, 63, 42, 180, 0, 180, 27, 79, 42, 89, 180, 0, 180, 4, 96]
abbrev dktX2_model_4 : List UInt8 := dkwX2_model_4 ++ dktX2_model_5
def dkwX2_model_3 : List UInt8 := [167, 255, 209, 42, 28, 154, 0, 7, 4, 167, 0, 12, 29, 153, 0, 7, 3, 167, 0, 4, 5, 182, 0, 99]
abbrev dktX2_model_3 : List UInt8 := dkwX2_model_3 ++ dktX2_model_4
def dkwX2_model_2 : List UInt8 := [46, 42, 180, 0, 60, 21, 4, 46, 184, 0, 183, 154, 0, 7, 4, 167, 0, 4, 3, 62, 132, 4, 1]
abbrev dktX2_model_2 : List UInt8 := dkwX2_model_2 ++ dktX2_model_3
def dkwX2_model_1 : List UInt8 := [21, 4, 42, 180, 0, 177, 162, 0, 44, 28, 153, 0, 40, 29, 153, 0, 28, 27, 42, 180, 0, 57, 21, 4]
abbrev dktX2_model_1 : List UInt8 := dkwX2_model_1 ++ dktX2_model_2
def dkwX2_model_0 : List UInt8 := [42, 27, 182, 0, 174, 61, 42, 180, 0, 180, 16, 10, 162, 0, 7, 4, 167, 0, 4, 3, 62, 3, 54, 4]
abbrev dktX2_model_0 : List UInt8 := dkwX2_model_0 ++ dktX2_model_1
theorem dksX2_model_0 : cX2_model.data.toList.drop 0 = dktX2_model_0 := by decide +kernel
theorem dksX2_model_1 : cX2_model.data.toList.drop 24 = dktX2_model_1 := dk_seg dksX2_model_0 24 rfl rfl
theorem dksX2_model_2 : cX2_model.data.toList.drop 48 = dktX2_model_2 := dk_seg dksX2_model_1 24 rfl rfl
theorem dksX2_model_3 : cX2_model.data.toList.drop 71 = dktX2_model_3 := dk_seg dksX2_model_2 23 rfl rfl
theorem dksX2_model_4 : cX2_model.data.toList.drop 95 = dktX2_model_4 := dk_seg dksX2_model_3 24 rfl rfl
theorem dksX2_model_5 : cX2_model.data.toList.drop 117 = dktX2_model_5 := dk_seg dksX2_model_4 22 rfl rfl
theorem dX2_model_0 : decode cX2_model 0 = .ok (.aload_n 0, 1) := dk_42 (dk_at dksX2_model_0 0 rfl rfl)
theorem dX2_model_1 : decode cX2_model 1 = .ok (.iload_n 1, 1) := dk_27 (dk_at dksX2_model_0 1 rfl rfl)
theorem dX2_model_2 : decode cX2_model 2 = .ok (.invokevirtual 174, 3) := dk_182 0 174 (dk_at dksX2_model_0 2 rfl rfl)
theorem dX2_model_5 : decode cX2_model 5 = .ok (.istore_n 2, 1) := dk_61 (dk_at dksX2_model_0 5 rfl rfl)
theorem dX2_model_6 : decode cX2_model 6 = .ok (.aload_n 0, 1) := dk_42 (dk_at dksX2_model_0 6 rfl rfl)
theorem dX2_model_7 : decode cX2_model 7 = .ok (.getfield 180, 3) := dk_180 0 180 (dk_at dksX2_model_0 7 rfl rfl)
theorem dX2_model_10 : decode cX2_model 10 = .ok (.bipush 10, 2) := dk_16 10 (dk_at dksX2_model_0 10 rfl rfl)
theorem dX2_model_12 : decode cX2_model 12 = .ok (.if_icmp .ge 7, 3) := dk_162 0 7 (dk_at dksX2_model_0 12 rfl rfl)
theorem dX2_model_15 : decode cX2_model 15 = .ok (.iconst 1, 1) := dk_4 (dk_at dksX2_model_0 15 rfl rfl)
theorem dX2_model_16 : decode cX2_model 16 = .ok (.goto 4, 3) := dk_167 0 4 (dk_at dksX2_model_0 16 rfl rfl)
theorem dX2_model_19 : decode cX2_model 19 = .ok (.iconst 0, 1) := dk_3 (dk_at dksX2_model_0 19 rfl rfl)
theorem dX2_model_20 : decode cX2_model 20 = .ok (.istore_n 3, 1) := dk_62 (dk_at dksX2_model_0 20 rfl rfl)
theorem dX2_model_21 : decode cX2_model 21 = .ok (.iconst 0, 1) := dk_3 (dk_at dksX2_model_0 21 rfl rfl)
theorem dX2_model_22 : decode cX2_model 22 = .ok (.istore 4, 2) := dk_54 4 (dk_at dksX2_model_0 22 rfl rfl)
theorem dX2_model_24 : decode cX2_model 24 = .ok (.iload 4, 2) := dk_21 4 (dk_at dksX2_model_1 0 rfl rfl)
theorem dX2_model_26 : decode cX2_model 26 = .ok (.aload_n 0, 1) := dk_42 (dk_at dksX2_model_1 2 rfl rfl)
theorem dX2_model_27 : decode cX2_model 27 = .ok (.getfield 177, 3) := dk_180 0 177 (dk_at dksX2_model_1 3 rfl rfl)
theorem dX2_model_30 : decode cX2_model 30 = .ok (.if_icmp .ge 44, 3) := dk_162 0 44 (dk_at dksX2_model_1 6 rfl rfl)
theorem dX2_model_33 : decode cX2_model 33 = .ok (.iload_n 2, 1) := dk_28 (dk_at dksX2_model_1 9 rfl rfl)
theorem dX2_model_34 : decode cX2_model 34 = .ok (.ifCond .eq 40, 3) := dk_153 0 40 (dk_at dksX2_model_1 10 rfl rfl)
theorem dX2_model_37 : decode cX2_model 37 = .ok (.iload_n 3, 1) := dk_29 (dk_at dksX2_model_1 13 rfl rfl)
theorem dX2_model_38 : decode cX2_model 38 = .ok (.ifCond .eq 28, 3) := dk_153 0 28 (dk_at dksX2_model_1 14 rfl rfl)
theorem dX2_model_41 : decode cX2_model 41 = .ok (.iload_n 1, 1) := dk_27 (dk_at dksX2_model_1 17 rfl rfl)
theorem dX2_model_42 : decode cX2_model 42 = .ok (.aload_n 0, 1) := dk_42 (dk_at dksX2_model_1 18 rfl rfl)
theorem dX2_model_43 : decode cX2_model 43 = .ok (.getfield 57, 3) := dk_180 0 57 (dk_at dksX2_model_1 19 rfl rfl)
theorem dX2_model_46 : decode cX2_model 46 = .ok (.iload 4, 2) := dk_21 4 (dk_at dksX2_model_1 22 rfl rfl)
theorem dX2_model_48 : decode cX2_model 48 = .ok (.iaload, 1) := dk_46 (dk_at dksX2_model_2 0 rfl rfl)
theorem dX2_model_49 : decode cX2_model 49 = .ok (.aload_n 0, 1) := dk_42 (dk_at dksX2_model_2 1 rfl rfl)
theorem dX2_model_50 : decode cX2_model 50 = .ok (.getfield 60, 3) := dk_180 0 60 (dk_at dksX2_model_2 2 rfl rfl)
theorem dX2_model_53 : decode cX2_model 53 = .ok (.iload 4, 2) := dk_21 4 (dk_at dksX2_model_2 5 rfl rfl)
theorem dX2_model_55 : decode cX2_model 55 = .ok (.iaload, 1) := dk_46 (dk_at dksX2_model_2 7 rfl rfl)
theorem dX2_model_56 : decode cX2_model 56 = .ok (.invokestatic 183, 3) := dk_184 0 183 (dk_at dksX2_model_2 8 rfl rfl)
theorem dX2_model_59 : decode cX2_model 59 = .ok (.ifCond .ne 7, 3) := dk_154 0 7 (dk_at dksX2_model_2 11 rfl rfl)
theorem dX2_model_62 : decode cX2_model 62 = .ok (.iconst 1, 1) := dk_4 (dk_at dksX2_model_2 14 rfl rfl)
theorem dX2_model_63 : decode cX2_model 63 = .ok (.goto 4, 3) := dk_167 0 4 (dk_at dksX2_model_2 15 rfl rfl)
theorem dX2_model_66 : decode cX2_model 66 = .ok (.iconst 0, 1) := dk_3 (dk_at dksX2_model_2 18 rfl rfl)
theorem dX2_model_67 : decode cX2_model 67 = .ok (.istore_n 3, 1) := dk_62 (dk_at dksX2_model_2 19 rfl rfl)
theorem dX2_model_68 : decode cX2_model 68 = .ok (.iinc 4 1, 3) := dk_132 4 1 (dk_at dksX2_model_2 20 rfl rfl)
theorem dX2_model_71 : decode cX2_model 71 = .ok (.goto (-47), 3) := dk_167 255 209 (dk_at dksX2_model_3 0 rfl rfl)
theorem dX2_model_74 : decode cX2_model 74 = .ok (.aload_n 0, 1) := dk_42 (dk_at dksX2_model_3 3 rfl rfl)
theorem dX2_model_75 : decode cX2_model 75 = .ok (.iload_n 2, 1) := dk_28 (dk_at dksX2_model_3 4 rfl rfl)
theorem dX2_model_76 : decode cX2_model 76 = .ok (.ifCond .ne 7, 3) := dk_154 0 7 (dk_at dksX2_model_3 5 rfl rfl)
theorem dX2_model_79 : decode cX2_model 79 = .ok (.iconst 1, 1) := dk_4 (dk_at dksX2_model_3 8 rfl rfl)
theorem dX2_model_80 : decode cX2_model 80 = .ok (.goto 12, 3) := dk_167 0 12 (dk_at dksX2_model_3 9 rfl rfl)
theorem dX2_model_83 : decode cX2_model 83 = .ok (.iload_n 3, 1) := dk_29 (dk_at dksX2_model_3 12 rfl rfl)
theorem dX2_model_84 : decode cX2_model 84 = .ok (.ifCond .eq 7, 3) := dk_153 0 7 (dk_at dksX2_model_3 13 rfl rfl)
theorem dX2_model_87 : decode cX2_model 87 = .ok (.iconst 0, 1) := dk_3 (dk_at dksX2_model_3 16 rfl rfl)
theorem dX2_model_88 : decode cX2_model 88 = .ok (.goto 4, 3) := dk_167 0 4 (dk_at dksX2_model_3 17 rfl rfl)
theorem dX2_model_91 : decode cX2_model 91 = .ok (.iconst 2, 1) := dk_5 (dk_at dksX2_model_3 20 rfl rfl)
theorem dX2_model_92 : decode cX2_model 92 = .ok (.invokevirtual 99, 3) := dk_182 0 99 (dk_at dksX2_model_3 21 rfl rfl)
theorem dX2_model_95 : decode cX2_model 95 = .ok (.ifCond .ne 5, 3) := dk_154 0 5 (dk_at dksX2_model_4 0 rfl rfl)
theorem dX2_model_98 : decode cX2_model 98 = .ok (.iconst 0, 1) := dk_3 (dk_at dksX2_model_4 3 rfl rfl)
theorem dX2_model_99 : decode cX2_model 99 = .ok (.ireturn, 1) := dk_172 (dk_at dksX2_model_4 4 rfl rfl)
theorem dX2_model_100 : decode cX2_model 100 = .ok (.aload_n 0, 1) := dk_42 (dk_at dksX2_model_4 5 rfl rfl)
theorem dX2_model_101 : decode cX2_model 101 = .ok (.getfield 63, 3) := dk_180 0 63 (dk_at dksX2_model_4 6 rfl rfl)
theorem dX2_model_104 : decode cX2_model 104 = .ok (.aload_n 0, 1) := dk_42 (dk_at dksX2_model_4 9 rfl rfl)
theorem dX2_model_105 : decode cX2_model 105 = .ok (.getfield 180, 3) := dk_180 0 180 (dk_at dksX2_model_4 10 rfl rfl)
theorem dX2_model_108 : decode cX2_model 108 = .ok (.iload_n 1, 1) := dk_27 (dk_at dksX2_model_4 13 rfl rfl)
theorem dX2_model_109 : decode cX2_model 109 = .ok (.iastore, 1) := dk_79 (dk_at dksX2_model_4 14 rfl rfl)
theorem dX2_model_110 : decode cX2_model 110 = .ok (.aload_n 0, 1) := dk_42 (dk_at dksX2_model_4 15 rfl rfl)
theorem dX2_model_111 : decode cX2_model 111 = .ok (.dup, 1) := dk_89 (dk_at dksX2_model_4 16 rfl rfl)
theorem dX2_model_112 : decode cX2_model 112 = .ok (.getfield 180, 3) := dk_180 0 180 (dk_at dksX2_model_4 17 rfl rfl)
theorem dX2_model_115 : decode cX2_model 115 = .ok (.iconst 1, 1) := dk_4 (dk_at dksX2_model_4 20 rfl rfl)
theorem dX2_model_116 : decode cX2_model 116 = .ok (.iadd, 1) := dk_96 (dk_at dksX2_model_4 21 rfl rfl)
theorem dX2_model_117 : decode cX2_model 117 = .ok (.putfield 180, 3) := dk_181 0 180 (dk_at dksX2_model_5 0 rfl rfl)
theorem dX2_model_120 : decode cX2_model 120 = .ok (.aload_n 0, 1) := dk_42 (dk_at dksX2_model_5 3 rfl rfl)
theorem dX2_model_121 : decode cX2_model 121 = .ok (.getfield 180, 3) := dk_180 0 180 (dk_at dksX2_model_5 4 rfl rfl)
theorem dX2_model_124 : decode cX2_model 124 = .ok (.iconst 1, 1) := dk_4 (dk_at dksX2_model_5 7 rfl rfl)
theorem dX2_model_125 : decode cX2_model 125 = .ok (.isub, 1) := dk_100 (dk_at dksX2_model_5 8 rfl rfl)
theorem dX2_model_126 : decode cX2_model 126 = .ok (.ireturn, 1) := dk_172 (dk_at dksX2_model_5 9 rfl rfl)
abbrev cX2_proves : ByteArray := prog_17_method_38_code
def yX2_proves : MethodName := ⟨RX2, "proves", "(I)I"⟩
def dkwX2_proves_1 : List UInt8 := [182, 0, 189, 167, 0, 4, 3, 172]
abbrev dktX2_proves_1 : List UInt8 := dkwX2_proves_1 ++ []
def dkwX2_proves_0 : List UInt8 := [42, 42, 27, 182, 0, 174, 153, 0, 7, 3, 167, 0, 4, 4, 182, 0, 99, 153, 0, 11, 42, 27]
abbrev dktX2_proves_0 : List UInt8 := dkwX2_proves_0 ++ dktX2_proves_1
theorem dksX2_proves_0 : cX2_proves.data.toList.drop 0 = dktX2_proves_0 := by decide +kernel
theorem dksX2_proves_1 : cX2_proves.data.toList.drop 22 = dktX2_proves_1 := dk_seg dksX2_proves_0 22 rfl rfl
theorem dX2_proves_0 : decode cX2_proves 0 = .ok (.aload_n 0, 1) := dk_42 (dk_at dksX2_proves_0 0 rfl rfl)
theorem dX2_proves_1 : decode cX2_proves 1 = .ok (.aload_n 0, 1) := dk_42 (dk_at dksX2_proves_0 1 rfl rfl)
theorem dX2_proves_2 : decode cX2_proves 2 = .ok (.iload_n 1, 1) := dk_27 (dk_at dksX2_proves_0 2 rfl rfl)
theorem dX2_proves_3 : decode cX2_proves 3 = .ok (.invokevirtual 174, 3) := dk_182 0 174 (dk_at dksX2_proves_0 3 rfl rfl)
theorem dX2_proves_6 : decode cX2_proves 6 = .ok (.ifCond .eq 7, 3) := dk_153 0 7 (dk_at dksX2_proves_0 6 rfl rfl)
theorem dX2_proves_9 : decode cX2_proves 9 = .ok (.iconst 0, 1) := dk_3 (dk_at dksX2_proves_0 9 rfl rfl)
theorem dX2_proves_10 : decode cX2_proves 10 = .ok (.goto 4, 3) := dk_167 0 4 (dk_at dksX2_proves_0 10 rfl rfl)
theorem dX2_proves_13 : decode cX2_proves 13 = .ok (.iconst 1, 1) := dk_4 (dk_at dksX2_proves_0 13 rfl rfl)
theorem dX2_proves_14 : decode cX2_proves 14 = .ok (.invokevirtual 99, 3) := dk_182 0 99 (dk_at dksX2_proves_0 14 rfl rfl)
theorem dX2_proves_17 : decode cX2_proves 17 = .ok (.ifCond .eq 11, 3) := dk_153 0 11 (dk_at dksX2_proves_0 17 rfl rfl)
theorem dX2_proves_20 : decode cX2_proves 20 = .ok (.aload_n 0, 1) := dk_42 (dk_at dksX2_proves_0 20 rfl rfl)
theorem dX2_proves_21 : decode cX2_proves 21 = .ok (.iload_n 1, 1) := dk_27 (dk_at dksX2_proves_0 21 rfl rfl)
theorem dX2_proves_22 : decode cX2_proves 22 = .ok (.invokevirtual 189, 3) := dk_182 0 189 (dk_at dksX2_proves_1 0 rfl rfl)
theorem dX2_proves_25 : decode cX2_proves 25 = .ok (.goto 4, 3) := dk_167 0 4 (dk_at dksX2_proves_1 3 rfl rfl)
theorem dX2_proves_28 : decode cX2_proves 28 = .ok (.iconst 0, 1) := dk_3 (dk_at dksX2_proves_1 6 rfl rfl)
theorem dX2_proves_29 : decode cX2_proves 29 = .ok (.ireturn, 1) := dk_172 (dk_at dksX2_proves_1 7 rfl rfl)
abbrev cX2_closed : ByteArray := prog_17_method_37_code
def yX2_closed : MethodName := ⟨RX2, "closed", "(I)I"⟩
def dkwX2_closed_1 : List UInt8 := [42, 28, 182, 0, 186, 62, 167, 255, 234, 28, 172]
abbrev dktX2_closed_1 : List UInt8 := dkwX2_closed_1 ++ []
def dkwX2_closed_0 : List UInt8 := [27, 61, 42, 28, 182, 0, 186, 62, 29, 2, 159, 0, 23, 28, 4, 42, 180, 0, 60, 29, 46, 120, 128, 61]
abbrev dktX2_closed_0 : List UInt8 := dkwX2_closed_0 ++ dktX2_closed_1
theorem dksX2_closed_0 : cX2_closed.data.toList.drop 0 = dktX2_closed_0 := by decide +kernel
theorem dksX2_closed_1 : cX2_closed.data.toList.drop 24 = dktX2_closed_1 := dk_seg dksX2_closed_0 24 rfl rfl
theorem dX2_closed_0 : decode cX2_closed 0 = .ok (.iload_n 1, 1) := dk_27 (dk_at dksX2_closed_0 0 rfl rfl)
theorem dX2_closed_1 : decode cX2_closed 1 = .ok (.istore_n 2, 1) := dk_61 (dk_at dksX2_closed_0 1 rfl rfl)
theorem dX2_closed_2 : decode cX2_closed 2 = .ok (.aload_n 0, 1) := dk_42 (dk_at dksX2_closed_0 2 rfl rfl)
theorem dX2_closed_3 : decode cX2_closed 3 = .ok (.iload_n 2, 1) := dk_28 (dk_at dksX2_closed_0 3 rfl rfl)
theorem dX2_closed_4 : decode cX2_closed 4 = .ok (.invokevirtual 186, 3) := dk_182 0 186 (dk_at dksX2_closed_0 4 rfl rfl)
theorem dX2_closed_7 : decode cX2_closed 7 = .ok (.istore_n 3, 1) := dk_62 (dk_at dksX2_closed_0 7 rfl rfl)
theorem dX2_closed_8 : decode cX2_closed 8 = .ok (.iload_n 3, 1) := dk_29 (dk_at dksX2_closed_0 8 rfl rfl)
theorem dX2_closed_9 : decode cX2_closed 9 = .ok (.iconst (-1), 1) := dk_2 (dk_at dksX2_closed_0 9 rfl rfl)
theorem dX2_closed_10 : decode cX2_closed 10 = .ok (.if_icmp .eq 23, 3) := dk_159 0 23 (dk_at dksX2_closed_0 10 rfl rfl)
theorem dX2_closed_13 : decode cX2_closed 13 = .ok (.iload_n 2, 1) := dk_28 (dk_at dksX2_closed_0 13 rfl rfl)
theorem dX2_closed_14 : decode cX2_closed 14 = .ok (.iconst 1, 1) := dk_4 (dk_at dksX2_closed_0 14 rfl rfl)
theorem dX2_closed_15 : decode cX2_closed 15 = .ok (.aload_n 0, 1) := dk_42 (dk_at dksX2_closed_0 15 rfl rfl)
theorem dX2_closed_16 : decode cX2_closed 16 = .ok (.getfield 60, 3) := dk_180 0 60 (dk_at dksX2_closed_0 16 rfl rfl)
theorem dX2_closed_19 : decode cX2_closed 19 = .ok (.iload_n 3, 1) := dk_29 (dk_at dksX2_closed_0 19 rfl rfl)
theorem dX2_closed_20 : decode cX2_closed 20 = .ok (.iaload, 1) := dk_46 (dk_at dksX2_closed_0 20 rfl rfl)
theorem dX2_closed_21 : decode cX2_closed 21 = .ok (.ishl, 1) := dk_120 (dk_at dksX2_closed_0 21 rfl rfl)
theorem dX2_closed_22 : decode cX2_closed 22 = .ok (.ior, 1) := dk_128 (dk_at dksX2_closed_0 22 rfl rfl)
theorem dX2_closed_23 : decode cX2_closed 23 = .ok (.istore_n 2, 1) := dk_61 (dk_at dksX2_closed_0 23 rfl rfl)
theorem dX2_closed_24 : decode cX2_closed 24 = .ok (.aload_n 0, 1) := dk_42 (dk_at dksX2_closed_1 0 rfl rfl)
theorem dX2_closed_25 : decode cX2_closed 25 = .ok (.iload_n 2, 1) := dk_28 (dk_at dksX2_closed_1 1 rfl rfl)
theorem dX2_closed_26 : decode cX2_closed 26 = .ok (.invokevirtual 186, 3) := dk_182 0 186 (dk_at dksX2_closed_1 2 rfl rfl)
theorem dX2_closed_29 : decode cX2_closed 29 = .ok (.istore_n 3, 1) := dk_62 (dk_at dksX2_closed_1 5 rfl rfl)
theorem dX2_closed_30 : decode cX2_closed 30 = .ok (.goto (-22), 3) := dk_167 255 234 (dk_at dksX2_closed_1 6 rfl rfl)
theorem dX2_closed_33 : decode cX2_closed 33 = .ok (.iload_n 2, 1) := dk_28 (dk_at dksX2_closed_1 9 rfl rfl)
theorem dX2_closed_34 : decode cX2_closed 34 = .ok (.ireturn, 1) := dk_172 (dk_at dksX2_closed_1 10 rfl rfl)
abbrev cX2_nextRule : ByteArray := prog_17_method_36_code
def yX2_nextRule : MethodName := ⟨RX2, "nextRule", "(I)I"⟩
def dkwX2_nextRule_1 : List UInt8 := [29, 46, 184, 0, 183, 153, 0, 7, 29, 167, 0, 4, 28, 61, 132, 3, 255, 167, 255, 224, 28, 172]
abbrev dktX2_nextRule_1 : List UInt8 := dkwX2_nextRule_1 ++ []
def dkwX2_nextRule_0 : List UInt8 := [2, 61, 42, 180, 0, 177, 4, 100, 62, 29, 155, 0, 34, 27, 42, 180, 0, 57, 29, 46, 42, 180, 0, 60]
abbrev dktX2_nextRule_0 : List UInt8 := dkwX2_nextRule_0 ++ dktX2_nextRule_1
theorem dksX2_nextRule_0 : cX2_nextRule.data.toList.drop 0 = dktX2_nextRule_0 := by decide +kernel
theorem dksX2_nextRule_1 : cX2_nextRule.data.toList.drop 24 = dktX2_nextRule_1 := dk_seg dksX2_nextRule_0 24 rfl rfl
theorem dX2_nextRule_0 : decode cX2_nextRule 0 = .ok (.iconst (-1), 1) := dk_2 (dk_at dksX2_nextRule_0 0 rfl rfl)
theorem dX2_nextRule_1 : decode cX2_nextRule 1 = .ok (.istore_n 2, 1) := dk_61 (dk_at dksX2_nextRule_0 1 rfl rfl)
theorem dX2_nextRule_2 : decode cX2_nextRule 2 = .ok (.aload_n 0, 1) := dk_42 (dk_at dksX2_nextRule_0 2 rfl rfl)
theorem dX2_nextRule_3 : decode cX2_nextRule 3 = .ok (.getfield 177, 3) := dk_180 0 177 (dk_at dksX2_nextRule_0 3 rfl rfl)
theorem dX2_nextRule_6 : decode cX2_nextRule 6 = .ok (.iconst 1, 1) := dk_4 (dk_at dksX2_nextRule_0 6 rfl rfl)
theorem dX2_nextRule_7 : decode cX2_nextRule 7 = .ok (.isub, 1) := dk_100 (dk_at dksX2_nextRule_0 7 rfl rfl)
theorem dX2_nextRule_8 : decode cX2_nextRule 8 = .ok (.istore_n 3, 1) := dk_62 (dk_at dksX2_nextRule_0 8 rfl rfl)
theorem dX2_nextRule_9 : decode cX2_nextRule 9 = .ok (.iload_n 3, 1) := dk_29 (dk_at dksX2_nextRule_0 9 rfl rfl)
theorem dX2_nextRule_10 : decode cX2_nextRule 10 = .ok (.ifCond .lt 34, 3) := dk_155 0 34 (dk_at dksX2_nextRule_0 10 rfl rfl)
theorem dX2_nextRule_13 : decode cX2_nextRule 13 = .ok (.iload_n 1, 1) := dk_27 (dk_at dksX2_nextRule_0 13 rfl rfl)
theorem dX2_nextRule_14 : decode cX2_nextRule 14 = .ok (.aload_n 0, 1) := dk_42 (dk_at dksX2_nextRule_0 14 rfl rfl)
theorem dX2_nextRule_15 : decode cX2_nextRule 15 = .ok (.getfield 57, 3) := dk_180 0 57 (dk_at dksX2_nextRule_0 15 rfl rfl)
theorem dX2_nextRule_18 : decode cX2_nextRule 18 = .ok (.iload_n 3, 1) := dk_29 (dk_at dksX2_nextRule_0 18 rfl rfl)
theorem dX2_nextRule_19 : decode cX2_nextRule 19 = .ok (.iaload, 1) := dk_46 (dk_at dksX2_nextRule_0 19 rfl rfl)
theorem dX2_nextRule_20 : decode cX2_nextRule 20 = .ok (.aload_n 0, 1) := dk_42 (dk_at dksX2_nextRule_0 20 rfl rfl)
theorem dX2_nextRule_21 : decode cX2_nextRule 21 = .ok (.getfield 60, 3) := dk_180 0 60 (dk_at dksX2_nextRule_0 21 rfl rfl)
theorem dX2_nextRule_24 : decode cX2_nextRule 24 = .ok (.iload_n 3, 1) := dk_29 (dk_at dksX2_nextRule_1 0 rfl rfl)
theorem dX2_nextRule_25 : decode cX2_nextRule 25 = .ok (.iaload, 1) := dk_46 (dk_at dksX2_nextRule_1 1 rfl rfl)
theorem dX2_nextRule_26 : decode cX2_nextRule 26 = .ok (.invokestatic 183, 3) := dk_184 0 183 (dk_at dksX2_nextRule_1 2 rfl rfl)
theorem dX2_nextRule_29 : decode cX2_nextRule 29 = .ok (.ifCond .eq 7, 3) := dk_153 0 7 (dk_at dksX2_nextRule_1 5 rfl rfl)
theorem dX2_nextRule_32 : decode cX2_nextRule 32 = .ok (.iload_n 3, 1) := dk_29 (dk_at dksX2_nextRule_1 8 rfl rfl)
theorem dX2_nextRule_33 : decode cX2_nextRule 33 = .ok (.goto 4, 3) := dk_167 0 4 (dk_at dksX2_nextRule_1 9 rfl rfl)
theorem dX2_nextRule_36 : decode cX2_nextRule 36 = .ok (.iload_n 2, 1) := dk_28 (dk_at dksX2_nextRule_1 12 rfl rfl)
theorem dX2_nextRule_37 : decode cX2_nextRule 37 = .ok (.istore_n 2, 1) := dk_61 (dk_at dksX2_nextRule_1 13 rfl rfl)
theorem dX2_nextRule_38 : decode cX2_nextRule 38 = .ok (.iinc 3 (-1), 3) := dk_132 3 255 (dk_at dksX2_nextRule_1 14 rfl rfl)
theorem dX2_nextRule_41 : decode cX2_nextRule 41 = .ok (.goto (-32), 3) := dk_167 255 224 (dk_at dksX2_nextRule_1 17 rfl rfl)
theorem dX2_nextRule_44 : decode cX2_nextRule 44 = .ok (.iload_n 2, 1) := dk_28 (dk_at dksX2_nextRule_1 20 rfl rfl)
theorem dX2_nextRule_45 : decode cX2_nextRule 45 = .ok (.ireturn, 1) := dk_172 (dk_at dksX2_nextRule_1 21 rfl rfl)
abbrev cX2_proof : ByteArray := prog_17_method_40_code
def yX2_proof : MethodName := ⟨RX2, "proof", "(III)I"⟩
def dkwX2_proof_3 : List UInt8 := [182, 0, 192, 54, 5, 29, 21, 5, 162, 0, 12, 42, 180, 0, 66, 29, 46, 167, 0, 4, 2, 172]
abbrev dktX2_proof_3 : List UInt8 := dkwX2_proof_3 ++ []
def dkwX2_proof_2 : List UInt8 := [154, 0, 5, 3, 172, 42, 27, 182, 0, 189, 28, 122, 4, 126, 154, 0, 5, 2, 172, 42, 27, 28]
abbrev dktX2_proof_2 : List UInt8 := dkwX2_proof_2 ++ dktX2_proof_3
def dkwX2_proof_1 : List UInt8 := [154, 0, 7, 4, 167, 0, 16, 42, 27, 182, 0, 174, 153, 0, 7, 3, 167, 0, 4, 5, 182, 0, 99]
abbrev dktX2_proof_1 : List UInt8 := dkwX2_proof_1 ++ dktX2_proof_2
def dkwX2_proof_0 : List UInt8 := [42, 28, 182, 0, 171, 153, 0, 11, 29, 155, 0, 7, 4, 167, 0, 4, 3, 54, 4, 42, 21, 4]
abbrev dktX2_proof_0 : List UInt8 := dkwX2_proof_0 ++ dktX2_proof_1
theorem dksX2_proof_0 : cX2_proof.data.toList.drop 0 = dktX2_proof_0 := by decide +kernel
theorem dksX2_proof_1 : cX2_proof.data.toList.drop 22 = dktX2_proof_1 := dk_seg dksX2_proof_0 22 rfl rfl
theorem dksX2_proof_2 : cX2_proof.data.toList.drop 45 = dktX2_proof_2 := dk_seg dksX2_proof_1 23 rfl rfl
theorem dksX2_proof_3 : cX2_proof.data.toList.drop 67 = dktX2_proof_3 := dk_seg dksX2_proof_2 22 rfl rfl
theorem dX2_proof_0 : decode cX2_proof 0 = .ok (.aload_n 0, 1) := dk_42 (dk_at dksX2_proof_0 0 rfl rfl)
theorem dX2_proof_1 : decode cX2_proof 1 = .ok (.iload_n 2, 1) := dk_28 (dk_at dksX2_proof_0 1 rfl rfl)
theorem dX2_proof_2 : decode cX2_proof 2 = .ok (.invokevirtual 171, 3) := dk_182 0 171 (dk_at dksX2_proof_0 2 rfl rfl)
theorem dX2_proof_5 : decode cX2_proof 5 = .ok (.ifCond .eq 11, 3) := dk_153 0 11 (dk_at dksX2_proof_0 5 rfl rfl)
theorem dX2_proof_8 : decode cX2_proof 8 = .ok (.iload_n 3, 1) := dk_29 (dk_at dksX2_proof_0 8 rfl rfl)
theorem dX2_proof_9 : decode cX2_proof 9 = .ok (.ifCond .lt 7, 3) := dk_155 0 7 (dk_at dksX2_proof_0 9 rfl rfl)
theorem dX2_proof_12 : decode cX2_proof 12 = .ok (.iconst 1, 1) := dk_4 (dk_at dksX2_proof_0 12 rfl rfl)
theorem dX2_proof_13 : decode cX2_proof 13 = .ok (.goto 4, 3) := dk_167 0 4 (dk_at dksX2_proof_0 13 rfl rfl)
theorem dX2_proof_16 : decode cX2_proof 16 = .ok (.iconst 0, 1) := dk_3 (dk_at dksX2_proof_0 16 rfl rfl)
theorem dX2_proof_17 : decode cX2_proof 17 = .ok (.istore 4, 2) := dk_54 4 (dk_at dksX2_proof_0 17 rfl rfl)
theorem dX2_proof_19 : decode cX2_proof 19 = .ok (.aload_n 0, 1) := dk_42 (dk_at dksX2_proof_0 19 rfl rfl)
theorem dX2_proof_20 : decode cX2_proof 20 = .ok (.iload 4, 2) := dk_21 4 (dk_at dksX2_proof_0 20 rfl rfl)
theorem dX2_proof_22 : decode cX2_proof 22 = .ok (.ifCond .ne 7, 3) := dk_154 0 7 (dk_at dksX2_proof_1 0 rfl rfl)
theorem dX2_proof_25 : decode cX2_proof 25 = .ok (.iconst 1, 1) := dk_4 (dk_at dksX2_proof_1 3 rfl rfl)
theorem dX2_proof_26 : decode cX2_proof 26 = .ok (.goto 16, 3) := dk_167 0 16 (dk_at dksX2_proof_1 4 rfl rfl)
theorem dX2_proof_29 : decode cX2_proof 29 = .ok (.aload_n 0, 1) := dk_42 (dk_at dksX2_proof_1 7 rfl rfl)
theorem dX2_proof_30 : decode cX2_proof 30 = .ok (.iload_n 1, 1) := dk_27 (dk_at dksX2_proof_1 8 rfl rfl)
theorem dX2_proof_31 : decode cX2_proof 31 = .ok (.invokevirtual 174, 3) := dk_182 0 174 (dk_at dksX2_proof_1 9 rfl rfl)
theorem dX2_proof_34 : decode cX2_proof 34 = .ok (.ifCond .eq 7, 3) := dk_153 0 7 (dk_at dksX2_proof_1 12 rfl rfl)
theorem dX2_proof_37 : decode cX2_proof 37 = .ok (.iconst 0, 1) := dk_3 (dk_at dksX2_proof_1 15 rfl rfl)
theorem dX2_proof_38 : decode cX2_proof 38 = .ok (.goto 4, 3) := dk_167 0 4 (dk_at dksX2_proof_1 16 rfl rfl)
theorem dX2_proof_41 : decode cX2_proof 41 = .ok (.iconst 2, 1) := dk_5 (dk_at dksX2_proof_1 19 rfl rfl)
theorem dX2_proof_42 : decode cX2_proof 42 = .ok (.invokevirtual 99, 3) := dk_182 0 99 (dk_at dksX2_proof_1 20 rfl rfl)
theorem dX2_proof_45 : decode cX2_proof 45 = .ok (.ifCond .ne 5, 3) := dk_154 0 5 (dk_at dksX2_proof_2 0 rfl rfl)
theorem dX2_proof_48 : decode cX2_proof 48 = .ok (.iconst 0, 1) := dk_3 (dk_at dksX2_proof_2 3 rfl rfl)
theorem dX2_proof_49 : decode cX2_proof 49 = .ok (.ireturn, 1) := dk_172 (dk_at dksX2_proof_2 4 rfl rfl)
theorem dX2_proof_50 : decode cX2_proof 50 = .ok (.aload_n 0, 1) := dk_42 (dk_at dksX2_proof_2 5 rfl rfl)
theorem dX2_proof_51 : decode cX2_proof 51 = .ok (.iload_n 1, 1) := dk_27 (dk_at dksX2_proof_2 6 rfl rfl)
theorem dX2_proof_52 : decode cX2_proof 52 = .ok (.invokevirtual 189, 3) := dk_182 0 189 (dk_at dksX2_proof_2 7 rfl rfl)
theorem dX2_proof_55 : decode cX2_proof 55 = .ok (.iload_n 2, 1) := dk_28 (dk_at dksX2_proof_2 10 rfl rfl)
theorem dX2_proof_56 : decode cX2_proof 56 = .ok (.ishr, 1) := dk_122 (dk_at dksX2_proof_2 11 rfl rfl)
theorem dX2_proof_57 : decode cX2_proof 57 = .ok (.iconst 1, 1) := dk_4 (dk_at dksX2_proof_2 12 rfl rfl)
theorem dX2_proof_58 : decode cX2_proof 58 = .ok (.iand, 1) := dk_126 (dk_at dksX2_proof_2 13 rfl rfl)
theorem dX2_proof_59 : decode cX2_proof 59 = .ok (.ifCond .ne 5, 3) := dk_154 0 5 (dk_at dksX2_proof_2 14 rfl rfl)
theorem dX2_proof_62 : decode cX2_proof 62 = .ok (.iconst (-1), 1) := dk_2 (dk_at dksX2_proof_2 17 rfl rfl)
theorem dX2_proof_63 : decode cX2_proof 63 = .ok (.ireturn, 1) := dk_172 (dk_at dksX2_proof_2 18 rfl rfl)
theorem dX2_proof_64 : decode cX2_proof 64 = .ok (.aload_n 0, 1) := dk_42 (dk_at dksX2_proof_2 19 rfl rfl)
theorem dX2_proof_65 : decode cX2_proof 65 = .ok (.iload_n 1, 1) := dk_27 (dk_at dksX2_proof_2 20 rfl rfl)
theorem dX2_proof_66 : decode cX2_proof 66 = .ok (.iload_n 2, 1) := dk_28 (dk_at dksX2_proof_2 21 rfl rfl)
theorem dX2_proof_67 : decode cX2_proof 67 = .ok (.invokevirtual 192, 3) := dk_182 0 192 (dk_at dksX2_proof_3 0 rfl rfl)
theorem dX2_proof_70 : decode cX2_proof 70 = .ok (.istore 5, 2) := dk_54 5 (dk_at dksX2_proof_3 3 rfl rfl)
theorem dX2_proof_72 : decode cX2_proof 72 = .ok (.iload_n 3, 1) := dk_29 (dk_at dksX2_proof_3 5 rfl rfl)
theorem dX2_proof_73 : decode cX2_proof 73 = .ok (.iload 5, 2) := dk_21 5 (dk_at dksX2_proof_3 6 rfl rfl)
theorem dX2_proof_75 : decode cX2_proof 75 = .ok (.if_icmp .ge 12, 3) := dk_162 0 12 (dk_at dksX2_proof_3 8 rfl rfl)
theorem dX2_proof_78 : decode cX2_proof 78 = .ok (.aload_n 0, 1) := dk_42 (dk_at dksX2_proof_3 11 rfl rfl)
theorem dX2_proof_79 : decode cX2_proof 79 = .ok (.getfield 66, 3) := dk_180 0 66 (dk_at dksX2_proof_3 12 rfl rfl)
theorem dX2_proof_82 : decode cX2_proof 82 = .ok (.iload_n 3, 1) := dk_29 (dk_at dksX2_proof_3 15 rfl rfl)
theorem dX2_proof_83 : decode cX2_proof 83 = .ok (.iaload, 1) := dk_46 (dk_at dksX2_proof_3 16 rfl rfl)
theorem dX2_proof_84 : decode cX2_proof 84 = .ok (.goto 4, 3) := dk_167 0 4 (dk_at dksX2_proof_3 17 rfl rfl)
theorem dX2_proof_87 : decode cX2_proof 87 = .ok (.iconst (-1), 1) := dk_2 (dk_at dksX2_proof_3 20 rfl rfl)
theorem dX2_proof_88 : decode cX2_proof 88 = .ok (.ireturn, 1) := dk_172 (dk_at dksX2_proof_3 21 rfl rfl)
abbrev cX2_prove : ByteArray := prog_17_method_39_code
def yX2_prove : MethodName := ⟨RX2, "prove", "(II)I"⟩
def dkwX2_prove_8 : List UInt8 := [132, 7, 1, 167, 255, 218, 21, 6, 172]
abbrev dktX2_prove_8 : List UInt8 := dkwX2_prove_8 ++ []
def dkwX2_prove_7 : List UInt8 := [21, 7, 46, 2, 159, 0, 20, 42, 180, 0, 66, 21, 6, 42, 180, 0, 66, 21, 7, 46, 79, 132, 6, 1]
abbrev dktX2_prove_7 : List UInt8 := dkwX2_prove_7 ++ dktX2_prove_8
def dkwX2_prove_6 : List UInt8 := [132, 6, 255, 167, 255, 171, 3, 54, 6, 3, 54, 7, 21, 7, 21, 4, 162, 0, 37, 42, 180, 0, 66]
abbrev dktX2_prove_6 : List UInt8 := dkwX2_prove_6 ++ dktX2_prove_7
def dkwX2_prove_5 : List UInt8 := [42, 180, 0, 66, 21, 6, 21, 7, 153, 0, 13, 42, 180, 0, 66, 21, 6, 46, 167, 0, 4, 2, 79]
abbrev dktX2_prove_5 : List UInt8 := dkwX2_prove_5 ++ dktX2_prove_6
def dkwX2_prove_4 : List UInt8 := [21, 7, 153, 0, 18, 42, 180, 0, 57, 42, 180, 0, 66, 21, 6, 46, 46, 167, 0, 4, 3, 128, 54, 5]
abbrev dktX2_prove_4 : List UInt8 := dkwX2_prove_4 ++ dktX2_prove_5
def dkwX2_prove_3 : List UInt8 := [180, 0, 66, 21, 6, 46, 46, 122, 4, 126, 4, 160, 0, 7, 4, 167, 0, 4, 3, 54, 7, 21, 5]
abbrev dktX2_prove_3 : List UInt8 := dkwX2_prove_3 ++ dktX2_prove_4
def dkwX2_prove_2 : List UInt8 := [4, 28, 120, 54, 5, 21, 4, 4, 100, 54, 6, 21, 6, 155, 0, 86, 21, 5, 42, 180, 0, 60, 42]
abbrev dktX2_prove_2 : List UInt8 := dkwX2_prove_2 ++ dktX2_prove_3
def dkwX2_prove_1 : List UInt8 := [79, 29, 4, 42, 180, 0, 60, 42, 180, 0, 66, 21, 4, 46, 46, 120, 128, 62, 132, 4, 1, 167, 255, 216]
abbrev dktX2_prove_1 : List UInt8 := dkwX2_prove_1 ++ dktX2_prove_2
def dkwX2_prove_0 : List UInt8 := [27, 62, 3, 54, 4, 29, 28, 122, 4, 126, 154, 0, 38, 42, 180, 0, 66, 21, 4, 42, 29, 182, 0, 186]
abbrev dktX2_prove_0 : List UInt8 := dkwX2_prove_0 ++ dktX2_prove_1
theorem dksX2_prove_0 : cX2_prove.data.toList.drop 0 = dktX2_prove_0 := by decide +kernel
theorem dksX2_prove_1 : cX2_prove.data.toList.drop 24 = dktX2_prove_1 := dk_seg dksX2_prove_0 24 rfl rfl
theorem dksX2_prove_2 : cX2_prove.data.toList.drop 48 = dktX2_prove_2 := dk_seg dksX2_prove_1 24 rfl rfl
theorem dksX2_prove_3 : cX2_prove.data.toList.drop 71 = dktX2_prove_3 := dk_seg dksX2_prove_2 23 rfl rfl
theorem dksX2_prove_4 : cX2_prove.data.toList.drop 94 = dktX2_prove_4 := dk_seg dksX2_prove_3 23 rfl rfl
theorem dksX2_prove_5 : cX2_prove.data.toList.drop 118 = dktX2_prove_5 := dk_seg dksX2_prove_4 24 rfl rfl
theorem dksX2_prove_6 : cX2_prove.data.toList.drop 141 = dktX2_prove_6 := dk_seg dksX2_prove_5 23 rfl rfl
theorem dksX2_prove_7 : cX2_prove.data.toList.drop 164 = dktX2_prove_7 := dk_seg dksX2_prove_6 23 rfl rfl
theorem dksX2_prove_8 : cX2_prove.data.toList.drop 188 = dktX2_prove_8 := dk_seg dksX2_prove_7 24 rfl rfl
theorem dX2_prove_0 : decode cX2_prove 0 = .ok (.iload_n 1, 1) := dk_27 (dk_at dksX2_prove_0 0 rfl rfl)
theorem dX2_prove_1 : decode cX2_prove 1 = .ok (.istore_n 3, 1) := dk_62 (dk_at dksX2_prove_0 1 rfl rfl)
theorem dX2_prove_2 : decode cX2_prove 2 = .ok (.iconst 0, 1) := dk_3 (dk_at dksX2_prove_0 2 rfl rfl)
theorem dX2_prove_3 : decode cX2_prove 3 = .ok (.istore 4, 2) := dk_54 4 (dk_at dksX2_prove_0 3 rfl rfl)
theorem dX2_prove_5 : decode cX2_prove 5 = .ok (.iload_n 3, 1) := dk_29 (dk_at dksX2_prove_0 5 rfl rfl)
theorem dX2_prove_6 : decode cX2_prove 6 = .ok (.iload_n 2, 1) := dk_28 (dk_at dksX2_prove_0 6 rfl rfl)
theorem dX2_prove_7 : decode cX2_prove 7 = .ok (.ishr, 1) := dk_122 (dk_at dksX2_prove_0 7 rfl rfl)
theorem dX2_prove_8 : decode cX2_prove 8 = .ok (.iconst 1, 1) := dk_4 (dk_at dksX2_prove_0 8 rfl rfl)
theorem dX2_prove_9 : decode cX2_prove 9 = .ok (.iand, 1) := dk_126 (dk_at dksX2_prove_0 9 rfl rfl)
theorem dX2_prove_10 : decode cX2_prove 10 = .ok (.ifCond .ne 38, 3) := dk_154 0 38 (dk_at dksX2_prove_0 10 rfl rfl)
theorem dX2_prove_13 : decode cX2_prove 13 = .ok (.aload_n 0, 1) := dk_42 (dk_at dksX2_prove_0 13 rfl rfl)
theorem dX2_prove_14 : decode cX2_prove 14 = .ok (.getfield 66, 3) := dk_180 0 66 (dk_at dksX2_prove_0 14 rfl rfl)
theorem dX2_prove_17 : decode cX2_prove 17 = .ok (.iload 4, 2) := dk_21 4 (dk_at dksX2_prove_0 17 rfl rfl)
theorem dX2_prove_19 : decode cX2_prove 19 = .ok (.aload_n 0, 1) := dk_42 (dk_at dksX2_prove_0 19 rfl rfl)
theorem dX2_prove_20 : decode cX2_prove 20 = .ok (.iload_n 3, 1) := dk_29 (dk_at dksX2_prove_0 20 rfl rfl)
theorem dX2_prove_21 : decode cX2_prove 21 = .ok (.invokevirtual 186, 3) := dk_182 0 186 (dk_at dksX2_prove_0 21 rfl rfl)
theorem dX2_prove_24 : decode cX2_prove 24 = .ok (.iastore, 1) := dk_79 (dk_at dksX2_prove_1 0 rfl rfl)
theorem dX2_prove_25 : decode cX2_prove 25 = .ok (.iload_n 3, 1) := dk_29 (dk_at dksX2_prove_1 1 rfl rfl)
theorem dX2_prove_26 : decode cX2_prove 26 = .ok (.iconst 1, 1) := dk_4 (dk_at dksX2_prove_1 2 rfl rfl)
theorem dX2_prove_27 : decode cX2_prove 27 = .ok (.aload_n 0, 1) := dk_42 (dk_at dksX2_prove_1 3 rfl rfl)
theorem dX2_prove_28 : decode cX2_prove 28 = .ok (.getfield 60, 3) := dk_180 0 60 (dk_at dksX2_prove_1 4 rfl rfl)
theorem dX2_prove_31 : decode cX2_prove 31 = .ok (.aload_n 0, 1) := dk_42 (dk_at dksX2_prove_1 7 rfl rfl)
theorem dX2_prove_32 : decode cX2_prove 32 = .ok (.getfield 66, 3) := dk_180 0 66 (dk_at dksX2_prove_1 8 rfl rfl)
theorem dX2_prove_35 : decode cX2_prove 35 = .ok (.iload 4, 2) := dk_21 4 (dk_at dksX2_prove_1 11 rfl rfl)
theorem dX2_prove_37 : decode cX2_prove 37 = .ok (.iaload, 1) := dk_46 (dk_at dksX2_prove_1 13 rfl rfl)
theorem dX2_prove_38 : decode cX2_prove 38 = .ok (.iaload, 1) := dk_46 (dk_at dksX2_prove_1 14 rfl rfl)
theorem dX2_prove_39 : decode cX2_prove 39 = .ok (.ishl, 1) := dk_120 (dk_at dksX2_prove_1 15 rfl rfl)
theorem dX2_prove_40 : decode cX2_prove 40 = .ok (.ior, 1) := dk_128 (dk_at dksX2_prove_1 16 rfl rfl)
theorem dX2_prove_41 : decode cX2_prove 41 = .ok (.istore_n 3, 1) := dk_62 (dk_at dksX2_prove_1 17 rfl rfl)
theorem dX2_prove_42 : decode cX2_prove 42 = .ok (.iinc 4 1, 3) := dk_132 4 1 (dk_at dksX2_prove_1 18 rfl rfl)
theorem dX2_prove_45 : decode cX2_prove 45 = .ok (.goto (-40), 3) := dk_167 255 216 (dk_at dksX2_prove_1 21 rfl rfl)
theorem dX2_prove_48 : decode cX2_prove 48 = .ok (.iconst 1, 1) := dk_4 (dk_at dksX2_prove_2 0 rfl rfl)
theorem dX2_prove_49 : decode cX2_prove 49 = .ok (.iload_n 2, 1) := dk_28 (dk_at dksX2_prove_2 1 rfl rfl)
theorem dX2_prove_50 : decode cX2_prove 50 = .ok (.ishl, 1) := dk_120 (dk_at dksX2_prove_2 2 rfl rfl)
theorem dX2_prove_51 : decode cX2_prove 51 = .ok (.istore 5, 2) := dk_54 5 (dk_at dksX2_prove_2 3 rfl rfl)
theorem dX2_prove_53 : decode cX2_prove 53 = .ok (.iload 4, 2) := dk_21 4 (dk_at dksX2_prove_2 5 rfl rfl)
theorem dX2_prove_55 : decode cX2_prove 55 = .ok (.iconst 1, 1) := dk_4 (dk_at dksX2_prove_2 7 rfl rfl)
theorem dX2_prove_56 : decode cX2_prove 56 = .ok (.isub, 1) := dk_100 (dk_at dksX2_prove_2 8 rfl rfl)
theorem dX2_prove_57 : decode cX2_prove 57 = .ok (.istore 6, 2) := dk_54 6 (dk_at dksX2_prove_2 9 rfl rfl)
theorem dX2_prove_59 : decode cX2_prove 59 = .ok (.iload 6, 2) := dk_21 6 (dk_at dksX2_prove_2 11 rfl rfl)
theorem dX2_prove_61 : decode cX2_prove 61 = .ok (.ifCond .lt 86, 3) := dk_155 0 86 (dk_at dksX2_prove_2 13 rfl rfl)
theorem dX2_prove_64 : decode cX2_prove 64 = .ok (.iload 5, 2) := dk_21 5 (dk_at dksX2_prove_2 16 rfl rfl)
theorem dX2_prove_66 : decode cX2_prove 66 = .ok (.aload_n 0, 1) := dk_42 (dk_at dksX2_prove_2 18 rfl rfl)
theorem dX2_prove_67 : decode cX2_prove 67 = .ok (.getfield 60, 3) := dk_180 0 60 (dk_at dksX2_prove_2 19 rfl rfl)
theorem dX2_prove_70 : decode cX2_prove 70 = .ok (.aload_n 0, 1) := dk_42 (dk_at dksX2_prove_2 22 rfl rfl)
theorem dX2_prove_71 : decode cX2_prove 71 = .ok (.getfield 66, 3) := dk_180 0 66 (dk_at dksX2_prove_3 0 rfl rfl)
theorem dX2_prove_74 : decode cX2_prove 74 = .ok (.iload 6, 2) := dk_21 6 (dk_at dksX2_prove_3 3 rfl rfl)
theorem dX2_prove_76 : decode cX2_prove 76 = .ok (.iaload, 1) := dk_46 (dk_at dksX2_prove_3 5 rfl rfl)
theorem dX2_prove_77 : decode cX2_prove 77 = .ok (.iaload, 1) := dk_46 (dk_at dksX2_prove_3 6 rfl rfl)
theorem dX2_prove_78 : decode cX2_prove 78 = .ok (.ishr, 1) := dk_122 (dk_at dksX2_prove_3 7 rfl rfl)
theorem dX2_prove_79 : decode cX2_prove 79 = .ok (.iconst 1, 1) := dk_4 (dk_at dksX2_prove_3 8 rfl rfl)
theorem dX2_prove_80 : decode cX2_prove 80 = .ok (.iand, 1) := dk_126 (dk_at dksX2_prove_3 9 rfl rfl)
theorem dX2_prove_81 : decode cX2_prove 81 = .ok (.iconst 1, 1) := dk_4 (dk_at dksX2_prove_3 10 rfl rfl)
theorem dX2_prove_82 : decode cX2_prove 82 = .ok (.if_icmp .ne 7, 3) := dk_160 0 7 (dk_at dksX2_prove_3 11 rfl rfl)
theorem dX2_prove_85 : decode cX2_prove 85 = .ok (.iconst 1, 1) := dk_4 (dk_at dksX2_prove_3 14 rfl rfl)
theorem dX2_prove_86 : decode cX2_prove 86 = .ok (.goto 4, 3) := dk_167 0 4 (dk_at dksX2_prove_3 15 rfl rfl)
theorem dX2_prove_89 : decode cX2_prove 89 = .ok (.iconst 0, 1) := dk_3 (dk_at dksX2_prove_3 18 rfl rfl)
theorem dX2_prove_90 : decode cX2_prove 90 = .ok (.istore 7, 2) := dk_54 7 (dk_at dksX2_prove_3 19 rfl rfl)
theorem dX2_prove_92 : decode cX2_prove 92 = .ok (.iload 5, 2) := dk_21 5 (dk_at dksX2_prove_3 21 rfl rfl)
theorem dX2_prove_94 : decode cX2_prove 94 = .ok (.iload 7, 2) := dk_21 7 (dk_at dksX2_prove_4 0 rfl rfl)
theorem dX2_prove_96 : decode cX2_prove 96 = .ok (.ifCond .eq 18, 3) := dk_153 0 18 (dk_at dksX2_prove_4 2 rfl rfl)
theorem dX2_prove_99 : decode cX2_prove 99 = .ok (.aload_n 0, 1) := dk_42 (dk_at dksX2_prove_4 5 rfl rfl)
theorem dX2_prove_100 : decode cX2_prove 100 = .ok (.getfield 57, 3) := dk_180 0 57 (dk_at dksX2_prove_4 6 rfl rfl)
theorem dX2_prove_103 : decode cX2_prove 103 = .ok (.aload_n 0, 1) := dk_42 (dk_at dksX2_prove_4 9 rfl rfl)
theorem dX2_prove_104 : decode cX2_prove 104 = .ok (.getfield 66, 3) := dk_180 0 66 (dk_at dksX2_prove_4 10 rfl rfl)
theorem dX2_prove_107 : decode cX2_prove 107 = .ok (.iload 6, 2) := dk_21 6 (dk_at dksX2_prove_4 13 rfl rfl)
theorem dX2_prove_109 : decode cX2_prove 109 = .ok (.iaload, 1) := dk_46 (dk_at dksX2_prove_4 15 rfl rfl)
theorem dX2_prove_110 : decode cX2_prove 110 = .ok (.iaload, 1) := dk_46 (dk_at dksX2_prove_4 16 rfl rfl)
theorem dX2_prove_111 : decode cX2_prove 111 = .ok (.goto 4, 3) := dk_167 0 4 (dk_at dksX2_prove_4 17 rfl rfl)
theorem dX2_prove_114 : decode cX2_prove 114 = .ok (.iconst 0, 1) := dk_3 (dk_at dksX2_prove_4 20 rfl rfl)
theorem dX2_prove_115 : decode cX2_prove 115 = .ok (.ior, 1) := dk_128 (dk_at dksX2_prove_4 21 rfl rfl)
theorem dX2_prove_116 : decode cX2_prove 116 = .ok (.istore 5, 2) := dk_54 5 (dk_at dksX2_prove_4 22 rfl rfl)
theorem dX2_prove_118 : decode cX2_prove 118 = .ok (.aload_n 0, 1) := dk_42 (dk_at dksX2_prove_5 0 rfl rfl)
theorem dX2_prove_119 : decode cX2_prove 119 = .ok (.getfield 66, 3) := dk_180 0 66 (dk_at dksX2_prove_5 1 rfl rfl)
theorem dX2_prove_122 : decode cX2_prove 122 = .ok (.iload 6, 2) := dk_21 6 (dk_at dksX2_prove_5 4 rfl rfl)
theorem dX2_prove_124 : decode cX2_prove 124 = .ok (.iload 7, 2) := dk_21 7 (dk_at dksX2_prove_5 6 rfl rfl)
theorem dX2_prove_126 : decode cX2_prove 126 = .ok (.ifCond .eq 13, 3) := dk_153 0 13 (dk_at dksX2_prove_5 8 rfl rfl)
theorem dX2_prove_129 : decode cX2_prove 129 = .ok (.aload_n 0, 1) := dk_42 (dk_at dksX2_prove_5 11 rfl rfl)
theorem dX2_prove_130 : decode cX2_prove 130 = .ok (.getfield 66, 3) := dk_180 0 66 (dk_at dksX2_prove_5 12 rfl rfl)
theorem dX2_prove_133 : decode cX2_prove 133 = .ok (.iload 6, 2) := dk_21 6 (dk_at dksX2_prove_5 15 rfl rfl)
theorem dX2_prove_135 : decode cX2_prove 135 = .ok (.iaload, 1) := dk_46 (dk_at dksX2_prove_5 17 rfl rfl)
theorem dX2_prove_136 : decode cX2_prove 136 = .ok (.goto 4, 3) := dk_167 0 4 (dk_at dksX2_prove_5 18 rfl rfl)
theorem dX2_prove_139 : decode cX2_prove 139 = .ok (.iconst (-1), 1) := dk_2 (dk_at dksX2_prove_5 21 rfl rfl)
theorem dX2_prove_140 : decode cX2_prove 140 = .ok (.iastore, 1) := dk_79 (dk_at dksX2_prove_5 22 rfl rfl)
theorem dX2_prove_141 : decode cX2_prove 141 = .ok (.iinc 6 (-1), 3) := dk_132 6 255 (dk_at dksX2_prove_6 0 rfl rfl)
theorem dX2_prove_144 : decode cX2_prove 144 = .ok (.goto (-85), 3) := dk_167 255 171 (dk_at dksX2_prove_6 3 rfl rfl)
theorem dX2_prove_147 : decode cX2_prove 147 = .ok (.iconst 0, 1) := dk_3 (dk_at dksX2_prove_6 6 rfl rfl)
theorem dX2_prove_148 : decode cX2_prove 148 = .ok (.istore 6, 2) := dk_54 6 (dk_at dksX2_prove_6 7 rfl rfl)
theorem dX2_prove_150 : decode cX2_prove 150 = .ok (.iconst 0, 1) := dk_3 (dk_at dksX2_prove_6 9 rfl rfl)
theorem dX2_prove_151 : decode cX2_prove 151 = .ok (.istore 7, 2) := dk_54 7 (dk_at dksX2_prove_6 10 rfl rfl)
theorem dX2_prove_153 : decode cX2_prove 153 = .ok (.iload 7, 2) := dk_21 7 (dk_at dksX2_prove_6 12 rfl rfl)
theorem dX2_prove_155 : decode cX2_prove 155 = .ok (.iload 4, 2) := dk_21 4 (dk_at dksX2_prove_6 14 rfl rfl)
theorem dX2_prove_157 : decode cX2_prove 157 = .ok (.if_icmp .ge 37, 3) := dk_162 0 37 (dk_at dksX2_prove_6 16 rfl rfl)
theorem dX2_prove_160 : decode cX2_prove 160 = .ok (.aload_n 0, 1) := dk_42 (dk_at dksX2_prove_6 19 rfl rfl)
theorem dX2_prove_161 : decode cX2_prove 161 = .ok (.getfield 66, 3) := dk_180 0 66 (dk_at dksX2_prove_6 20 rfl rfl)
theorem dX2_prove_164 : decode cX2_prove 164 = .ok (.iload 7, 2) := dk_21 7 (dk_at dksX2_prove_7 0 rfl rfl)
theorem dX2_prove_166 : decode cX2_prove 166 = .ok (.iaload, 1) := dk_46 (dk_at dksX2_prove_7 2 rfl rfl)
theorem dX2_prove_167 : decode cX2_prove 167 = .ok (.iconst (-1), 1) := dk_2 (dk_at dksX2_prove_7 3 rfl rfl)
theorem dX2_prove_168 : decode cX2_prove 168 = .ok (.if_icmp .eq 20, 3) := dk_159 0 20 (dk_at dksX2_prove_7 4 rfl rfl)
theorem dX2_prove_171 : decode cX2_prove 171 = .ok (.aload_n 0, 1) := dk_42 (dk_at dksX2_prove_7 7 rfl rfl)
theorem dX2_prove_172 : decode cX2_prove 172 = .ok (.getfield 66, 3) := dk_180 0 66 (dk_at dksX2_prove_7 8 rfl rfl)
theorem dX2_prove_175 : decode cX2_prove 175 = .ok (.iload 6, 2) := dk_21 6 (dk_at dksX2_prove_7 11 rfl rfl)
theorem dX2_prove_177 : decode cX2_prove 177 = .ok (.aload_n 0, 1) := dk_42 (dk_at dksX2_prove_7 13 rfl rfl)
theorem dX2_prove_178 : decode cX2_prove 178 = .ok (.getfield 66, 3) := dk_180 0 66 (dk_at dksX2_prove_7 14 rfl rfl)
theorem dX2_prove_181 : decode cX2_prove 181 = .ok (.iload 7, 2) := dk_21 7 (dk_at dksX2_prove_7 17 rfl rfl)
theorem dX2_prove_183 : decode cX2_prove 183 = .ok (.iaload, 1) := dk_46 (dk_at dksX2_prove_7 19 rfl rfl)
theorem dX2_prove_184 : decode cX2_prove 184 = .ok (.iastore, 1) := dk_79 (dk_at dksX2_prove_7 20 rfl rfl)
theorem dX2_prove_185 : decode cX2_prove 185 = .ok (.iinc 6 1, 3) := dk_132 6 1 (dk_at dksX2_prove_7 21 rfl rfl)
theorem dX2_prove_188 : decode cX2_prove 188 = .ok (.iinc 7 1, 3) := dk_132 7 1 (dk_at dksX2_prove_8 0 rfl rfl)
theorem dX2_prove_191 : decode cX2_prove 191 = .ok (.goto (-38), 3) := dk_167 255 218 (dk_at dksX2_prove_8 3 rfl rfl)
theorem dX2_prove_194 : decode cX2_prove 194 = .ok (.iload 6, 2) := dk_21 6 (dk_at dksX2_prove_8 6 rfl rfl)
theorem dX2_prove_196 : decode cX2_prove 196 = .ok (.ireturn, 1) := dk_172 (dk_at dksX2_prove_8 8 rfl rfl)
abbrev cX2_known : ByteArray := prog_17_method_42_code
def yX2_known : MethodName := ⟨RX2, "known", "(II)I"⟩
def dkwX2_known_2 : List UInt8 := [27, 28, 182, 0, 195, 167, 0, 4, 3, 172]
abbrev dktX2_known_2 : List UInt8 := dkwX2_known_2 ++ []
def dkwX2_known_1 : List UInt8 := [154, 0, 7, 4, 167, 0, 13, 27, 28, 159, 0, 7, 3, 167, 0, 4, 5, 182, 0, 99, 153, 0, 12, 42]
abbrev dktX2_known_1 : List UInt8 := dkwX2_known_1 ++ dktX2_known_2
def dkwX2_known_0 : List UInt8 := [42, 27, 182, 0, 171, 153, 0, 15, 42, 28, 182, 0, 171, 153, 0, 7, 4, 167, 0, 4, 3, 62, 42, 29]
abbrev dktX2_known_0 : List UInt8 := dkwX2_known_0 ++ dktX2_known_1
theorem dksX2_known_0 : cX2_known.data.toList.drop 0 = dktX2_known_0 := by decide +kernel
theorem dksX2_known_1 : cX2_known.data.toList.drop 24 = dktX2_known_1 := dk_seg dksX2_known_0 24 rfl rfl
theorem dksX2_known_2 : cX2_known.data.toList.drop 48 = dktX2_known_2 := dk_seg dksX2_known_1 24 rfl rfl
theorem dX2_known_0 : decode cX2_known 0 = .ok (.aload_n 0, 1) := dk_42 (dk_at dksX2_known_0 0 rfl rfl)
theorem dX2_known_1 : decode cX2_known 1 = .ok (.iload_n 1, 1) := dk_27 (dk_at dksX2_known_0 1 rfl rfl)
theorem dX2_known_2 : decode cX2_known 2 = .ok (.invokevirtual 171, 3) := dk_182 0 171 (dk_at dksX2_known_0 2 rfl rfl)
theorem dX2_known_5 : decode cX2_known 5 = .ok (.ifCond .eq 15, 3) := dk_153 0 15 (dk_at dksX2_known_0 5 rfl rfl)
theorem dX2_known_8 : decode cX2_known 8 = .ok (.aload_n 0, 1) := dk_42 (dk_at dksX2_known_0 8 rfl rfl)
theorem dX2_known_9 : decode cX2_known 9 = .ok (.iload_n 2, 1) := dk_28 (dk_at dksX2_known_0 9 rfl rfl)
theorem dX2_known_10 : decode cX2_known 10 = .ok (.invokevirtual 171, 3) := dk_182 0 171 (dk_at dksX2_known_0 10 rfl rfl)
theorem dX2_known_13 : decode cX2_known 13 = .ok (.ifCond .eq 7, 3) := dk_153 0 7 (dk_at dksX2_known_0 13 rfl rfl)
theorem dX2_known_16 : decode cX2_known 16 = .ok (.iconst 1, 1) := dk_4 (dk_at dksX2_known_0 16 rfl rfl)
theorem dX2_known_17 : decode cX2_known 17 = .ok (.goto 4, 3) := dk_167 0 4 (dk_at dksX2_known_0 17 rfl rfl)
theorem dX2_known_20 : decode cX2_known 20 = .ok (.iconst 0, 1) := dk_3 (dk_at dksX2_known_0 20 rfl rfl)
theorem dX2_known_21 : decode cX2_known 21 = .ok (.istore_n 3, 1) := dk_62 (dk_at dksX2_known_0 21 rfl rfl)
theorem dX2_known_22 : decode cX2_known 22 = .ok (.aload_n 0, 1) := dk_42 (dk_at dksX2_known_0 22 rfl rfl)
theorem dX2_known_23 : decode cX2_known 23 = .ok (.iload_n 3, 1) := dk_29 (dk_at dksX2_known_0 23 rfl rfl)
theorem dX2_known_24 : decode cX2_known 24 = .ok (.ifCond .ne 7, 3) := dk_154 0 7 (dk_at dksX2_known_1 0 rfl rfl)
theorem dX2_known_27 : decode cX2_known 27 = .ok (.iconst 1, 1) := dk_4 (dk_at dksX2_known_1 3 rfl rfl)
theorem dX2_known_28 : decode cX2_known 28 = .ok (.goto 13, 3) := dk_167 0 13 (dk_at dksX2_known_1 4 rfl rfl)
theorem dX2_known_31 : decode cX2_known 31 = .ok (.iload_n 1, 1) := dk_27 (dk_at dksX2_known_1 7 rfl rfl)
theorem dX2_known_32 : decode cX2_known 32 = .ok (.iload_n 2, 1) := dk_28 (dk_at dksX2_known_1 8 rfl rfl)
theorem dX2_known_33 : decode cX2_known 33 = .ok (.if_icmp .eq 7, 3) := dk_159 0 7 (dk_at dksX2_known_1 9 rfl rfl)
theorem dX2_known_36 : decode cX2_known 36 = .ok (.iconst 0, 1) := dk_3 (dk_at dksX2_known_1 12 rfl rfl)
theorem dX2_known_37 : decode cX2_known 37 = .ok (.goto 4, 3) := dk_167 0 4 (dk_at dksX2_known_1 13 rfl rfl)
theorem dX2_known_40 : decode cX2_known 40 = .ok (.iconst 2, 1) := dk_5 (dk_at dksX2_known_1 16 rfl rfl)
theorem dX2_known_41 : decode cX2_known 41 = .ok (.invokevirtual 99, 3) := dk_182 0 99 (dk_at dksX2_known_1 17 rfl rfl)
theorem dX2_known_44 : decode cX2_known 44 = .ok (.ifCond .eq 12, 3) := dk_153 0 12 (dk_at dksX2_known_1 20 rfl rfl)
theorem dX2_known_47 : decode cX2_known 47 = .ok (.aload_n 0, 1) := dk_42 (dk_at dksX2_known_1 23 rfl rfl)
theorem dX2_known_48 : decode cX2_known 48 = .ok (.iload_n 1, 1) := dk_27 (dk_at dksX2_known_2 0 rfl rfl)
theorem dX2_known_49 : decode cX2_known 49 = .ok (.iload_n 2, 1) := dk_28 (dk_at dksX2_known_2 1 rfl rfl)
theorem dX2_known_50 : decode cX2_known 50 = .ok (.invokevirtual 195, 3) := dk_182 0 195 (dk_at dksX2_known_2 2 rfl rfl)
theorem dX2_known_53 : decode cX2_known 53 = .ok (.goto 4, 3) := dk_167 0 4 (dk_at dksX2_known_2 5 rfl rfl)
theorem dX2_known_56 : decode cX2_known 56 = .ok (.iconst 0, 1) := dk_3 (dk_at dksX2_known_2 8 rfl rfl)
theorem dX2_known_57 : decode cX2_known 57 = .ok (.ireturn, 1) := dk_172 (dk_at dksX2_known_2 9 rfl rfl)
abbrev cX2_knownOf : ByteArray := prog_17_method_41_code
def yX2_knownOf : MethodName := ⟨RX2, "knownOf", "(II)I"⟩
def dkwX2_knownOf_3 : List UInt8 := [132, 4, 1, 167, 255, 205, 29, 153, 0, 7, 2, 167, 0, 4, 3, 172]
abbrev dktX2_knownOf_3 : List UInt8 := dkwX2_knownOf_3 ++ []
def dkwX2_knownOf_2 : List UInt8 := [160, 0, 21, 42, 180, 0, 63, 21, 4, 46, 28, 122, 4, 126, 154, 0, 7, 4, 167, 0, 4, 3, 62]
abbrev dktX2_knownOf_2 : List UInt8 := dkwX2_knownOf_2 ++ dktX2_knownOf_3
def dkwX2_knownOf_1 : List UInt8 := [42, 180, 0, 180, 162, 0, 48, 29, 154, 0, 32, 42, 180, 0, 63, 21, 4, 46, 27, 122, 4, 126, 4]
abbrev dktX2_knownOf_1 : List UInt8 := dkwX2_knownOf_1 ++ dktX2_knownOf_2
def dkwX2_knownOf_0 : List UInt8 := [42, 4, 27, 120, 182, 0, 189, 28, 122, 4, 126, 4, 160, 0, 5, 4, 172, 3, 62, 3, 54, 4, 21, 4]
abbrev dktX2_knownOf_0 : List UInt8 := dkwX2_knownOf_0 ++ dktX2_knownOf_1
theorem dksX2_knownOf_0 : cX2_knownOf.data.toList.drop 0 = dktX2_knownOf_0 := by decide +kernel
theorem dksX2_knownOf_1 : cX2_knownOf.data.toList.drop 24 = dktX2_knownOf_1 := dk_seg dksX2_knownOf_0 24 rfl rfl
theorem dksX2_knownOf_2 : cX2_knownOf.data.toList.drop 47 = dktX2_knownOf_2 := dk_seg dksX2_knownOf_1 23 rfl rfl
theorem dksX2_knownOf_3 : cX2_knownOf.data.toList.drop 70 = dktX2_knownOf_3 := dk_seg dksX2_knownOf_2 23 rfl rfl
theorem dX2_knownOf_0 : decode cX2_knownOf 0 = .ok (.aload_n 0, 1) := dk_42 (dk_at dksX2_knownOf_0 0 rfl rfl)
theorem dX2_knownOf_1 : decode cX2_knownOf 1 = .ok (.iconst 1, 1) := dk_4 (dk_at dksX2_knownOf_0 1 rfl rfl)
theorem dX2_knownOf_2 : decode cX2_knownOf 2 = .ok (.iload_n 1, 1) := dk_27 (dk_at dksX2_knownOf_0 2 rfl rfl)
theorem dX2_knownOf_3 : decode cX2_knownOf 3 = .ok (.ishl, 1) := dk_120 (dk_at dksX2_knownOf_0 3 rfl rfl)
theorem dX2_knownOf_4 : decode cX2_knownOf 4 = .ok (.invokevirtual 189, 3) := dk_182 0 189 (dk_at dksX2_knownOf_0 4 rfl rfl)
theorem dX2_knownOf_7 : decode cX2_knownOf 7 = .ok (.iload_n 2, 1) := dk_28 (dk_at dksX2_knownOf_0 7 rfl rfl)
theorem dX2_knownOf_8 : decode cX2_knownOf 8 = .ok (.ishr, 1) := dk_122 (dk_at dksX2_knownOf_0 8 rfl rfl)
theorem dX2_knownOf_9 : decode cX2_knownOf 9 = .ok (.iconst 1, 1) := dk_4 (dk_at dksX2_knownOf_0 9 rfl rfl)
theorem dX2_knownOf_10 : decode cX2_knownOf 10 = .ok (.iand, 1) := dk_126 (dk_at dksX2_knownOf_0 10 rfl rfl)
theorem dX2_knownOf_11 : decode cX2_knownOf 11 = .ok (.iconst 1, 1) := dk_4 (dk_at dksX2_knownOf_0 11 rfl rfl)
theorem dX2_knownOf_12 : decode cX2_knownOf 12 = .ok (.if_icmp .ne 5, 3) := dk_160 0 5 (dk_at dksX2_knownOf_0 12 rfl rfl)
theorem dX2_knownOf_15 : decode cX2_knownOf 15 = .ok (.iconst 1, 1) := dk_4 (dk_at dksX2_knownOf_0 15 rfl rfl)
theorem dX2_knownOf_16 : decode cX2_knownOf 16 = .ok (.ireturn, 1) := dk_172 (dk_at dksX2_knownOf_0 16 rfl rfl)
theorem dX2_knownOf_17 : decode cX2_knownOf 17 = .ok (.iconst 0, 1) := dk_3 (dk_at dksX2_knownOf_0 17 rfl rfl)
theorem dX2_knownOf_18 : decode cX2_knownOf 18 = .ok (.istore_n 3, 1) := dk_62 (dk_at dksX2_knownOf_0 18 rfl rfl)
theorem dX2_knownOf_19 : decode cX2_knownOf 19 = .ok (.iconst 0, 1) := dk_3 (dk_at dksX2_knownOf_0 19 rfl rfl)
theorem dX2_knownOf_20 : decode cX2_knownOf 20 = .ok (.istore 4, 2) := dk_54 4 (dk_at dksX2_knownOf_0 20 rfl rfl)
theorem dX2_knownOf_22 : decode cX2_knownOf 22 = .ok (.iload 4, 2) := dk_21 4 (dk_at dksX2_knownOf_0 22 rfl rfl)
theorem dX2_knownOf_24 : decode cX2_knownOf 24 = .ok (.aload_n 0, 1) := dk_42 (dk_at dksX2_knownOf_1 0 rfl rfl)
theorem dX2_knownOf_25 : decode cX2_knownOf 25 = .ok (.getfield 180, 3) := dk_180 0 180 (dk_at dksX2_knownOf_1 1 rfl rfl)
theorem dX2_knownOf_28 : decode cX2_knownOf 28 = .ok (.if_icmp .ge 48, 3) := dk_162 0 48 (dk_at dksX2_knownOf_1 4 rfl rfl)
theorem dX2_knownOf_31 : decode cX2_knownOf 31 = .ok (.iload_n 3, 1) := dk_29 (dk_at dksX2_knownOf_1 7 rfl rfl)
theorem dX2_knownOf_32 : decode cX2_knownOf 32 = .ok (.ifCond .ne 32, 3) := dk_154 0 32 (dk_at dksX2_knownOf_1 8 rfl rfl)
theorem dX2_knownOf_35 : decode cX2_knownOf 35 = .ok (.aload_n 0, 1) := dk_42 (dk_at dksX2_knownOf_1 11 rfl rfl)
theorem dX2_knownOf_36 : decode cX2_knownOf 36 = .ok (.getfield 63, 3) := dk_180 0 63 (dk_at dksX2_knownOf_1 12 rfl rfl)
theorem dX2_knownOf_39 : decode cX2_knownOf 39 = .ok (.iload 4, 2) := dk_21 4 (dk_at dksX2_knownOf_1 15 rfl rfl)
theorem dX2_knownOf_41 : decode cX2_knownOf 41 = .ok (.iaload, 1) := dk_46 (dk_at dksX2_knownOf_1 17 rfl rfl)
theorem dX2_knownOf_42 : decode cX2_knownOf 42 = .ok (.iload_n 1, 1) := dk_27 (dk_at dksX2_knownOf_1 18 rfl rfl)
theorem dX2_knownOf_43 : decode cX2_knownOf 43 = .ok (.ishr, 1) := dk_122 (dk_at dksX2_knownOf_1 19 rfl rfl)
theorem dX2_knownOf_44 : decode cX2_knownOf 44 = .ok (.iconst 1, 1) := dk_4 (dk_at dksX2_knownOf_1 20 rfl rfl)
theorem dX2_knownOf_45 : decode cX2_knownOf 45 = .ok (.iand, 1) := dk_126 (dk_at dksX2_knownOf_1 21 rfl rfl)
theorem dX2_knownOf_46 : decode cX2_knownOf 46 = .ok (.iconst 1, 1) := dk_4 (dk_at dksX2_knownOf_1 22 rfl rfl)
theorem dX2_knownOf_47 : decode cX2_knownOf 47 = .ok (.if_icmp .ne 21, 3) := dk_160 0 21 (dk_at dksX2_knownOf_2 0 rfl rfl)
theorem dX2_knownOf_50 : decode cX2_knownOf 50 = .ok (.aload_n 0, 1) := dk_42 (dk_at dksX2_knownOf_2 3 rfl rfl)
theorem dX2_knownOf_51 : decode cX2_knownOf 51 = .ok (.getfield 63, 3) := dk_180 0 63 (dk_at dksX2_knownOf_2 4 rfl rfl)
theorem dX2_knownOf_54 : decode cX2_knownOf 54 = .ok (.iload 4, 2) := dk_21 4 (dk_at dksX2_knownOf_2 7 rfl rfl)
theorem dX2_knownOf_56 : decode cX2_knownOf 56 = .ok (.iaload, 1) := dk_46 (dk_at dksX2_knownOf_2 9 rfl rfl)
theorem dX2_knownOf_57 : decode cX2_knownOf 57 = .ok (.iload_n 2, 1) := dk_28 (dk_at dksX2_knownOf_2 10 rfl rfl)
theorem dX2_knownOf_58 : decode cX2_knownOf 58 = .ok (.ishr, 1) := dk_122 (dk_at dksX2_knownOf_2 11 rfl rfl)
theorem dX2_knownOf_59 : decode cX2_knownOf 59 = .ok (.iconst 1, 1) := dk_4 (dk_at dksX2_knownOf_2 12 rfl rfl)
theorem dX2_knownOf_60 : decode cX2_knownOf 60 = .ok (.iand, 1) := dk_126 (dk_at dksX2_knownOf_2 13 rfl rfl)
theorem dX2_knownOf_61 : decode cX2_knownOf 61 = .ok (.ifCond .ne 7, 3) := dk_154 0 7 (dk_at dksX2_knownOf_2 14 rfl rfl)
theorem dX2_knownOf_64 : decode cX2_knownOf 64 = .ok (.iconst 1, 1) := dk_4 (dk_at dksX2_knownOf_2 17 rfl rfl)
theorem dX2_knownOf_65 : decode cX2_knownOf 65 = .ok (.goto 4, 3) := dk_167 0 4 (dk_at dksX2_knownOf_2 18 rfl rfl)
theorem dX2_knownOf_68 : decode cX2_knownOf 68 = .ok (.iconst 0, 1) := dk_3 (dk_at dksX2_knownOf_2 21 rfl rfl)
theorem dX2_knownOf_69 : decode cX2_knownOf 69 = .ok (.istore_n 3, 1) := dk_62 (dk_at dksX2_knownOf_2 22 rfl rfl)
theorem dX2_knownOf_70 : decode cX2_knownOf 70 = .ok (.iinc 4 1, 3) := dk_132 4 1 (dk_at dksX2_knownOf_3 0 rfl rfl)
theorem dX2_knownOf_73 : decode cX2_knownOf 73 = .ok (.goto (-51), 3) := dk_167 255 205 (dk_at dksX2_knownOf_3 3 rfl rfl)
theorem dX2_knownOf_76 : decode cX2_knownOf 76 = .ok (.iload_n 3, 1) := dk_29 (dk_at dksX2_knownOf_3 6 rfl rfl)
theorem dX2_knownOf_77 : decode cX2_knownOf 77 = .ok (.ifCond .eq 7, 3) := dk_153 0 7 (dk_at dksX2_knownOf_3 7 rfl rfl)
theorem dX2_knownOf_80 : decode cX2_knownOf 80 = .ok (.iconst (-1), 1) := dk_2 (dk_at dksX2_knownOf_3 10 rfl rfl)
theorem dX2_knownOf_81 : decode cX2_knownOf 81 = .ok (.goto 4, 3) := dk_167 0 4 (dk_at dksX2_knownOf_3 11 rfl rfl)
theorem dX2_knownOf_84 : decode cX2_knownOf 84 = .ok (.iconst 0, 1) := dk_3 (dk_at dksX2_knownOf_3 14 rfl rfl)
theorem dX2_knownOf_85 : decode cX2_knownOf 85 = .ok (.ireturn, 1) := dk_172 (dk_at dksX2_knownOf_3 15 rfl rfl)
abbrev cX2_open : ByteArray := prog_17_method_43_code
def yX2_open : MethodName := ⟨RX2, "open", "()I"⟩
def dkwX2_open_2 : List UInt8 := [60, 132, 3, 1, 167, 255, 223, 132, 2, 1, 167, 255, 207, 27, 172]
abbrev dktX2_open_2 : List UInt8 := dkwX2_open_2 ++ []
def dkwX2_open_1 : List UInt8 := [162, 0, 31, 27, 28, 29, 159, 0, 16, 42, 28, 29, 182, 0, 195, 154, 0, 7, 4, 167, 0, 4, 3, 96]
abbrev dktX2_open_1 : List UInt8 := dkwX2_open_1 ++ dktX2_open_2
def dkwX2_open_0 : List UInt8 := [42, 3, 181, 0, 81, 3, 60, 3, 61, 28, 42, 180, 0, 168, 162, 0, 47, 3, 62, 29, 42, 180, 0, 168]
abbrev dktX2_open_0 : List UInt8 := dkwX2_open_0 ++ dktX2_open_1
theorem dksX2_open_0 : cX2_open.data.toList.drop 0 = dktX2_open_0 := by decide +kernel
theorem dksX2_open_1 : cX2_open.data.toList.drop 24 = dktX2_open_1 := dk_seg dksX2_open_0 24 rfl rfl
theorem dksX2_open_2 : cX2_open.data.toList.drop 48 = dktX2_open_2 := dk_seg dksX2_open_1 24 rfl rfl
theorem dX2_open_0 : decode cX2_open 0 = .ok (.aload_n 0, 1) := dk_42 (dk_at dksX2_open_0 0 rfl rfl)
theorem dX2_open_1 : decode cX2_open 1 = .ok (.iconst 0, 1) := dk_3 (dk_at dksX2_open_0 1 rfl rfl)
theorem dX2_open_2 : decode cX2_open 2 = .ok (.putfield 81, 3) := dk_181 0 81 (dk_at dksX2_open_0 2 rfl rfl)
theorem dX2_open_5 : decode cX2_open 5 = .ok (.iconst 0, 1) := dk_3 (dk_at dksX2_open_0 5 rfl rfl)
theorem dX2_open_6 : decode cX2_open 6 = .ok (.istore_n 1, 1) := dk_60 (dk_at dksX2_open_0 6 rfl rfl)
theorem dX2_open_7 : decode cX2_open 7 = .ok (.iconst 0, 1) := dk_3 (dk_at dksX2_open_0 7 rfl rfl)
theorem dX2_open_8 : decode cX2_open 8 = .ok (.istore_n 2, 1) := dk_61 (dk_at dksX2_open_0 8 rfl rfl)
theorem dX2_open_9 : decode cX2_open 9 = .ok (.iload_n 2, 1) := dk_28 (dk_at dksX2_open_0 9 rfl rfl)
theorem dX2_open_10 : decode cX2_open 10 = .ok (.aload_n 0, 1) := dk_42 (dk_at dksX2_open_0 10 rfl rfl)
theorem dX2_open_11 : decode cX2_open 11 = .ok (.getfield 168, 3) := dk_180 0 168 (dk_at dksX2_open_0 11 rfl rfl)
theorem dX2_open_14 : decode cX2_open 14 = .ok (.if_icmp .ge 47, 3) := dk_162 0 47 (dk_at dksX2_open_0 14 rfl rfl)
theorem dX2_open_17 : decode cX2_open 17 = .ok (.iconst 0, 1) := dk_3 (dk_at dksX2_open_0 17 rfl rfl)
theorem dX2_open_18 : decode cX2_open 18 = .ok (.istore_n 3, 1) := dk_62 (dk_at dksX2_open_0 18 rfl rfl)
theorem dX2_open_19 : decode cX2_open 19 = .ok (.iload_n 3, 1) := dk_29 (dk_at dksX2_open_0 19 rfl rfl)
theorem dX2_open_20 : decode cX2_open 20 = .ok (.aload_n 0, 1) := dk_42 (dk_at dksX2_open_0 20 rfl rfl)
theorem dX2_open_21 : decode cX2_open 21 = .ok (.getfield 168, 3) := dk_180 0 168 (dk_at dksX2_open_0 21 rfl rfl)
theorem dX2_open_24 : decode cX2_open 24 = .ok (.if_icmp .ge 31, 3) := dk_162 0 31 (dk_at dksX2_open_1 0 rfl rfl)
theorem dX2_open_27 : decode cX2_open 27 = .ok (.iload_n 1, 1) := dk_27 (dk_at dksX2_open_1 3 rfl rfl)
theorem dX2_open_28 : decode cX2_open 28 = .ok (.iload_n 2, 1) := dk_28 (dk_at dksX2_open_1 4 rfl rfl)
theorem dX2_open_29 : decode cX2_open 29 = .ok (.iload_n 3, 1) := dk_29 (dk_at dksX2_open_1 5 rfl rfl)
theorem dX2_open_30 : decode cX2_open 30 = .ok (.if_icmp .eq 16, 3) := dk_159 0 16 (dk_at dksX2_open_1 6 rfl rfl)
theorem dX2_open_33 : decode cX2_open 33 = .ok (.aload_n 0, 1) := dk_42 (dk_at dksX2_open_1 9 rfl rfl)
theorem dX2_open_34 : decode cX2_open 34 = .ok (.iload_n 2, 1) := dk_28 (dk_at dksX2_open_1 10 rfl rfl)
theorem dX2_open_35 : decode cX2_open 35 = .ok (.iload_n 3, 1) := dk_29 (dk_at dksX2_open_1 11 rfl rfl)
theorem dX2_open_36 : decode cX2_open 36 = .ok (.invokevirtual 195, 3) := dk_182 0 195 (dk_at dksX2_open_1 12 rfl rfl)
theorem dX2_open_39 : decode cX2_open 39 = .ok (.ifCond .ne 7, 3) := dk_154 0 7 (dk_at dksX2_open_1 15 rfl rfl)
theorem dX2_open_42 : decode cX2_open 42 = .ok (.iconst 1, 1) := dk_4 (dk_at dksX2_open_1 18 rfl rfl)
theorem dX2_open_43 : decode cX2_open 43 = .ok (.goto 4, 3) := dk_167 0 4 (dk_at dksX2_open_1 19 rfl rfl)
theorem dX2_open_46 : decode cX2_open 46 = .ok (.iconst 0, 1) := dk_3 (dk_at dksX2_open_1 22 rfl rfl)
theorem dX2_open_47 : decode cX2_open 47 = .ok (.iadd, 1) := dk_96 (dk_at dksX2_open_1 23 rfl rfl)
theorem dX2_open_48 : decode cX2_open 48 = .ok (.istore_n 1, 1) := dk_60 (dk_at dksX2_open_2 0 rfl rfl)
theorem dX2_open_49 : decode cX2_open 49 = .ok (.iinc 3 1, 3) := dk_132 3 1 (dk_at dksX2_open_2 1 rfl rfl)
theorem dX2_open_52 : decode cX2_open 52 = .ok (.goto (-33), 3) := dk_167 255 223 (dk_at dksX2_open_2 4 rfl rfl)
theorem dX2_open_55 : decode cX2_open 55 = .ok (.iinc 2 1, 3) := dk_132 2 1 (dk_at dksX2_open_2 7 rfl rfl)
theorem dX2_open_58 : decode cX2_open 58 = .ok (.goto (-49), 3) := dk_167 255 207 (dk_at dksX2_open_2 10 rfl rfl)
theorem dX2_open_61 : decode cX2_open 61 = .ok (.iload_n 1, 1) := dk_27 (dk_at dksX2_open_2 13 rfl rfl)
theorem dX2_open_62 : decode cX2_open 62 = .ok (.ireturn, 1) := dk_172 (dk_at dksX2_open_2 14 rfl rfl)
abbrev cX2_least : ByteArray := prog_17_method_46_code
def yX2_least : MethodName := ⟨RX2, "least", "(II)I"⟩
def dkwX2_least_0 : List UInt8 := [42, 27, 28, 182, 0, 201, 172]
abbrev dktX2_least_0 : List UInt8 := dkwX2_least_0 ++ []
theorem dksX2_least_0 : cX2_least.data.toList.drop 0 = dktX2_least_0 := by decide +kernel
theorem dX2_least_0 : decode cX2_least 0 = .ok (.aload_n 0, 1) := dk_42 (dk_at dksX2_least_0 0 rfl rfl)
theorem dX2_least_1 : decode cX2_least 1 = .ok (.iload_n 1, 1) := dk_27 (dk_at dksX2_least_0 1 rfl rfl)
theorem dX2_least_2 : decode cX2_least 2 = .ok (.iload_n 2, 1) := dk_28 (dk_at dksX2_least_0 2 rfl rfl)
theorem dX2_least_3 : decode cX2_least 3 = .ok (.invokevirtual 201, 3) := dk_182 0 201 (dk_at dksX2_least_0 3 rfl rfl)
theorem dX2_least_6 : decode cX2_least 6 = .ok (.ireturn, 1) := dk_172 (dk_at dksX2_least_0 6 rfl rfl)
abbrev cX2_leastOf : ByteArray := prog_17_method_45_code
def yX2_leastOf : MethodName := ⟨RX2, "leastOf", "(II)I"⟩
def dkwX2_leastOf_5 : List UInt8 := [21, 4, 172]
abbrev dktX2_leastOf_5 : List UInt8 := dkwX2_leastOf_5 ++ []
def dkwX2_leastOf_4 : List UInt8 := [27, 122, 4, 126, 4, 160, 0, 8, 21, 5, 167, 0, 5, 21, 4, 54, 4, 132, 5, 1, 167, 255, 184]
abbrev dktX2_leastOf_4 : List UInt8 := dkwX2_leastOf_4 ++ dktX2_leastOf_5
def dkwX2_leastOf_3 : List UInt8 := [184, 0, 198, 162, 0, 7, 4, 167, 0, 4, 3, 54, 6, 21, 6, 153, 0, 22, 42, 21, 5, 182, 0, 189]
abbrev dktX2_leastOf_3 : List UInt8 := dkwX2_leastOf_3 ++ dktX2_leastOf_4
def dkwX2_leastOf_2 : List UInt8 := [21, 5, 28, 2, 130, 126, 154, 0, 26, 21, 4, 2, 159, 0, 16, 21, 5, 184, 0, 198, 21, 4]
abbrev dktX2_leastOf_2 : List UInt8 := dkwX2_leastOf_2 ++ dktX2_leastOf_3
def dkwX2_leastOf_1 : List UInt8 := [167, 0, 4, 5, 182, 0, 99, 154, 0, 5, 3, 172, 2, 54, 4, 3, 54, 5, 21, 5, 28, 163, 0, 72]
abbrev dktX2_leastOf_1 : List UInt8 := dkwX2_leastOf_1 ++ dktX2_leastOf_2
def dkwX2_leastOf_0 : List UInt8 := [42, 27, 182, 0, 171, 62, 42, 29, 154, 0, 7, 4, 167, 0, 16, 42, 28, 182, 0, 174, 153, 0, 7, 3]
abbrev dktX2_leastOf_0 : List UInt8 := dkwX2_leastOf_0 ++ dktX2_leastOf_1
theorem dksX2_leastOf_0 : cX2_leastOf.data.toList.drop 0 = dktX2_leastOf_0 := by decide +kernel
theorem dksX2_leastOf_1 : cX2_leastOf.data.toList.drop 24 = dktX2_leastOf_1 := dk_seg dksX2_leastOf_0 24 rfl rfl
theorem dksX2_leastOf_2 : cX2_leastOf.data.toList.drop 48 = dktX2_leastOf_2 := dk_seg dksX2_leastOf_1 24 rfl rfl
theorem dksX2_leastOf_3 : cX2_leastOf.data.toList.drop 70 = dktX2_leastOf_3 := dk_seg dksX2_leastOf_2 22 rfl rfl
theorem dksX2_leastOf_4 : cX2_leastOf.data.toList.drop 94 = dktX2_leastOf_4 := dk_seg dksX2_leastOf_3 24 rfl rfl
theorem dksX2_leastOf_5 : cX2_leastOf.data.toList.drop 117 = dktX2_leastOf_5 := dk_seg dksX2_leastOf_4 23 rfl rfl
theorem dX2_leastOf_0 : decode cX2_leastOf 0 = .ok (.aload_n 0, 1) := dk_42 (dk_at dksX2_leastOf_0 0 rfl rfl)
theorem dX2_leastOf_1 : decode cX2_leastOf 1 = .ok (.iload_n 1, 1) := dk_27 (dk_at dksX2_leastOf_0 1 rfl rfl)
theorem dX2_leastOf_2 : decode cX2_leastOf 2 = .ok (.invokevirtual 171, 3) := dk_182 0 171 (dk_at dksX2_leastOf_0 2 rfl rfl)
theorem dX2_leastOf_5 : decode cX2_leastOf 5 = .ok (.istore_n 3, 1) := dk_62 (dk_at dksX2_leastOf_0 5 rfl rfl)
theorem dX2_leastOf_6 : decode cX2_leastOf 6 = .ok (.aload_n 0, 1) := dk_42 (dk_at dksX2_leastOf_0 6 rfl rfl)
theorem dX2_leastOf_7 : decode cX2_leastOf 7 = .ok (.iload_n 3, 1) := dk_29 (dk_at dksX2_leastOf_0 7 rfl rfl)
theorem dX2_leastOf_8 : decode cX2_leastOf 8 = .ok (.ifCond .ne 7, 3) := dk_154 0 7 (dk_at dksX2_leastOf_0 8 rfl rfl)
theorem dX2_leastOf_11 : decode cX2_leastOf 11 = .ok (.iconst 1, 1) := dk_4 (dk_at dksX2_leastOf_0 11 rfl rfl)
theorem dX2_leastOf_12 : decode cX2_leastOf 12 = .ok (.goto 16, 3) := dk_167 0 16 (dk_at dksX2_leastOf_0 12 rfl rfl)
theorem dX2_leastOf_15 : decode cX2_leastOf 15 = .ok (.aload_n 0, 1) := dk_42 (dk_at dksX2_leastOf_0 15 rfl rfl)
theorem dX2_leastOf_16 : decode cX2_leastOf 16 = .ok (.iload_n 2, 1) := dk_28 (dk_at dksX2_leastOf_0 16 rfl rfl)
theorem dX2_leastOf_17 : decode cX2_leastOf 17 = .ok (.invokevirtual 174, 3) := dk_182 0 174 (dk_at dksX2_leastOf_0 17 rfl rfl)
theorem dX2_leastOf_20 : decode cX2_leastOf 20 = .ok (.ifCond .eq 7, 3) := dk_153 0 7 (dk_at dksX2_leastOf_0 20 rfl rfl)
theorem dX2_leastOf_23 : decode cX2_leastOf 23 = .ok (.iconst 0, 1) := dk_3 (dk_at dksX2_leastOf_0 23 rfl rfl)
theorem dX2_leastOf_24 : decode cX2_leastOf 24 = .ok (.goto 4, 3) := dk_167 0 4 (dk_at dksX2_leastOf_1 0 rfl rfl)
theorem dX2_leastOf_27 : decode cX2_leastOf 27 = .ok (.iconst 2, 1) := dk_5 (dk_at dksX2_leastOf_1 3 rfl rfl)
theorem dX2_leastOf_28 : decode cX2_leastOf 28 = .ok (.invokevirtual 99, 3) := dk_182 0 99 (dk_at dksX2_leastOf_1 4 rfl rfl)
theorem dX2_leastOf_31 : decode cX2_leastOf 31 = .ok (.ifCond .ne 5, 3) := dk_154 0 5 (dk_at dksX2_leastOf_1 7 rfl rfl)
theorem dX2_leastOf_34 : decode cX2_leastOf 34 = .ok (.iconst 0, 1) := dk_3 (dk_at dksX2_leastOf_1 10 rfl rfl)
theorem dX2_leastOf_35 : decode cX2_leastOf 35 = .ok (.ireturn, 1) := dk_172 (dk_at dksX2_leastOf_1 11 rfl rfl)
theorem dX2_leastOf_36 : decode cX2_leastOf 36 = .ok (.iconst (-1), 1) := dk_2 (dk_at dksX2_leastOf_1 12 rfl rfl)
theorem dX2_leastOf_37 : decode cX2_leastOf 37 = .ok (.istore 4, 2) := dk_54 4 (dk_at dksX2_leastOf_1 13 rfl rfl)
theorem dX2_leastOf_39 : decode cX2_leastOf 39 = .ok (.iconst 0, 1) := dk_3 (dk_at dksX2_leastOf_1 15 rfl rfl)
theorem dX2_leastOf_40 : decode cX2_leastOf 40 = .ok (.istore 5, 2) := dk_54 5 (dk_at dksX2_leastOf_1 16 rfl rfl)
theorem dX2_leastOf_42 : decode cX2_leastOf 42 = .ok (.iload 5, 2) := dk_21 5 (dk_at dksX2_leastOf_1 18 rfl rfl)
theorem dX2_leastOf_44 : decode cX2_leastOf 44 = .ok (.iload_n 2, 1) := dk_28 (dk_at dksX2_leastOf_1 20 rfl rfl)
theorem dX2_leastOf_45 : decode cX2_leastOf 45 = .ok (.if_icmp .gt 72, 3) := dk_163 0 72 (dk_at dksX2_leastOf_1 21 rfl rfl)
theorem dX2_leastOf_48 : decode cX2_leastOf 48 = .ok (.iload 5, 2) := dk_21 5 (dk_at dksX2_leastOf_2 0 rfl rfl)
theorem dX2_leastOf_50 : decode cX2_leastOf 50 = .ok (.iload_n 2, 1) := dk_28 (dk_at dksX2_leastOf_2 2 rfl rfl)
theorem dX2_leastOf_51 : decode cX2_leastOf 51 = .ok (.iconst (-1), 1) := dk_2 (dk_at dksX2_leastOf_2 3 rfl rfl)
theorem dX2_leastOf_52 : decode cX2_leastOf 52 = .ok (.ixor, 1) := dk_130 (dk_at dksX2_leastOf_2 4 rfl rfl)
theorem dX2_leastOf_53 : decode cX2_leastOf 53 = .ok (.iand, 1) := dk_126 (dk_at dksX2_leastOf_2 5 rfl rfl)
theorem dX2_leastOf_54 : decode cX2_leastOf 54 = .ok (.ifCond .ne 26, 3) := dk_154 0 26 (dk_at dksX2_leastOf_2 6 rfl rfl)
theorem dX2_leastOf_57 : decode cX2_leastOf 57 = .ok (.iload 4, 2) := dk_21 4 (dk_at dksX2_leastOf_2 9 rfl rfl)
theorem dX2_leastOf_59 : decode cX2_leastOf 59 = .ok (.iconst (-1), 1) := dk_2 (dk_at dksX2_leastOf_2 11 rfl rfl)
theorem dX2_leastOf_60 : decode cX2_leastOf 60 = .ok (.if_icmp .eq 16, 3) := dk_159 0 16 (dk_at dksX2_leastOf_2 12 rfl rfl)
theorem dX2_leastOf_63 : decode cX2_leastOf 63 = .ok (.iload 5, 2) := dk_21 5 (dk_at dksX2_leastOf_2 15 rfl rfl)
theorem dX2_leastOf_65 : decode cX2_leastOf 65 = .ok (.invokestatic 198, 3) := dk_184 0 198 (dk_at dksX2_leastOf_2 17 rfl rfl)
theorem dX2_leastOf_68 : decode cX2_leastOf 68 = .ok (.iload 4, 2) := dk_21 4 (dk_at dksX2_leastOf_2 20 rfl rfl)
theorem dX2_leastOf_70 : decode cX2_leastOf 70 = .ok (.invokestatic 198, 3) := dk_184 0 198 (dk_at dksX2_leastOf_3 0 rfl rfl)
theorem dX2_leastOf_73 : decode cX2_leastOf 73 = .ok (.if_icmp .ge 7, 3) := dk_162 0 7 (dk_at dksX2_leastOf_3 3 rfl rfl)
theorem dX2_leastOf_76 : decode cX2_leastOf 76 = .ok (.iconst 1, 1) := dk_4 (dk_at dksX2_leastOf_3 6 rfl rfl)
theorem dX2_leastOf_77 : decode cX2_leastOf 77 = .ok (.goto 4, 3) := dk_167 0 4 (dk_at dksX2_leastOf_3 7 rfl rfl)
theorem dX2_leastOf_80 : decode cX2_leastOf 80 = .ok (.iconst 0, 1) := dk_3 (dk_at dksX2_leastOf_3 10 rfl rfl)
theorem dX2_leastOf_81 : decode cX2_leastOf 81 = .ok (.istore 6, 2) := dk_54 6 (dk_at dksX2_leastOf_3 11 rfl rfl)
theorem dX2_leastOf_83 : decode cX2_leastOf 83 = .ok (.iload 6, 2) := dk_21 6 (dk_at dksX2_leastOf_3 13 rfl rfl)
theorem dX2_leastOf_85 : decode cX2_leastOf 85 = .ok (.ifCond .eq 22, 3) := dk_153 0 22 (dk_at dksX2_leastOf_3 15 rfl rfl)
theorem dX2_leastOf_88 : decode cX2_leastOf 88 = .ok (.aload_n 0, 1) := dk_42 (dk_at dksX2_leastOf_3 18 rfl rfl)
theorem dX2_leastOf_89 : decode cX2_leastOf 89 = .ok (.iload 5, 2) := dk_21 5 (dk_at dksX2_leastOf_3 19 rfl rfl)
theorem dX2_leastOf_91 : decode cX2_leastOf 91 = .ok (.invokevirtual 189, 3) := dk_182 0 189 (dk_at dksX2_leastOf_3 21 rfl rfl)
theorem dX2_leastOf_94 : decode cX2_leastOf 94 = .ok (.iload_n 1, 1) := dk_27 (dk_at dksX2_leastOf_4 0 rfl rfl)
theorem dX2_leastOf_95 : decode cX2_leastOf 95 = .ok (.ishr, 1) := dk_122 (dk_at dksX2_leastOf_4 1 rfl rfl)
theorem dX2_leastOf_96 : decode cX2_leastOf 96 = .ok (.iconst 1, 1) := dk_4 (dk_at dksX2_leastOf_4 2 rfl rfl)
theorem dX2_leastOf_97 : decode cX2_leastOf 97 = .ok (.iand, 1) := dk_126 (dk_at dksX2_leastOf_4 3 rfl rfl)
theorem dX2_leastOf_98 : decode cX2_leastOf 98 = .ok (.iconst 1, 1) := dk_4 (dk_at dksX2_leastOf_4 4 rfl rfl)
theorem dX2_leastOf_99 : decode cX2_leastOf 99 = .ok (.if_icmp .ne 8, 3) := dk_160 0 8 (dk_at dksX2_leastOf_4 5 rfl rfl)
theorem dX2_leastOf_102 : decode cX2_leastOf 102 = .ok (.iload 5, 2) := dk_21 5 (dk_at dksX2_leastOf_4 8 rfl rfl)
theorem dX2_leastOf_104 : decode cX2_leastOf 104 = .ok (.goto 5, 3) := dk_167 0 5 (dk_at dksX2_leastOf_4 10 rfl rfl)
theorem dX2_leastOf_107 : decode cX2_leastOf 107 = .ok (.iload 4, 2) := dk_21 4 (dk_at dksX2_leastOf_4 13 rfl rfl)
theorem dX2_leastOf_109 : decode cX2_leastOf 109 = .ok (.istore 4, 2) := dk_54 4 (dk_at dksX2_leastOf_4 15 rfl rfl)
theorem dX2_leastOf_111 : decode cX2_leastOf 111 = .ok (.iinc 5 1, 3) := dk_132 5 1 (dk_at dksX2_leastOf_4 17 rfl rfl)
theorem dX2_leastOf_114 : decode cX2_leastOf 114 = .ok (.goto (-72), 3) := dk_167 255 184 (dk_at dksX2_leastOf_4 20 rfl rfl)
theorem dX2_leastOf_117 : decode cX2_leastOf 117 = .ok (.iload 4, 2) := dk_21 4 (dk_at dksX2_leastOf_5 0 rfl rfl)
theorem dX2_leastOf_119 : decode cX2_leastOf 119 = .ok (.ireturn, 1) := dk_172 (dk_at dksX2_leastOf_5 2 rfl rfl)
abbrev cX2_bits : ByteArray := prog_17_method_44_code
def yX2_bits : MethodName := ⟨RX2, "bits", "(I)I"⟩
def dkwX2_bits_1 : List UInt8 := [27, 172]
abbrev dktX2_bits_1 : List UInt8 := dkwX2_bits_1 ++ []
def dkwX2_bits_0 : List UInt8 := [3, 60, 3, 61, 28, 16, 10, 162, 0, 17, 27, 26, 28, 122, 4, 126, 96, 60, 132, 2, 1, 167, 255, 239]
abbrev dktX2_bits_0 : List UInt8 := dkwX2_bits_0 ++ dktX2_bits_1
theorem dksX2_bits_0 : cX2_bits.data.toList.drop 0 = dktX2_bits_0 := by decide +kernel
theorem dksX2_bits_1 : cX2_bits.data.toList.drop 24 = dktX2_bits_1 := dk_seg dksX2_bits_0 24 rfl rfl
theorem dX2_bits_0 : decode cX2_bits 0 = .ok (.iconst 0, 1) := dk_3 (dk_at dksX2_bits_0 0 rfl rfl)
theorem dX2_bits_1 : decode cX2_bits 1 = .ok (.istore_n 1, 1) := dk_60 (dk_at dksX2_bits_0 1 rfl rfl)
theorem dX2_bits_2 : decode cX2_bits 2 = .ok (.iconst 0, 1) := dk_3 (dk_at dksX2_bits_0 2 rfl rfl)
theorem dX2_bits_3 : decode cX2_bits 3 = .ok (.istore_n 2, 1) := dk_61 (dk_at dksX2_bits_0 3 rfl rfl)
theorem dX2_bits_4 : decode cX2_bits 4 = .ok (.iload_n 2, 1) := dk_28 (dk_at dksX2_bits_0 4 rfl rfl)
theorem dX2_bits_5 : decode cX2_bits 5 = .ok (.bipush 10, 2) := dk_16 10 (dk_at dksX2_bits_0 5 rfl rfl)
theorem dX2_bits_7 : decode cX2_bits 7 = .ok (.if_icmp .ge 17, 3) := dk_162 0 17 (dk_at dksX2_bits_0 7 rfl rfl)
theorem dX2_bits_10 : decode cX2_bits 10 = .ok (.iload_n 1, 1) := dk_27 (dk_at dksX2_bits_0 10 rfl rfl)
theorem dX2_bits_11 : decode cX2_bits 11 = .ok (.iload_n 0, 1) := dk_26 (dk_at dksX2_bits_0 11 rfl rfl)
theorem dX2_bits_12 : decode cX2_bits 12 = .ok (.iload_n 2, 1) := dk_28 (dk_at dksX2_bits_0 12 rfl rfl)
theorem dX2_bits_13 : decode cX2_bits 13 = .ok (.ishr, 1) := dk_122 (dk_at dksX2_bits_0 13 rfl rfl)
theorem dX2_bits_14 : decode cX2_bits 14 = .ok (.iconst 1, 1) := dk_4 (dk_at dksX2_bits_0 14 rfl rfl)
theorem dX2_bits_15 : decode cX2_bits 15 = .ok (.iand, 1) := dk_126 (dk_at dksX2_bits_0 15 rfl rfl)
theorem dX2_bits_16 : decode cX2_bits 16 = .ok (.iadd, 1) := dk_96 (dk_at dksX2_bits_0 16 rfl rfl)
theorem dX2_bits_17 : decode cX2_bits 17 = .ok (.istore_n 1, 1) := dk_60 (dk_at dksX2_bits_0 17 rfl rfl)
theorem dX2_bits_18 : decode cX2_bits 18 = .ok (.iinc 2 1, 3) := dk_132 2 1 (dk_at dksX2_bits_0 18 rfl rfl)
theorem dX2_bits_21 : decode cX2_bits 21 = .ok (.goto (-17), 3) := dk_167 255 239 (dk_at dksX2_bits_0 21 rfl rfl)
theorem dX2_bits_24 : decode cX2_bits 24 = .ok (.iload_n 1, 1) := dk_27 (dk_at dksX2_bits_1 0 rfl rfl)
theorem dX2_bits_25 : decode cX2_bits 25 = .ok (.ireturn, 1) := dk_172 (dk_at dksX2_bits_1 1 rfl rfl)
abbrev cX2_leastAnew : ByteArray := prog_17_method_47_code
def yX2_leastAnew : MethodName := ⟨RX2, "leastAnew", "(II)I"⟩
def dkwX2_leastAnew_0 : List UInt8 := [42, 27, 28, 182, 0, 201, 172]
abbrev dktX2_leastAnew_0 : List UInt8 := dkwX2_leastAnew_0 ++ []
theorem dksX2_leastAnew_0 : cX2_leastAnew.data.toList.drop 0 = dktX2_leastAnew_0 := by decide +kernel
theorem dX2_leastAnew_0 : decode cX2_leastAnew 0 = .ok (.aload_n 0, 1) := dk_42 (dk_at dksX2_leastAnew_0 0 rfl rfl)
theorem dX2_leastAnew_1 : decode cX2_leastAnew 1 = .ok (.iload_n 1, 1) := dk_27 (dk_at dksX2_leastAnew_0 1 rfl rfl)
theorem dX2_leastAnew_2 : decode cX2_leastAnew 2 = .ok (.iload_n 2, 1) := dk_28 (dk_at dksX2_leastAnew_0 2 rfl rfl)
theorem dX2_leastAnew_3 : decode cX2_leastAnew 3 = .ok (.invokevirtual 201, 3) := dk_182 0 201 (dk_at dksX2_leastAnew_0 3 rfl rfl)
theorem dX2_leastAnew_6 : decode cX2_leastAnew 6 = .ok (.ireturn, 1) := dk_172 (dk_at dksX2_leastAnew_0 6 rfl rfl)
abbrev cX2_ofPrinciple : ByteArray := prog_17_method_48_code
def yX2_ofPrinciple : MethodName := ⟨RX2, "ofPrinciple", "(II)I"⟩
def dkwX2_ofPrinciple_6 : List UInt8 := [167, 0, 15, 28, 5, 160, 0, 8, 21, 4, 167, 0, 5, 21, 5, 172]
abbrev dktX2_ofPrinciple_6 : List UInt8 := dkwX2_ofPrinciple_6 ++ []
def dkwX2_ofPrinciple_5 : List UInt8 := [154, 0, 12, 42, 180, 0, 51, 27, 46, 167, 0, 29, 28, 4, 160, 0, 12, 42, 180, 0, 54, 27, 46]
abbrev dktX2_ofPrinciple_5 : List UInt8 := dkwX2_ofPrinciple_5 ++ dktX2_ofPrinciple_6
def dkwX2_ofPrinciple_4 : List UInt8 := [21, 5, 42, 180, 0, 63, 21, 6, 46, 27, 122, 4, 126, 96, 54, 5, 132, 6, 1, 167, 255, 228, 28]
abbrev dktX2_ofPrinciple_4 : List UInt8 := dkwX2_ofPrinciple_4 ++ dktX2_ofPrinciple_5
def dkwX2_ofPrinciple_3 : List UInt8 := [96, 54, 4, 132, 5, 1, 167, 255, 223, 3, 54, 5, 3, 54, 6, 21, 6, 42, 180, 0, 180, 162, 0, 25]
abbrev dktX2_ofPrinciple_3 : List UInt8 := dkwX2_ofPrinciple_3 ++ dktX2_ofPrinciple_4
def dkwX2_ofPrinciple_2 : List UInt8 := [180, 0, 177, 162, 0, 30, 21, 4, 42, 180, 0, 60, 21, 5, 46, 27, 160, 0, 7, 4, 167, 0, 4, 3]
abbrev dktX2_ofPrinciple_2 : List UInt8 := dkwX2_ofPrinciple_2 ++ dktX2_ofPrinciple_3
def dkwX2_ofPrinciple_1 : List UInt8 := [3, 167, 0, 4, 5, 182, 0, 99, 154, 0, 5, 3, 172, 3, 54, 4, 3, 54, 5, 21, 5, 42]
abbrev dktX2_ofPrinciple_1 : List UInt8 := dkwX2_ofPrinciple_1 ++ dktX2_ofPrinciple_2
def dkwX2_ofPrinciple_0 : List UInt8 := [42, 27, 182, 0, 171, 62, 42, 29, 154, 0, 7, 4, 167, 0, 17, 28, 3, 6, 184, 0, 85, 153, 0, 7]
abbrev dktX2_ofPrinciple_0 : List UInt8 := dkwX2_ofPrinciple_0 ++ dktX2_ofPrinciple_1
theorem dksX2_ofPrinciple_0 : cX2_ofPrinciple.data.toList.drop 0 = dktX2_ofPrinciple_0 := by decide +kernel
theorem dksX2_ofPrinciple_1 : cX2_ofPrinciple.data.toList.drop 24 = dktX2_ofPrinciple_1 := dk_seg dksX2_ofPrinciple_0 24 rfl rfl
theorem dksX2_ofPrinciple_2 : cX2_ofPrinciple.data.toList.drop 46 = dktX2_ofPrinciple_2 := dk_seg dksX2_ofPrinciple_1 22 rfl rfl
theorem dksX2_ofPrinciple_3 : cX2_ofPrinciple.data.toList.drop 70 = dktX2_ofPrinciple_3 := dk_seg dksX2_ofPrinciple_2 24 rfl rfl
theorem dksX2_ofPrinciple_4 : cX2_ofPrinciple.data.toList.drop 94 = dktX2_ofPrinciple_4 := dk_seg dksX2_ofPrinciple_3 24 rfl rfl
theorem dksX2_ofPrinciple_5 : cX2_ofPrinciple.data.toList.drop 117 = dktX2_ofPrinciple_5 := dk_seg dksX2_ofPrinciple_4 23 rfl rfl
theorem dksX2_ofPrinciple_6 : cX2_ofPrinciple.data.toList.drop 140 = dktX2_ofPrinciple_6 := dk_seg dksX2_ofPrinciple_5 23 rfl rfl
theorem dX2_ofPrinciple_0 : decode cX2_ofPrinciple 0 = .ok (.aload_n 0, 1) := dk_42 (dk_at dksX2_ofPrinciple_0 0 rfl rfl)
theorem dX2_ofPrinciple_1 : decode cX2_ofPrinciple 1 = .ok (.iload_n 1, 1) := dk_27 (dk_at dksX2_ofPrinciple_0 1 rfl rfl)
theorem dX2_ofPrinciple_2 : decode cX2_ofPrinciple 2 = .ok (.invokevirtual 171, 3) := dk_182 0 171 (dk_at dksX2_ofPrinciple_0 2 rfl rfl)
theorem dX2_ofPrinciple_5 : decode cX2_ofPrinciple 5 = .ok (.istore_n 3, 1) := dk_62 (dk_at dksX2_ofPrinciple_0 5 rfl rfl)
theorem dX2_ofPrinciple_6 : decode cX2_ofPrinciple 6 = .ok (.aload_n 0, 1) := dk_42 (dk_at dksX2_ofPrinciple_0 6 rfl rfl)
theorem dX2_ofPrinciple_7 : decode cX2_ofPrinciple 7 = .ok (.iload_n 3, 1) := dk_29 (dk_at dksX2_ofPrinciple_0 7 rfl rfl)
theorem dX2_ofPrinciple_8 : decode cX2_ofPrinciple 8 = .ok (.ifCond .ne 7, 3) := dk_154 0 7 (dk_at dksX2_ofPrinciple_0 8 rfl rfl)
theorem dX2_ofPrinciple_11 : decode cX2_ofPrinciple 11 = .ok (.iconst 1, 1) := dk_4 (dk_at dksX2_ofPrinciple_0 11 rfl rfl)
theorem dX2_ofPrinciple_12 : decode cX2_ofPrinciple 12 = .ok (.goto 17, 3) := dk_167 0 17 (dk_at dksX2_ofPrinciple_0 12 rfl rfl)
theorem dX2_ofPrinciple_15 : decode cX2_ofPrinciple 15 = .ok (.iload_n 2, 1) := dk_28 (dk_at dksX2_ofPrinciple_0 15 rfl rfl)
theorem dX2_ofPrinciple_16 : decode cX2_ofPrinciple 16 = .ok (.iconst 0, 1) := dk_3 (dk_at dksX2_ofPrinciple_0 16 rfl rfl)
theorem dX2_ofPrinciple_17 : decode cX2_ofPrinciple 17 = .ok (.iconst 3, 1) := dk_6 (dk_at dksX2_ofPrinciple_0 17 rfl rfl)
theorem dX2_ofPrinciple_18 : decode cX2_ofPrinciple 18 = .ok (.invokestatic 85, 3) := dk_184 0 85 (dk_at dksX2_ofPrinciple_0 18 rfl rfl)
theorem dX2_ofPrinciple_21 : decode cX2_ofPrinciple 21 = .ok (.ifCond .eq 7, 3) := dk_153 0 7 (dk_at dksX2_ofPrinciple_0 21 rfl rfl)
theorem dX2_ofPrinciple_24 : decode cX2_ofPrinciple 24 = .ok (.iconst 0, 1) := dk_3 (dk_at dksX2_ofPrinciple_1 0 rfl rfl)
theorem dX2_ofPrinciple_25 : decode cX2_ofPrinciple 25 = .ok (.goto 4, 3) := dk_167 0 4 (dk_at dksX2_ofPrinciple_1 1 rfl rfl)
theorem dX2_ofPrinciple_28 : decode cX2_ofPrinciple 28 = .ok (.iconst 2, 1) := dk_5 (dk_at dksX2_ofPrinciple_1 4 rfl rfl)
theorem dX2_ofPrinciple_29 : decode cX2_ofPrinciple 29 = .ok (.invokevirtual 99, 3) := dk_182 0 99 (dk_at dksX2_ofPrinciple_1 5 rfl rfl)
theorem dX2_ofPrinciple_32 : decode cX2_ofPrinciple 32 = .ok (.ifCond .ne 5, 3) := dk_154 0 5 (dk_at dksX2_ofPrinciple_1 8 rfl rfl)
theorem dX2_ofPrinciple_35 : decode cX2_ofPrinciple 35 = .ok (.iconst 0, 1) := dk_3 (dk_at dksX2_ofPrinciple_1 11 rfl rfl)
theorem dX2_ofPrinciple_36 : decode cX2_ofPrinciple 36 = .ok (.ireturn, 1) := dk_172 (dk_at dksX2_ofPrinciple_1 12 rfl rfl)
theorem dX2_ofPrinciple_37 : decode cX2_ofPrinciple 37 = .ok (.iconst 0, 1) := dk_3 (dk_at dksX2_ofPrinciple_1 13 rfl rfl)
theorem dX2_ofPrinciple_38 : decode cX2_ofPrinciple 38 = .ok (.istore 4, 2) := dk_54 4 (dk_at dksX2_ofPrinciple_1 14 rfl rfl)
theorem dX2_ofPrinciple_40 : decode cX2_ofPrinciple 40 = .ok (.iconst 0, 1) := dk_3 (dk_at dksX2_ofPrinciple_1 16 rfl rfl)
theorem dX2_ofPrinciple_41 : decode cX2_ofPrinciple 41 = .ok (.istore 5, 2) := dk_54 5 (dk_at dksX2_ofPrinciple_1 17 rfl rfl)
theorem dX2_ofPrinciple_43 : decode cX2_ofPrinciple 43 = .ok (.iload 5, 2) := dk_21 5 (dk_at dksX2_ofPrinciple_1 19 rfl rfl)
theorem dX2_ofPrinciple_45 : decode cX2_ofPrinciple 45 = .ok (.aload_n 0, 1) := dk_42 (dk_at dksX2_ofPrinciple_1 21 rfl rfl)
theorem dX2_ofPrinciple_46 : decode cX2_ofPrinciple 46 = .ok (.getfield 177, 3) := dk_180 0 177 (dk_at dksX2_ofPrinciple_2 0 rfl rfl)
theorem dX2_ofPrinciple_49 : decode cX2_ofPrinciple 49 = .ok (.if_icmp .ge 30, 3) := dk_162 0 30 (dk_at dksX2_ofPrinciple_2 3 rfl rfl)
theorem dX2_ofPrinciple_52 : decode cX2_ofPrinciple 52 = .ok (.iload 4, 2) := dk_21 4 (dk_at dksX2_ofPrinciple_2 6 rfl rfl)
theorem dX2_ofPrinciple_54 : decode cX2_ofPrinciple 54 = .ok (.aload_n 0, 1) := dk_42 (dk_at dksX2_ofPrinciple_2 8 rfl rfl)
theorem dX2_ofPrinciple_55 : decode cX2_ofPrinciple 55 = .ok (.getfield 60, 3) := dk_180 0 60 (dk_at dksX2_ofPrinciple_2 9 rfl rfl)
theorem dX2_ofPrinciple_58 : decode cX2_ofPrinciple 58 = .ok (.iload 5, 2) := dk_21 5 (dk_at dksX2_ofPrinciple_2 12 rfl rfl)
theorem dX2_ofPrinciple_60 : decode cX2_ofPrinciple 60 = .ok (.iaload, 1) := dk_46 (dk_at dksX2_ofPrinciple_2 14 rfl rfl)
theorem dX2_ofPrinciple_61 : decode cX2_ofPrinciple 61 = .ok (.iload_n 1, 1) := dk_27 (dk_at dksX2_ofPrinciple_2 15 rfl rfl)
theorem dX2_ofPrinciple_62 : decode cX2_ofPrinciple 62 = .ok (.if_icmp .ne 7, 3) := dk_160 0 7 (dk_at dksX2_ofPrinciple_2 16 rfl rfl)
theorem dX2_ofPrinciple_65 : decode cX2_ofPrinciple 65 = .ok (.iconst 1, 1) := dk_4 (dk_at dksX2_ofPrinciple_2 19 rfl rfl)
theorem dX2_ofPrinciple_66 : decode cX2_ofPrinciple 66 = .ok (.goto 4, 3) := dk_167 0 4 (dk_at dksX2_ofPrinciple_2 20 rfl rfl)
theorem dX2_ofPrinciple_69 : decode cX2_ofPrinciple 69 = .ok (.iconst 0, 1) := dk_3 (dk_at dksX2_ofPrinciple_2 23 rfl rfl)
theorem dX2_ofPrinciple_70 : decode cX2_ofPrinciple 70 = .ok (.iadd, 1) := dk_96 (dk_at dksX2_ofPrinciple_3 0 rfl rfl)
theorem dX2_ofPrinciple_71 : decode cX2_ofPrinciple 71 = .ok (.istore 4, 2) := dk_54 4 (dk_at dksX2_ofPrinciple_3 1 rfl rfl)
theorem dX2_ofPrinciple_73 : decode cX2_ofPrinciple 73 = .ok (.iinc 5 1, 3) := dk_132 5 1 (dk_at dksX2_ofPrinciple_3 3 rfl rfl)
theorem dX2_ofPrinciple_76 : decode cX2_ofPrinciple 76 = .ok (.goto (-33), 3) := dk_167 255 223 (dk_at dksX2_ofPrinciple_3 6 rfl rfl)
theorem dX2_ofPrinciple_79 : decode cX2_ofPrinciple 79 = .ok (.iconst 0, 1) := dk_3 (dk_at dksX2_ofPrinciple_3 9 rfl rfl)
theorem dX2_ofPrinciple_80 : decode cX2_ofPrinciple 80 = .ok (.istore 5, 2) := dk_54 5 (dk_at dksX2_ofPrinciple_3 10 rfl rfl)
theorem dX2_ofPrinciple_82 : decode cX2_ofPrinciple 82 = .ok (.iconst 0, 1) := dk_3 (dk_at dksX2_ofPrinciple_3 12 rfl rfl)
theorem dX2_ofPrinciple_83 : decode cX2_ofPrinciple 83 = .ok (.istore 6, 2) := dk_54 6 (dk_at dksX2_ofPrinciple_3 13 rfl rfl)
theorem dX2_ofPrinciple_85 : decode cX2_ofPrinciple 85 = .ok (.iload 6, 2) := dk_21 6 (dk_at dksX2_ofPrinciple_3 15 rfl rfl)
theorem dX2_ofPrinciple_87 : decode cX2_ofPrinciple 87 = .ok (.aload_n 0, 1) := dk_42 (dk_at dksX2_ofPrinciple_3 17 rfl rfl)
theorem dX2_ofPrinciple_88 : decode cX2_ofPrinciple 88 = .ok (.getfield 180, 3) := dk_180 0 180 (dk_at dksX2_ofPrinciple_3 18 rfl rfl)
theorem dX2_ofPrinciple_91 : decode cX2_ofPrinciple 91 = .ok (.if_icmp .ge 25, 3) := dk_162 0 25 (dk_at dksX2_ofPrinciple_3 21 rfl rfl)
theorem dX2_ofPrinciple_94 : decode cX2_ofPrinciple 94 = .ok (.iload 5, 2) := dk_21 5 (dk_at dksX2_ofPrinciple_4 0 rfl rfl)
theorem dX2_ofPrinciple_96 : decode cX2_ofPrinciple 96 = .ok (.aload_n 0, 1) := dk_42 (dk_at dksX2_ofPrinciple_4 2 rfl rfl)
theorem dX2_ofPrinciple_97 : decode cX2_ofPrinciple 97 = .ok (.getfield 63, 3) := dk_180 0 63 (dk_at dksX2_ofPrinciple_4 3 rfl rfl)
theorem dX2_ofPrinciple_100 : decode cX2_ofPrinciple 100 = .ok (.iload 6, 2) := dk_21 6 (dk_at dksX2_ofPrinciple_4 6 rfl rfl)
theorem dX2_ofPrinciple_102 : decode cX2_ofPrinciple 102 = .ok (.iaload, 1) := dk_46 (dk_at dksX2_ofPrinciple_4 8 rfl rfl)
theorem dX2_ofPrinciple_103 : decode cX2_ofPrinciple 103 = .ok (.iload_n 1, 1) := dk_27 (dk_at dksX2_ofPrinciple_4 9 rfl rfl)
theorem dX2_ofPrinciple_104 : decode cX2_ofPrinciple 104 = .ok (.ishr, 1) := dk_122 (dk_at dksX2_ofPrinciple_4 10 rfl rfl)
theorem dX2_ofPrinciple_105 : decode cX2_ofPrinciple 105 = .ok (.iconst 1, 1) := dk_4 (dk_at dksX2_ofPrinciple_4 11 rfl rfl)
theorem dX2_ofPrinciple_106 : decode cX2_ofPrinciple 106 = .ok (.iand, 1) := dk_126 (dk_at dksX2_ofPrinciple_4 12 rfl rfl)
theorem dX2_ofPrinciple_107 : decode cX2_ofPrinciple 107 = .ok (.iadd, 1) := dk_96 (dk_at dksX2_ofPrinciple_4 13 rfl rfl)
theorem dX2_ofPrinciple_108 : decode cX2_ofPrinciple 108 = .ok (.istore 5, 2) := dk_54 5 (dk_at dksX2_ofPrinciple_4 14 rfl rfl)
theorem dX2_ofPrinciple_110 : decode cX2_ofPrinciple 110 = .ok (.iinc 6 1, 3) := dk_132 6 1 (dk_at dksX2_ofPrinciple_4 16 rfl rfl)
theorem dX2_ofPrinciple_113 : decode cX2_ofPrinciple 113 = .ok (.goto (-28), 3) := dk_167 255 228 (dk_at dksX2_ofPrinciple_4 19 rfl rfl)
theorem dX2_ofPrinciple_116 : decode cX2_ofPrinciple 116 = .ok (.iload_n 2, 1) := dk_28 (dk_at dksX2_ofPrinciple_4 22 rfl rfl)
theorem dX2_ofPrinciple_117 : decode cX2_ofPrinciple 117 = .ok (.ifCond .ne 12, 3) := dk_154 0 12 (dk_at dksX2_ofPrinciple_5 0 rfl rfl)
theorem dX2_ofPrinciple_120 : decode cX2_ofPrinciple 120 = .ok (.aload_n 0, 1) := dk_42 (dk_at dksX2_ofPrinciple_5 3 rfl rfl)
theorem dX2_ofPrinciple_121 : decode cX2_ofPrinciple 121 = .ok (.getfield 51, 3) := dk_180 0 51 (dk_at dksX2_ofPrinciple_5 4 rfl rfl)
theorem dX2_ofPrinciple_124 : decode cX2_ofPrinciple 124 = .ok (.iload_n 1, 1) := dk_27 (dk_at dksX2_ofPrinciple_5 7 rfl rfl)
theorem dX2_ofPrinciple_125 : decode cX2_ofPrinciple 125 = .ok (.iaload, 1) := dk_46 (dk_at dksX2_ofPrinciple_5 8 rfl rfl)
theorem dX2_ofPrinciple_126 : decode cX2_ofPrinciple 126 = .ok (.goto 29, 3) := dk_167 0 29 (dk_at dksX2_ofPrinciple_5 9 rfl rfl)
theorem dX2_ofPrinciple_129 : decode cX2_ofPrinciple 129 = .ok (.iload_n 2, 1) := dk_28 (dk_at dksX2_ofPrinciple_5 12 rfl rfl)
theorem dX2_ofPrinciple_130 : decode cX2_ofPrinciple 130 = .ok (.iconst 1, 1) := dk_4 (dk_at dksX2_ofPrinciple_5 13 rfl rfl)
theorem dX2_ofPrinciple_131 : decode cX2_ofPrinciple 131 = .ok (.if_icmp .ne 12, 3) := dk_160 0 12 (dk_at dksX2_ofPrinciple_5 14 rfl rfl)
theorem dX2_ofPrinciple_134 : decode cX2_ofPrinciple 134 = .ok (.aload_n 0, 1) := dk_42 (dk_at dksX2_ofPrinciple_5 17 rfl rfl)
theorem dX2_ofPrinciple_135 : decode cX2_ofPrinciple 135 = .ok (.getfield 54, 3) := dk_180 0 54 (dk_at dksX2_ofPrinciple_5 18 rfl rfl)
theorem dX2_ofPrinciple_138 : decode cX2_ofPrinciple 138 = .ok (.iload_n 1, 1) := dk_27 (dk_at dksX2_ofPrinciple_5 21 rfl rfl)
theorem dX2_ofPrinciple_139 : decode cX2_ofPrinciple 139 = .ok (.iaload, 1) := dk_46 (dk_at dksX2_ofPrinciple_5 22 rfl rfl)
theorem dX2_ofPrinciple_140 : decode cX2_ofPrinciple 140 = .ok (.goto 15, 3) := dk_167 0 15 (dk_at dksX2_ofPrinciple_6 0 rfl rfl)
theorem dX2_ofPrinciple_143 : decode cX2_ofPrinciple 143 = .ok (.iload_n 2, 1) := dk_28 (dk_at dksX2_ofPrinciple_6 3 rfl rfl)
theorem dX2_ofPrinciple_144 : decode cX2_ofPrinciple 144 = .ok (.iconst 2, 1) := dk_5 (dk_at dksX2_ofPrinciple_6 4 rfl rfl)
theorem dX2_ofPrinciple_145 : decode cX2_ofPrinciple 145 = .ok (.if_icmp .ne 8, 3) := dk_160 0 8 (dk_at dksX2_ofPrinciple_6 5 rfl rfl)
theorem dX2_ofPrinciple_148 : decode cX2_ofPrinciple 148 = .ok (.iload 4, 2) := dk_21 4 (dk_at dksX2_ofPrinciple_6 8 rfl rfl)
theorem dX2_ofPrinciple_150 : decode cX2_ofPrinciple 150 = .ok (.goto 5, 3) := dk_167 0 5 (dk_at dksX2_ofPrinciple_6 10 rfl rfl)
theorem dX2_ofPrinciple_153 : decode cX2_ofPrinciple 153 = .ok (.iload 5, 2) := dk_21 5 (dk_at dksX2_ofPrinciple_6 13 rfl rfl)
theorem dX2_ofPrinciple_155 : decode cX2_ofPrinciple 155 = .ok (.ireturn, 1) := dk_172 (dk_at dksX2_ofPrinciple_6 15 rfl rfl)
abbrev cX2_problem : ByteArray := prog_17_method_53_code
def yX2_problem : MethodName := ⟨RX2, "problem", "(III)I"⟩
def dkwX2_problem_3 : List UInt8 := [167, 0, 4, 3, 172]
abbrev dktX2_problem_3 : List UInt8 := dkwX2_problem_3 ++ []
def dkwX2_problem_2 : List UInt8 := [16, 6, 160, 0, 7, 5, 167, 0, 4, 3, 182, 0, 99, 153, 0, 13, 42, 27, 28, 29, 182, 0, 213]
abbrev dktX2_problem_2 : List UInt8 := dkwX2_problem_2 ++ dktX2_problem_3
def dkwX2_problem_1 : List UInt8 := [153, 0, 7, 4, 167, 0, 4, 3, 54, 4, 42, 21, 4, 154, 0, 7, 4, 167, 0, 17, 42, 180, 0, 204]
abbrev dktX2_problem_1 : List UInt8 := dkwX2_problem_1 ++ dktX2_problem_2
def dkwX2_problem_0 : List UInt8 := [27, 4, 7, 184, 0, 85, 153, 0, 25, 28, 4, 7, 184, 0, 85, 153, 0, 16, 29, 27, 28, 184, 0, 210]
abbrev dktX2_problem_0 : List UInt8 := dkwX2_problem_0 ++ dktX2_problem_1
theorem dksX2_problem_0 : cX2_problem.data.toList.drop 0 = dktX2_problem_0 := by decide +kernel
theorem dksX2_problem_1 : cX2_problem.data.toList.drop 24 = dktX2_problem_1 := dk_seg dksX2_problem_0 24 rfl rfl
theorem dksX2_problem_2 : cX2_problem.data.toList.drop 48 = dktX2_problem_2 := dk_seg dksX2_problem_1 24 rfl rfl
theorem dksX2_problem_3 : cX2_problem.data.toList.drop 71 = dktX2_problem_3 := dk_seg dksX2_problem_2 23 rfl rfl
theorem dX2_problem_0 : decode cX2_problem 0 = .ok (.iload_n 1, 1) := dk_27 (dk_at dksX2_problem_0 0 rfl rfl)
theorem dX2_problem_1 : decode cX2_problem 1 = .ok (.iconst 1, 1) := dk_4 (dk_at dksX2_problem_0 1 rfl rfl)
theorem dX2_problem_2 : decode cX2_problem 2 = .ok (.iconst 4, 1) := dk_7 (dk_at dksX2_problem_0 2 rfl rfl)
theorem dX2_problem_3 : decode cX2_problem 3 = .ok (.invokestatic 85, 3) := dk_184 0 85 (dk_at dksX2_problem_0 3 rfl rfl)
theorem dX2_problem_6 : decode cX2_problem 6 = .ok (.ifCond .eq 25, 3) := dk_153 0 25 (dk_at dksX2_problem_0 6 rfl rfl)
theorem dX2_problem_9 : decode cX2_problem 9 = .ok (.iload_n 2, 1) := dk_28 (dk_at dksX2_problem_0 9 rfl rfl)
theorem dX2_problem_10 : decode cX2_problem 10 = .ok (.iconst 1, 1) := dk_4 (dk_at dksX2_problem_0 10 rfl rfl)
theorem dX2_problem_11 : decode cX2_problem 11 = .ok (.iconst 4, 1) := dk_7 (dk_at dksX2_problem_0 11 rfl rfl)
theorem dX2_problem_12 : decode cX2_problem 12 = .ok (.invokestatic 85, 3) := dk_184 0 85 (dk_at dksX2_problem_0 12 rfl rfl)
theorem dX2_problem_15 : decode cX2_problem 15 = .ok (.ifCond .eq 16, 3) := dk_153 0 16 (dk_at dksX2_problem_0 15 rfl rfl)
theorem dX2_problem_18 : decode cX2_problem 18 = .ok (.iload_n 3, 1) := dk_29 (dk_at dksX2_problem_0 18 rfl rfl)
theorem dX2_problem_19 : decode cX2_problem 19 = .ok (.iload_n 1, 1) := dk_27 (dk_at dksX2_problem_0 19 rfl rfl)
theorem dX2_problem_20 : decode cX2_problem 20 = .ok (.iload_n 2, 1) := dk_28 (dk_at dksX2_problem_0 20 rfl rfl)
theorem dX2_problem_21 : decode cX2_problem 21 = .ok (.invokestatic 210, 3) := dk_184 0 210 (dk_at dksX2_problem_0 21 rfl rfl)
theorem dX2_problem_24 : decode cX2_problem 24 = .ok (.ifCond .eq 7, 3) := dk_153 0 7 (dk_at dksX2_problem_1 0 rfl rfl)
theorem dX2_problem_27 : decode cX2_problem 27 = .ok (.iconst 1, 1) := dk_4 (dk_at dksX2_problem_1 3 rfl rfl)
theorem dX2_problem_28 : decode cX2_problem 28 = .ok (.goto 4, 3) := dk_167 0 4 (dk_at dksX2_problem_1 4 rfl rfl)
theorem dX2_problem_31 : decode cX2_problem 31 = .ok (.iconst 0, 1) := dk_3 (dk_at dksX2_problem_1 7 rfl rfl)
theorem dX2_problem_32 : decode cX2_problem 32 = .ok (.istore 4, 2) := dk_54 4 (dk_at dksX2_problem_1 8 rfl rfl)
theorem dX2_problem_34 : decode cX2_problem 34 = .ok (.aload_n 0, 1) := dk_42 (dk_at dksX2_problem_1 10 rfl rfl)
theorem dX2_problem_35 : decode cX2_problem 35 = .ok (.iload 4, 2) := dk_21 4 (dk_at dksX2_problem_1 11 rfl rfl)
theorem dX2_problem_37 : decode cX2_problem 37 = .ok (.ifCond .ne 7, 3) := dk_154 0 7 (dk_at dksX2_problem_1 13 rfl rfl)
theorem dX2_problem_40 : decode cX2_problem 40 = .ok (.iconst 1, 1) := dk_4 (dk_at dksX2_problem_1 16 rfl rfl)
theorem dX2_problem_41 : decode cX2_problem 41 = .ok (.goto 17, 3) := dk_167 0 17 (dk_at dksX2_problem_1 17 rfl rfl)
theorem dX2_problem_44 : decode cX2_problem 44 = .ok (.aload_n 0, 1) := dk_42 (dk_at dksX2_problem_1 20 rfl rfl)
theorem dX2_problem_45 : decode cX2_problem 45 = .ok (.getfield 204, 3) := dk_180 0 204 (dk_at dksX2_problem_1 21 rfl rfl)
theorem dX2_problem_48 : decode cX2_problem 48 = .ok (.bipush 6, 2) := dk_16 6 (dk_at dksX2_problem_2 0 rfl rfl)
theorem dX2_problem_50 : decode cX2_problem 50 = .ok (.if_icmp .ne 7, 3) := dk_160 0 7 (dk_at dksX2_problem_2 2 rfl rfl)
theorem dX2_problem_53 : decode cX2_problem 53 = .ok (.iconst 2, 1) := dk_5 (dk_at dksX2_problem_2 5 rfl rfl)
theorem dX2_problem_54 : decode cX2_problem 54 = .ok (.goto 4, 3) := dk_167 0 4 (dk_at dksX2_problem_2 6 rfl rfl)
theorem dX2_problem_57 : decode cX2_problem 57 = .ok (.iconst 0, 1) := dk_3 (dk_at dksX2_problem_2 9 rfl rfl)
theorem dX2_problem_58 : decode cX2_problem 58 = .ok (.invokevirtual 99, 3) := dk_182 0 99 (dk_at dksX2_problem_2 10 rfl rfl)
theorem dX2_problem_61 : decode cX2_problem 61 = .ok (.ifCond .eq 13, 3) := dk_153 0 13 (dk_at dksX2_problem_2 13 rfl rfl)
theorem dX2_problem_64 : decode cX2_problem 64 = .ok (.aload_n 0, 1) := dk_42 (dk_at dksX2_problem_2 16 rfl rfl)
theorem dX2_problem_65 : decode cX2_problem 65 = .ok (.iload_n 1, 1) := dk_27 (dk_at dksX2_problem_2 17 rfl rfl)
theorem dX2_problem_66 : decode cX2_problem 66 = .ok (.iload_n 2, 1) := dk_28 (dk_at dksX2_problem_2 18 rfl rfl)
theorem dX2_problem_67 : decode cX2_problem 67 = .ok (.iload_n 3, 1) := dk_29 (dk_at dksX2_problem_2 19 rfl rfl)
theorem dX2_problem_68 : decode cX2_problem 68 = .ok (.invokevirtual 213, 3) := dk_182 0 213 (dk_at dksX2_problem_2 20 rfl rfl)
theorem dX2_problem_71 : decode cX2_problem 71 = .ok (.goto 4, 3) := dk_167 0 4 (dk_at dksX2_problem_3 0 rfl rfl)
theorem dX2_problem_74 : decode cX2_problem 74 = .ok (.iconst 0, 1) := dk_3 (dk_at dksX2_problem_3 3 rfl rfl)
theorem dX2_problem_75 : decode cX2_problem 75 = .ok (.ireturn, 1) := dk_172 (dk_at dksX2_problem_3 4 rfl rfl)
abbrev cX2_areAnswers : ByteArray := prog_17_method_51_code
def yX2_areAnswers : MethodName := ⟨RX2, "areAnswers", "(III)Z"⟩
def dkwX2_areAnswers_4 : List UInt8 := [153, 0, 11, 29, 154, 0, 7, 4, 167, 0, 4, 3, 172]
abbrev dktX2_areAnswers_4 : List UInt8 := dkwX2_areAnswers_4 ++ []
def dkwX2_areAnswers_3 : List UInt8 := [153, 0, 12, 21, 6, 153, 0, 7, 4, 167, 0, 4, 3, 54, 4, 132, 5, 1, 167, 255, 175, 21, 4]
abbrev dktX2_areAnswers_3 : List UInt8 := dkwX2_areAnswers_3 ++ dktX2_areAnswers_4
def dkwX2_areAnswers_2 : List UInt8 := [54, 6, 29, 4, 7, 21, 5, 104, 21, 7, 96, 120, 2, 130, 126, 62, 132, 7, 1, 167, 255, 210, 21, 4]
abbrev dktX2_areAnswers_2 : List UInt8 := dkwX2_areAnswers_2 ++ dktX2_areAnswers_3
def dkwX2_areAnswers_1 : List UInt8 := [162, 0, 46, 21, 6, 154, 0, 14, 26, 21, 5, 21, 7, 184, 0, 207, 153, 0, 7, 4, 167, 0, 4, 3]
abbrev dktX2_areAnswers_1 : List UInt8 := dkwX2_areAnswers_1 ++ dktX2_areAnswers_2
def dkwX2_areAnswers_0 : List UInt8 := [26, 62, 4, 54, 4, 3, 54, 5, 21, 5, 27, 162, 0, 81, 3, 54, 6, 3, 54, 7, 21, 7, 28]
abbrev dktX2_areAnswers_0 : List UInt8 := dkwX2_areAnswers_0 ++ dktX2_areAnswers_1
theorem dksX2_areAnswers_0 : cX2_areAnswers.data.toList.drop 0 = dktX2_areAnswers_0 := by decide +kernel
theorem dksX2_areAnswers_1 : cX2_areAnswers.data.toList.drop 23 = dktX2_areAnswers_1 := dk_seg dksX2_areAnswers_0 23 rfl rfl
theorem dksX2_areAnswers_2 : cX2_areAnswers.data.toList.drop 47 = dktX2_areAnswers_2 := dk_seg dksX2_areAnswers_1 24 rfl rfl
theorem dksX2_areAnswers_3 : cX2_areAnswers.data.toList.drop 71 = dktX2_areAnswers_3 := dk_seg dksX2_areAnswers_2 24 rfl rfl
theorem dksX2_areAnswers_4 : cX2_areAnswers.data.toList.drop 94 = dktX2_areAnswers_4 := dk_seg dksX2_areAnswers_3 23 rfl rfl
theorem dX2_areAnswers_0 : decode cX2_areAnswers 0 = .ok (.iload_n 0, 1) := dk_26 (dk_at dksX2_areAnswers_0 0 rfl rfl)
theorem dX2_areAnswers_1 : decode cX2_areAnswers 1 = .ok (.istore_n 3, 1) := dk_62 (dk_at dksX2_areAnswers_0 1 rfl rfl)
theorem dX2_areAnswers_2 : decode cX2_areAnswers 2 = .ok (.iconst 1, 1) := dk_4 (dk_at dksX2_areAnswers_0 2 rfl rfl)
theorem dX2_areAnswers_3 : decode cX2_areAnswers 3 = .ok (.istore 4, 2) := dk_54 4 (dk_at dksX2_areAnswers_0 3 rfl rfl)
theorem dX2_areAnswers_5 : decode cX2_areAnswers 5 = .ok (.iconst 0, 1) := dk_3 (dk_at dksX2_areAnswers_0 5 rfl rfl)
theorem dX2_areAnswers_6 : decode cX2_areAnswers 6 = .ok (.istore 5, 2) := dk_54 5 (dk_at dksX2_areAnswers_0 6 rfl rfl)
theorem dX2_areAnswers_8 : decode cX2_areAnswers 8 = .ok (.iload 5, 2) := dk_21 5 (dk_at dksX2_areAnswers_0 8 rfl rfl)
theorem dX2_areAnswers_10 : decode cX2_areAnswers 10 = .ok (.iload_n 1, 1) := dk_27 (dk_at dksX2_areAnswers_0 10 rfl rfl)
theorem dX2_areAnswers_11 : decode cX2_areAnswers 11 = .ok (.if_icmp .ge 81, 3) := dk_162 0 81 (dk_at dksX2_areAnswers_0 11 rfl rfl)
theorem dX2_areAnswers_14 : decode cX2_areAnswers 14 = .ok (.iconst 0, 1) := dk_3 (dk_at dksX2_areAnswers_0 14 rfl rfl)
theorem dX2_areAnswers_15 : decode cX2_areAnswers 15 = .ok (.istore 6, 2) := dk_54 6 (dk_at dksX2_areAnswers_0 15 rfl rfl)
theorem dX2_areAnswers_17 : decode cX2_areAnswers 17 = .ok (.iconst 0, 1) := dk_3 (dk_at dksX2_areAnswers_0 17 rfl rfl)
theorem dX2_areAnswers_18 : decode cX2_areAnswers 18 = .ok (.istore 7, 2) := dk_54 7 (dk_at dksX2_areAnswers_0 18 rfl rfl)
theorem dX2_areAnswers_20 : decode cX2_areAnswers 20 = .ok (.iload 7, 2) := dk_21 7 (dk_at dksX2_areAnswers_0 20 rfl rfl)
theorem dX2_areAnswers_22 : decode cX2_areAnswers 22 = .ok (.iload_n 2, 1) := dk_28 (dk_at dksX2_areAnswers_0 22 rfl rfl)
theorem dX2_areAnswers_23 : decode cX2_areAnswers 23 = .ok (.if_icmp .ge 46, 3) := dk_162 0 46 (dk_at dksX2_areAnswers_1 0 rfl rfl)
theorem dX2_areAnswers_26 : decode cX2_areAnswers 26 = .ok (.iload 6, 2) := dk_21 6 (dk_at dksX2_areAnswers_1 3 rfl rfl)
theorem dX2_areAnswers_28 : decode cX2_areAnswers 28 = .ok (.ifCond .ne 14, 3) := dk_154 0 14 (dk_at dksX2_areAnswers_1 5 rfl rfl)
theorem dX2_areAnswers_31 : decode cX2_areAnswers 31 = .ok (.iload_n 0, 1) := dk_26 (dk_at dksX2_areAnswers_1 8 rfl rfl)
theorem dX2_areAnswers_32 : decode cX2_areAnswers 32 = .ok (.iload 5, 2) := dk_21 5 (dk_at dksX2_areAnswers_1 9 rfl rfl)
theorem dX2_areAnswers_34 : decode cX2_areAnswers 34 = .ok (.iload 7, 2) := dk_21 7 (dk_at dksX2_areAnswers_1 11 rfl rfl)
theorem dX2_areAnswers_36 : decode cX2_areAnswers 36 = .ok (.invokestatic 207, 3) := dk_184 0 207 (dk_at dksX2_areAnswers_1 13 rfl rfl)
theorem dX2_areAnswers_39 : decode cX2_areAnswers 39 = .ok (.ifCond .eq 7, 3) := dk_153 0 7 (dk_at dksX2_areAnswers_1 16 rfl rfl)
theorem dX2_areAnswers_42 : decode cX2_areAnswers 42 = .ok (.iconst 1, 1) := dk_4 (dk_at dksX2_areAnswers_1 19 rfl rfl)
theorem dX2_areAnswers_43 : decode cX2_areAnswers 43 = .ok (.goto 4, 3) := dk_167 0 4 (dk_at dksX2_areAnswers_1 20 rfl rfl)
theorem dX2_areAnswers_46 : decode cX2_areAnswers 46 = .ok (.iconst 0, 1) := dk_3 (dk_at dksX2_areAnswers_1 23 rfl rfl)
theorem dX2_areAnswers_47 : decode cX2_areAnswers 47 = .ok (.istore 6, 2) := dk_54 6 (dk_at dksX2_areAnswers_2 0 rfl rfl)
theorem dX2_areAnswers_49 : decode cX2_areAnswers 49 = .ok (.iload_n 3, 1) := dk_29 (dk_at dksX2_areAnswers_2 2 rfl rfl)
theorem dX2_areAnswers_50 : decode cX2_areAnswers 50 = .ok (.iconst 1, 1) := dk_4 (dk_at dksX2_areAnswers_2 3 rfl rfl)
theorem dX2_areAnswers_51 : decode cX2_areAnswers 51 = .ok (.iconst 4, 1) := dk_7 (dk_at dksX2_areAnswers_2 4 rfl rfl)
theorem dX2_areAnswers_52 : decode cX2_areAnswers 52 = .ok (.iload 5, 2) := dk_21 5 (dk_at dksX2_areAnswers_2 5 rfl rfl)
theorem dX2_areAnswers_54 : decode cX2_areAnswers 54 = .ok (.imul, 1) := dk_104 (dk_at dksX2_areAnswers_2 7 rfl rfl)
theorem dX2_areAnswers_55 : decode cX2_areAnswers 55 = .ok (.iload 7, 2) := dk_21 7 (dk_at dksX2_areAnswers_2 8 rfl rfl)
theorem dX2_areAnswers_57 : decode cX2_areAnswers 57 = .ok (.iadd, 1) := dk_96 (dk_at dksX2_areAnswers_2 10 rfl rfl)
theorem dX2_areAnswers_58 : decode cX2_areAnswers 58 = .ok (.ishl, 1) := dk_120 (dk_at dksX2_areAnswers_2 11 rfl rfl)
theorem dX2_areAnswers_59 : decode cX2_areAnswers 59 = .ok (.iconst (-1), 1) := dk_2 (dk_at dksX2_areAnswers_2 12 rfl rfl)
theorem dX2_areAnswers_60 : decode cX2_areAnswers 60 = .ok (.ixor, 1) := dk_130 (dk_at dksX2_areAnswers_2 13 rfl rfl)
theorem dX2_areAnswers_61 : decode cX2_areAnswers 61 = .ok (.iand, 1) := dk_126 (dk_at dksX2_areAnswers_2 14 rfl rfl)
theorem dX2_areAnswers_62 : decode cX2_areAnswers 62 = .ok (.istore_n 3, 1) := dk_62 (dk_at dksX2_areAnswers_2 15 rfl rfl)
theorem dX2_areAnswers_63 : decode cX2_areAnswers 63 = .ok (.iinc 7 1, 3) := dk_132 7 1 (dk_at dksX2_areAnswers_2 16 rfl rfl)
theorem dX2_areAnswers_66 : decode cX2_areAnswers 66 = .ok (.goto (-46), 3) := dk_167 255 210 (dk_at dksX2_areAnswers_2 19 rfl rfl)
theorem dX2_areAnswers_69 : decode cX2_areAnswers 69 = .ok (.iload 4, 2) := dk_21 4 (dk_at dksX2_areAnswers_2 22 rfl rfl)
theorem dX2_areAnswers_71 : decode cX2_areAnswers 71 = .ok (.ifCond .eq 12, 3) := dk_153 0 12 (dk_at dksX2_areAnswers_3 0 rfl rfl)
theorem dX2_areAnswers_74 : decode cX2_areAnswers 74 = .ok (.iload 6, 2) := dk_21 6 (dk_at dksX2_areAnswers_3 3 rfl rfl)
theorem dX2_areAnswers_76 : decode cX2_areAnswers 76 = .ok (.ifCond .eq 7, 3) := dk_153 0 7 (dk_at dksX2_areAnswers_3 5 rfl rfl)
theorem dX2_areAnswers_79 : decode cX2_areAnswers 79 = .ok (.iconst 1, 1) := dk_4 (dk_at dksX2_areAnswers_3 8 rfl rfl)
theorem dX2_areAnswers_80 : decode cX2_areAnswers 80 = .ok (.goto 4, 3) := dk_167 0 4 (dk_at dksX2_areAnswers_3 9 rfl rfl)
theorem dX2_areAnswers_83 : decode cX2_areAnswers 83 = .ok (.iconst 0, 1) := dk_3 (dk_at dksX2_areAnswers_3 12 rfl rfl)
theorem dX2_areAnswers_84 : decode cX2_areAnswers 84 = .ok (.istore 4, 2) := dk_54 4 (dk_at dksX2_areAnswers_3 13 rfl rfl)
theorem dX2_areAnswers_86 : decode cX2_areAnswers 86 = .ok (.iinc 5 1, 3) := dk_132 5 1 (dk_at dksX2_areAnswers_3 15 rfl rfl)
theorem dX2_areAnswers_89 : decode cX2_areAnswers 89 = .ok (.goto (-81), 3) := dk_167 255 175 (dk_at dksX2_areAnswers_3 18 rfl rfl)
theorem dX2_areAnswers_92 : decode cX2_areAnswers 92 = .ok (.iload 4, 2) := dk_21 4 (dk_at dksX2_areAnswers_3 21 rfl rfl)
theorem dX2_areAnswers_94 : decode cX2_areAnswers 94 = .ok (.ifCond .eq 11, 3) := dk_153 0 11 (dk_at dksX2_areAnswers_4 0 rfl rfl)
theorem dX2_areAnswers_97 : decode cX2_areAnswers 97 = .ok (.iload_n 3, 1) := dk_29 (dk_at dksX2_areAnswers_4 3 rfl rfl)
theorem dX2_areAnswers_98 : decode cX2_areAnswers 98 = .ok (.ifCond .ne 7, 3) := dk_154 0 7 (dk_at dksX2_areAnswers_4 4 rfl rfl)
theorem dX2_areAnswers_101 : decode cX2_areAnswers 101 = .ok (.iconst 1, 1) := dk_4 (dk_at dksX2_areAnswers_4 7 rfl rfl)
theorem dX2_areAnswers_102 : decode cX2_areAnswers 102 = .ok (.goto 4, 3) := dk_167 0 4 (dk_at dksX2_areAnswers_4 8 rfl rfl)
theorem dX2_areAnswers_105 : decode cX2_areAnswers 105 = .ok (.iconst 0, 1) := dk_3 (dk_at dksX2_areAnswers_4 11 rfl rfl)
theorem dX2_areAnswers_106 : decode cX2_areAnswers 106 = .ok (.ireturn, 1) := dk_172 (dk_at dksX2_areAnswers_4 12 rfl rfl)
abbrev cX2_isSolved : ByteArray := prog_17_method_50_code
def yX2_isSolved : MethodName := ⟨RX2, "isSolved", "(III)Z"⟩
def dkwX2_isSolved_0 : List UInt8 := [26, 7, 27, 104, 28, 96, 122, 4, 126, 4, 160, 0, 7, 4, 167, 0, 4, 3, 172]
abbrev dktX2_isSolved_0 : List UInt8 := dkwX2_isSolved_0 ++ []
theorem dksX2_isSolved_0 : cX2_isSolved.data.toList.drop 0 = dktX2_isSolved_0 := by decide +kernel
theorem dX2_isSolved_0 : decode cX2_isSolved 0 = .ok (.iload_n 0, 1) := dk_26 (dk_at dksX2_isSolved_0 0 rfl rfl)
theorem dX2_isSolved_1 : decode cX2_isSolved 1 = .ok (.iconst 4, 1) := dk_7 (dk_at dksX2_isSolved_0 1 rfl rfl)
theorem dX2_isSolved_2 : decode cX2_isSolved 2 = .ok (.iload_n 1, 1) := dk_27 (dk_at dksX2_isSolved_0 2 rfl rfl)
theorem dX2_isSolved_3 : decode cX2_isSolved 3 = .ok (.imul, 1) := dk_104 (dk_at dksX2_isSolved_0 3 rfl rfl)
theorem dX2_isSolved_4 : decode cX2_isSolved 4 = .ok (.iload_n 2, 1) := dk_28 (dk_at dksX2_isSolved_0 4 rfl rfl)
theorem dX2_isSolved_5 : decode cX2_isSolved 5 = .ok (.iadd, 1) := dk_96 (dk_at dksX2_isSolved_0 5 rfl rfl)
theorem dX2_isSolved_6 : decode cX2_isSolved 6 = .ok (.ishr, 1) := dk_122 (dk_at dksX2_isSolved_0 6 rfl rfl)
theorem dX2_isSolved_7 : decode cX2_isSolved 7 = .ok (.iconst 1, 1) := dk_4 (dk_at dksX2_isSolved_0 7 rfl rfl)
theorem dX2_isSolved_8 : decode cX2_isSolved 8 = .ok (.iand, 1) := dk_126 (dk_at dksX2_isSolved_0 8 rfl rfl)
theorem dX2_isSolved_9 : decode cX2_isSolved 9 = .ok (.iconst 1, 1) := dk_4 (dk_at dksX2_isSolved_0 9 rfl rfl)
theorem dX2_isSolved_10 : decode cX2_isSolved 10 = .ok (.if_icmp .ne 7, 3) := dk_160 0 7 (dk_at dksX2_isSolved_0 10 rfl rfl)
theorem dX2_isSolved_13 : decode cX2_isSolved 13 = .ok (.iconst 1, 1) := dk_4 (dk_at dksX2_isSolved_0 13 rfl rfl)
theorem dX2_isSolved_14 : decode cX2_isSolved 14 = .ok (.goto 4, 3) := dk_167 0 4 (dk_at dksX2_isSolved_0 14 rfl rfl)
theorem dX2_isSolved_17 : decode cX2_isSolved 17 = .ok (.iconst 0, 1) := dk_3 (dk_at dksX2_isSolved_0 17 rfl rfl)
theorem dX2_isSolved_18 : decode cX2_isSolved 18 = .ok (.ireturn, 1) := dk_172 (dk_at dksX2_isSolved_0 18 rfl rfl)
abbrev cX2_addProblem : ByteArray := prog_17_method_52_code
def yX2_addProblem : MethodName := ⟨RX2, "addProblem", "(III)I"⟩
def dkwX2_addProblem_1 : List UInt8 := [42, 180, 0, 204, 29, 79, 42, 89, 180, 0, 204, 4, 96, 181, 0, 204, 42, 180, 0, 204, 4, 100, 172]
abbrev dktX2_addProblem_1 : List UInt8 := dkwX2_addProblem_1 ++ []
def dkwX2_addProblem_0 : List UInt8 := [42, 180, 0, 69, 42, 180, 0, 204, 27, 79, 42, 180, 0, 72, 42, 180, 0, 204, 28, 79, 42, 180, 0, 75]
abbrev dktX2_addProblem_0 : List UInt8 := dkwX2_addProblem_0 ++ dktX2_addProblem_1
theorem dksX2_addProblem_0 : cX2_addProblem.data.toList.drop 0 = dktX2_addProblem_0 := by decide +kernel
theorem dksX2_addProblem_1 : cX2_addProblem.data.toList.drop 24 = dktX2_addProblem_1 := dk_seg dksX2_addProblem_0 24 rfl rfl
theorem dX2_addProblem_0 : decode cX2_addProblem 0 = .ok (.aload_n 0, 1) := dk_42 (dk_at dksX2_addProblem_0 0 rfl rfl)
theorem dX2_addProblem_1 : decode cX2_addProblem 1 = .ok (.getfield 69, 3) := dk_180 0 69 (dk_at dksX2_addProblem_0 1 rfl rfl)
theorem dX2_addProblem_4 : decode cX2_addProblem 4 = .ok (.aload_n 0, 1) := dk_42 (dk_at dksX2_addProblem_0 4 rfl rfl)
theorem dX2_addProblem_5 : decode cX2_addProblem 5 = .ok (.getfield 204, 3) := dk_180 0 204 (dk_at dksX2_addProblem_0 5 rfl rfl)
theorem dX2_addProblem_8 : decode cX2_addProblem 8 = .ok (.iload_n 1, 1) := dk_27 (dk_at dksX2_addProblem_0 8 rfl rfl)
theorem dX2_addProblem_9 : decode cX2_addProblem 9 = .ok (.iastore, 1) := dk_79 (dk_at dksX2_addProblem_0 9 rfl rfl)
theorem dX2_addProblem_10 : decode cX2_addProblem 10 = .ok (.aload_n 0, 1) := dk_42 (dk_at dksX2_addProblem_0 10 rfl rfl)
theorem dX2_addProblem_11 : decode cX2_addProblem 11 = .ok (.getfield 72, 3) := dk_180 0 72 (dk_at dksX2_addProblem_0 11 rfl rfl)
theorem dX2_addProblem_14 : decode cX2_addProblem 14 = .ok (.aload_n 0, 1) := dk_42 (dk_at dksX2_addProblem_0 14 rfl rfl)
theorem dX2_addProblem_15 : decode cX2_addProblem 15 = .ok (.getfield 204, 3) := dk_180 0 204 (dk_at dksX2_addProblem_0 15 rfl rfl)
theorem dX2_addProblem_18 : decode cX2_addProblem 18 = .ok (.iload_n 2, 1) := dk_28 (dk_at dksX2_addProblem_0 18 rfl rfl)
theorem dX2_addProblem_19 : decode cX2_addProblem 19 = .ok (.iastore, 1) := dk_79 (dk_at dksX2_addProblem_0 19 rfl rfl)
theorem dX2_addProblem_20 : decode cX2_addProblem 20 = .ok (.aload_n 0, 1) := dk_42 (dk_at dksX2_addProblem_0 20 rfl rfl)
theorem dX2_addProblem_21 : decode cX2_addProblem 21 = .ok (.getfield 75, 3) := dk_180 0 75 (dk_at dksX2_addProblem_0 21 rfl rfl)
theorem dX2_addProblem_24 : decode cX2_addProblem 24 = .ok (.aload_n 0, 1) := dk_42 (dk_at dksX2_addProblem_1 0 rfl rfl)
theorem dX2_addProblem_25 : decode cX2_addProblem 25 = .ok (.getfield 204, 3) := dk_180 0 204 (dk_at dksX2_addProblem_1 1 rfl rfl)
theorem dX2_addProblem_28 : decode cX2_addProblem 28 = .ok (.iload_n 3, 1) := dk_29 (dk_at dksX2_addProblem_1 4 rfl rfl)
theorem dX2_addProblem_29 : decode cX2_addProblem 29 = .ok (.iastore, 1) := dk_79 (dk_at dksX2_addProblem_1 5 rfl rfl)
theorem dX2_addProblem_30 : decode cX2_addProblem 30 = .ok (.aload_n 0, 1) := dk_42 (dk_at dksX2_addProblem_1 6 rfl rfl)
theorem dX2_addProblem_31 : decode cX2_addProblem 31 = .ok (.dup, 1) := dk_89 (dk_at dksX2_addProblem_1 7 rfl rfl)
theorem dX2_addProblem_32 : decode cX2_addProblem 32 = .ok (.getfield 204, 3) := dk_180 0 204 (dk_at dksX2_addProblem_1 8 rfl rfl)
theorem dX2_addProblem_35 : decode cX2_addProblem 35 = .ok (.iconst 1, 1) := dk_4 (dk_at dksX2_addProblem_1 11 rfl rfl)
theorem dX2_addProblem_36 : decode cX2_addProblem 36 = .ok (.iadd, 1) := dk_96 (dk_at dksX2_addProblem_1 12 rfl rfl)
theorem dX2_addProblem_37 : decode cX2_addProblem 37 = .ok (.putfield 204, 3) := dk_181 0 204 (dk_at dksX2_addProblem_1 13 rfl rfl)
theorem dX2_addProblem_40 : decode cX2_addProblem 40 = .ok (.aload_n 0, 1) := dk_42 (dk_at dksX2_addProblem_1 16 rfl rfl)
theorem dX2_addProblem_41 : decode cX2_addProblem 41 = .ok (.getfield 204, 3) := dk_180 0 204 (dk_at dksX2_addProblem_1 17 rfl rfl)
theorem dX2_addProblem_44 : decode cX2_addProblem 44 = .ok (.iconst 1, 1) := dk_4 (dk_at dksX2_addProblem_1 20 rfl rfl)
theorem dX2_addProblem_45 : decode cX2_addProblem 45 = .ok (.isub, 1) := dk_100 (dk_at dksX2_addProblem_1 21 rfl rfl)
theorem dX2_addProblem_46 : decode cX2_addProblem 46 = .ok (.ireturn, 1) := dk_172 (dk_at dksX2_addProblem_1 22 rfl rfl)
abbrev cX2_product : ByteArray := prog_17_method_54_code
def yX2_product : MethodName := ⟨RX2, "product", "(II)I"⟩
def dkwX2_product_11 : List UInt8 := [21, 7, 182, 0, 213, 172]
abbrev dktX2_product_11 : List UInt8 := dkwX2_product_11 ++ []
def dkwX2_product_10 : List UInt8 := [167, 0, 4, 3, 128, 54, 7, 132, 9, 1, 167, 255, 160, 132, 8, 1, 167, 255, 144, 42, 21, 5, 21, 6]
abbrev dktX2_product_10 : List UInt8 := dkwX2_product_10 ++ dktX2_product_11
def dkwX2_product_9 : List UInt8 := [54, 11, 21, 7, 21, 10, 153, 0, 20, 21, 11, 153, 0, 15, 4, 7, 21, 8, 104, 21, 9, 96, 120]
abbrev dktX2_product_9 : List UInt8 := dkwX2_product_9 ++ dktX2_product_10
def dkwX2_product_8 : List UInt8 := [28, 46, 21, 8, 42, 180, 0, 69, 28, 46, 112, 21, 9, 42, 180, 0, 72, 28, 46, 112, 184, 0, 207]
abbrev dktX2_product_8 : List UInt8 := dkwX2_product_8 ++ dktX2_product_9
def dkwX2_product_7 : List UInt8 := [180, 0, 69, 28, 46, 108, 21, 9, 42, 180, 0, 72, 28, 46, 108, 184, 0, 207, 54, 10, 42, 180, 0, 75]
abbrev dktX2_product_7 : List UInt8 := dkwX2_product_7 ++ dktX2_product_8
def dkwX2_product_6 : List UInt8 := [21, 5, 162, 0, 111, 3, 54, 9, 21, 9, 21, 6, 162, 0, 95, 42, 180, 0, 75, 27, 46, 21, 8, 42]
abbrev dktX2_product_6 : List UInt8 := dkwX2_product_6 ++ dktX2_product_7
def dkwX2_product_5 : List UInt8 := [42, 180, 0, 72, 27, 46, 42, 180, 0, 72, 28, 46, 104, 54, 6, 3, 54, 7, 3, 54, 8, 21, 8]
abbrev dktX2_product_5 : List UInt8 := dkwX2_product_5 ++ dktX2_product_6
def dkwX2_product_4 : List UInt8 := [5, 182, 0, 99, 154, 0, 5, 3, 172, 42, 180, 0, 69, 27, 46, 42, 180, 0, 69, 28, 46, 104, 54, 5]
abbrev dktX2_product_4 : List UInt8 := dkwX2_product_4 ++ dktX2_product_5
def dkwX2_product_3 : List UInt8 := [167, 0, 4, 3, 54, 4, 42, 29, 154, 0, 7, 4, 167, 0, 13, 21, 4, 153, 0, 7, 3, 167, 0, 4]
abbrev dktX2_product_3 : List UInt8 := dkwX2_product_3 ++ dktX2_product_4
def dkwX2_product_2 : List UInt8 := [104, 7, 163, 0, 24, 42, 180, 0, 72, 27, 46, 42, 180, 0, 72, 28, 46, 104, 7, 163, 0, 7, 4]
abbrev dktX2_product_2 : List UInt8 := dkwX2_product_2 ++ dktX2_product_3
def dkwX2_product_1 : List UInt8 := [153, 0, 50, 42, 180, 0, 204, 16, 6, 162, 0, 41, 42, 180, 0, 69, 27, 46, 42, 180, 0, 69, 28, 46]
abbrev dktX2_product_1 : List UInt8 := dkwX2_product_1 ++ dktX2_product_2
def dkwX2_product_0 : List UInt8 := [42, 27, 182, 0, 217, 153, 0, 15, 42, 28, 182, 0, 217, 153, 0, 7, 4, 167, 0, 4, 3, 62, 29]
abbrev dktX2_product_0 : List UInt8 := dkwX2_product_0 ++ dktX2_product_1
theorem dksX2_product_0 : cX2_product.data.toList.drop 0 = dktX2_product_0 := by decide +kernel
theorem dksX2_product_1 : cX2_product.data.toList.drop 23 = dktX2_product_1 := dk_seg dksX2_product_0 23 rfl rfl
theorem dksX2_product_2 : cX2_product.data.toList.drop 47 = dktX2_product_2 := dk_seg dksX2_product_1 24 rfl rfl
theorem dksX2_product_3 : cX2_product.data.toList.drop 70 = dktX2_product_3 := dk_seg dksX2_product_2 23 rfl rfl
theorem dksX2_product_4 : cX2_product.data.toList.drop 94 = dktX2_product_4 := dk_seg dksX2_product_3 24 rfl rfl
theorem dksX2_product_5 : cX2_product.data.toList.drop 118 = dktX2_product_5 := dk_seg dksX2_product_4 24 rfl rfl
theorem dksX2_product_6 : cX2_product.data.toList.drop 141 = dktX2_product_6 := dk_seg dksX2_product_5 23 rfl rfl
theorem dksX2_product_7 : cX2_product.data.toList.drop 165 = dktX2_product_7 := dk_seg dksX2_product_6 24 rfl rfl
theorem dksX2_product_8 : cX2_product.data.toList.drop 189 = dktX2_product_8 := dk_seg dksX2_product_7 24 rfl rfl
theorem dksX2_product_9 : cX2_product.data.toList.drop 212 = dktX2_product_9 := dk_seg dksX2_product_8 23 rfl rfl
theorem dksX2_product_10 : cX2_product.data.toList.drop 235 = dktX2_product_10 := dk_seg dksX2_product_9 23 rfl rfl
theorem dksX2_product_11 : cX2_product.data.toList.drop 259 = dktX2_product_11 := dk_seg dksX2_product_10 24 rfl rfl
theorem dX2_product_0 : decode cX2_product 0 = .ok (.aload_n 0, 1) := dk_42 (dk_at dksX2_product_0 0 rfl rfl)
theorem dX2_product_1 : decode cX2_product 1 = .ok (.iload_n 1, 1) := dk_27 (dk_at dksX2_product_0 1 rfl rfl)
theorem dX2_product_2 : decode cX2_product 2 = .ok (.invokevirtual 217, 3) := dk_182 0 217 (dk_at dksX2_product_0 2 rfl rfl)
theorem dX2_product_5 : decode cX2_product 5 = .ok (.ifCond .eq 15, 3) := dk_153 0 15 (dk_at dksX2_product_0 5 rfl rfl)
theorem dX2_product_8 : decode cX2_product 8 = .ok (.aload_n 0, 1) := dk_42 (dk_at dksX2_product_0 8 rfl rfl)
theorem dX2_product_9 : decode cX2_product 9 = .ok (.iload_n 2, 1) := dk_28 (dk_at dksX2_product_0 9 rfl rfl)
theorem dX2_product_10 : decode cX2_product 10 = .ok (.invokevirtual 217, 3) := dk_182 0 217 (dk_at dksX2_product_0 10 rfl rfl)
theorem dX2_product_13 : decode cX2_product 13 = .ok (.ifCond .eq 7, 3) := dk_153 0 7 (dk_at dksX2_product_0 13 rfl rfl)
theorem dX2_product_16 : decode cX2_product 16 = .ok (.iconst 1, 1) := dk_4 (dk_at dksX2_product_0 16 rfl rfl)
theorem dX2_product_17 : decode cX2_product 17 = .ok (.goto 4, 3) := dk_167 0 4 (dk_at dksX2_product_0 17 rfl rfl)
theorem dX2_product_20 : decode cX2_product 20 = .ok (.iconst 0, 1) := dk_3 (dk_at dksX2_product_0 20 rfl rfl)
theorem dX2_product_21 : decode cX2_product 21 = .ok (.istore_n 3, 1) := dk_62 (dk_at dksX2_product_0 21 rfl rfl)
theorem dX2_product_22 : decode cX2_product 22 = .ok (.iload_n 3, 1) := dk_29 (dk_at dksX2_product_0 22 rfl rfl)
theorem dX2_product_23 : decode cX2_product 23 = .ok (.ifCond .eq 50, 3) := dk_153 0 50 (dk_at dksX2_product_1 0 rfl rfl)
theorem dX2_product_26 : decode cX2_product 26 = .ok (.aload_n 0, 1) := dk_42 (dk_at dksX2_product_1 3 rfl rfl)
theorem dX2_product_27 : decode cX2_product 27 = .ok (.getfield 204, 3) := dk_180 0 204 (dk_at dksX2_product_1 4 rfl rfl)
theorem dX2_product_30 : decode cX2_product 30 = .ok (.bipush 6, 2) := dk_16 6 (dk_at dksX2_product_1 7 rfl rfl)
theorem dX2_product_32 : decode cX2_product 32 = .ok (.if_icmp .ge 41, 3) := dk_162 0 41 (dk_at dksX2_product_1 9 rfl rfl)
theorem dX2_product_35 : decode cX2_product 35 = .ok (.aload_n 0, 1) := dk_42 (dk_at dksX2_product_1 12 rfl rfl)
theorem dX2_product_36 : decode cX2_product 36 = .ok (.getfield 69, 3) := dk_180 0 69 (dk_at dksX2_product_1 13 rfl rfl)
theorem dX2_product_39 : decode cX2_product 39 = .ok (.iload_n 1, 1) := dk_27 (dk_at dksX2_product_1 16 rfl rfl)
theorem dX2_product_40 : decode cX2_product 40 = .ok (.iaload, 1) := dk_46 (dk_at dksX2_product_1 17 rfl rfl)
theorem dX2_product_41 : decode cX2_product 41 = .ok (.aload_n 0, 1) := dk_42 (dk_at dksX2_product_1 18 rfl rfl)
theorem dX2_product_42 : decode cX2_product 42 = .ok (.getfield 69, 3) := dk_180 0 69 (dk_at dksX2_product_1 19 rfl rfl)
theorem dX2_product_45 : decode cX2_product 45 = .ok (.iload_n 2, 1) := dk_28 (dk_at dksX2_product_1 22 rfl rfl)
theorem dX2_product_46 : decode cX2_product 46 = .ok (.iaload, 1) := dk_46 (dk_at dksX2_product_1 23 rfl rfl)
theorem dX2_product_47 : decode cX2_product 47 = .ok (.imul, 1) := dk_104 (dk_at dksX2_product_2 0 rfl rfl)
theorem dX2_product_48 : decode cX2_product 48 = .ok (.iconst 4, 1) := dk_7 (dk_at dksX2_product_2 1 rfl rfl)
theorem dX2_product_49 : decode cX2_product 49 = .ok (.if_icmp .gt 24, 3) := dk_163 0 24 (dk_at dksX2_product_2 2 rfl rfl)
theorem dX2_product_52 : decode cX2_product 52 = .ok (.aload_n 0, 1) := dk_42 (dk_at dksX2_product_2 5 rfl rfl)
theorem dX2_product_53 : decode cX2_product 53 = .ok (.getfield 72, 3) := dk_180 0 72 (dk_at dksX2_product_2 6 rfl rfl)
theorem dX2_product_56 : decode cX2_product 56 = .ok (.iload_n 1, 1) := dk_27 (dk_at dksX2_product_2 9 rfl rfl)
theorem dX2_product_57 : decode cX2_product 57 = .ok (.iaload, 1) := dk_46 (dk_at dksX2_product_2 10 rfl rfl)
theorem dX2_product_58 : decode cX2_product 58 = .ok (.aload_n 0, 1) := dk_42 (dk_at dksX2_product_2 11 rfl rfl)
theorem dX2_product_59 : decode cX2_product 59 = .ok (.getfield 72, 3) := dk_180 0 72 (dk_at dksX2_product_2 12 rfl rfl)
theorem dX2_product_62 : decode cX2_product 62 = .ok (.iload_n 2, 1) := dk_28 (dk_at dksX2_product_2 15 rfl rfl)
theorem dX2_product_63 : decode cX2_product 63 = .ok (.iaload, 1) := dk_46 (dk_at dksX2_product_2 16 rfl rfl)
theorem dX2_product_64 : decode cX2_product 64 = .ok (.imul, 1) := dk_104 (dk_at dksX2_product_2 17 rfl rfl)
theorem dX2_product_65 : decode cX2_product 65 = .ok (.iconst 4, 1) := dk_7 (dk_at dksX2_product_2 18 rfl rfl)
theorem dX2_product_66 : decode cX2_product 66 = .ok (.if_icmp .gt 7, 3) := dk_163 0 7 (dk_at dksX2_product_2 19 rfl rfl)
theorem dX2_product_69 : decode cX2_product 69 = .ok (.iconst 1, 1) := dk_4 (dk_at dksX2_product_2 22 rfl rfl)
theorem dX2_product_70 : decode cX2_product 70 = .ok (.goto 4, 3) := dk_167 0 4 (dk_at dksX2_product_3 0 rfl rfl)
theorem dX2_product_73 : decode cX2_product 73 = .ok (.iconst 0, 1) := dk_3 (dk_at dksX2_product_3 3 rfl rfl)
theorem dX2_product_74 : decode cX2_product 74 = .ok (.istore 4, 2) := dk_54 4 (dk_at dksX2_product_3 4 rfl rfl)
theorem dX2_product_76 : decode cX2_product 76 = .ok (.aload_n 0, 1) := dk_42 (dk_at dksX2_product_3 6 rfl rfl)
theorem dX2_product_77 : decode cX2_product 77 = .ok (.iload_n 3, 1) := dk_29 (dk_at dksX2_product_3 7 rfl rfl)
theorem dX2_product_78 : decode cX2_product 78 = .ok (.ifCond .ne 7, 3) := dk_154 0 7 (dk_at dksX2_product_3 8 rfl rfl)
theorem dX2_product_81 : decode cX2_product 81 = .ok (.iconst 1, 1) := dk_4 (dk_at dksX2_product_3 11 rfl rfl)
theorem dX2_product_82 : decode cX2_product 82 = .ok (.goto 13, 3) := dk_167 0 13 (dk_at dksX2_product_3 12 rfl rfl)
theorem dX2_product_85 : decode cX2_product 85 = .ok (.iload 4, 2) := dk_21 4 (dk_at dksX2_product_3 15 rfl rfl)
theorem dX2_product_87 : decode cX2_product 87 = .ok (.ifCond .eq 7, 3) := dk_153 0 7 (dk_at dksX2_product_3 17 rfl rfl)
theorem dX2_product_90 : decode cX2_product 90 = .ok (.iconst 0, 1) := dk_3 (dk_at dksX2_product_3 20 rfl rfl)
theorem dX2_product_91 : decode cX2_product 91 = .ok (.goto 4, 3) := dk_167 0 4 (dk_at dksX2_product_3 21 rfl rfl)
theorem dX2_product_94 : decode cX2_product 94 = .ok (.iconst 2, 1) := dk_5 (dk_at dksX2_product_4 0 rfl rfl)
theorem dX2_product_95 : decode cX2_product 95 = .ok (.invokevirtual 99, 3) := dk_182 0 99 (dk_at dksX2_product_4 1 rfl rfl)
theorem dX2_product_98 : decode cX2_product 98 = .ok (.ifCond .ne 5, 3) := dk_154 0 5 (dk_at dksX2_product_4 4 rfl rfl)
theorem dX2_product_101 : decode cX2_product 101 = .ok (.iconst 0, 1) := dk_3 (dk_at dksX2_product_4 7 rfl rfl)
theorem dX2_product_102 : decode cX2_product 102 = .ok (.ireturn, 1) := dk_172 (dk_at dksX2_product_4 8 rfl rfl)
theorem dX2_product_103 : decode cX2_product 103 = .ok (.aload_n 0, 1) := dk_42 (dk_at dksX2_product_4 9 rfl rfl)
theorem dX2_product_104 : decode cX2_product 104 = .ok (.getfield 69, 3) := dk_180 0 69 (dk_at dksX2_product_4 10 rfl rfl)
theorem dX2_product_107 : decode cX2_product 107 = .ok (.iload_n 1, 1) := dk_27 (dk_at dksX2_product_4 13 rfl rfl)
theorem dX2_product_108 : decode cX2_product 108 = .ok (.iaload, 1) := dk_46 (dk_at dksX2_product_4 14 rfl rfl)
theorem dX2_product_109 : decode cX2_product 109 = .ok (.aload_n 0, 1) := dk_42 (dk_at dksX2_product_4 15 rfl rfl)
theorem dX2_product_110 : decode cX2_product 110 = .ok (.getfield 69, 3) := dk_180 0 69 (dk_at dksX2_product_4 16 rfl rfl)
theorem dX2_product_113 : decode cX2_product 113 = .ok (.iload_n 2, 1) := dk_28 (dk_at dksX2_product_4 19 rfl rfl)
theorem dX2_product_114 : decode cX2_product 114 = .ok (.iaload, 1) := dk_46 (dk_at dksX2_product_4 20 rfl rfl)
theorem dX2_product_115 : decode cX2_product 115 = .ok (.imul, 1) := dk_104 (dk_at dksX2_product_4 21 rfl rfl)
theorem dX2_product_116 : decode cX2_product 116 = .ok (.istore 5, 2) := dk_54 5 (dk_at dksX2_product_4 22 rfl rfl)
theorem dX2_product_118 : decode cX2_product 118 = .ok (.aload_n 0, 1) := dk_42 (dk_at dksX2_product_5 0 rfl rfl)
theorem dX2_product_119 : decode cX2_product 119 = .ok (.getfield 72, 3) := dk_180 0 72 (dk_at dksX2_product_5 1 rfl rfl)
theorem dX2_product_122 : decode cX2_product 122 = .ok (.iload_n 1, 1) := dk_27 (dk_at dksX2_product_5 4 rfl rfl)
theorem dX2_product_123 : decode cX2_product 123 = .ok (.iaload, 1) := dk_46 (dk_at dksX2_product_5 5 rfl rfl)
theorem dX2_product_124 : decode cX2_product 124 = .ok (.aload_n 0, 1) := dk_42 (dk_at dksX2_product_5 6 rfl rfl)
theorem dX2_product_125 : decode cX2_product 125 = .ok (.getfield 72, 3) := dk_180 0 72 (dk_at dksX2_product_5 7 rfl rfl)
theorem dX2_product_128 : decode cX2_product 128 = .ok (.iload_n 2, 1) := dk_28 (dk_at dksX2_product_5 10 rfl rfl)
theorem dX2_product_129 : decode cX2_product 129 = .ok (.iaload, 1) := dk_46 (dk_at dksX2_product_5 11 rfl rfl)
theorem dX2_product_130 : decode cX2_product 130 = .ok (.imul, 1) := dk_104 (dk_at dksX2_product_5 12 rfl rfl)
theorem dX2_product_131 : decode cX2_product 131 = .ok (.istore 6, 2) := dk_54 6 (dk_at dksX2_product_5 13 rfl rfl)
theorem dX2_product_133 : decode cX2_product 133 = .ok (.iconst 0, 1) := dk_3 (dk_at dksX2_product_5 15 rfl rfl)
theorem dX2_product_134 : decode cX2_product 134 = .ok (.istore 7, 2) := dk_54 7 (dk_at dksX2_product_5 16 rfl rfl)
theorem dX2_product_136 : decode cX2_product 136 = .ok (.iconst 0, 1) := dk_3 (dk_at dksX2_product_5 18 rfl rfl)
theorem dX2_product_137 : decode cX2_product 137 = .ok (.istore 8, 2) := dk_54 8 (dk_at dksX2_product_5 19 rfl rfl)
theorem dX2_product_139 : decode cX2_product 139 = .ok (.iload 8, 2) := dk_21 8 (dk_at dksX2_product_5 21 rfl rfl)
theorem dX2_product_141 : decode cX2_product 141 = .ok (.iload 5, 2) := dk_21 5 (dk_at dksX2_product_6 0 rfl rfl)
theorem dX2_product_143 : decode cX2_product 143 = .ok (.if_icmp .ge 111, 3) := dk_162 0 111 (dk_at dksX2_product_6 2 rfl rfl)
theorem dX2_product_146 : decode cX2_product 146 = .ok (.iconst 0, 1) := dk_3 (dk_at dksX2_product_6 5 rfl rfl)
theorem dX2_product_147 : decode cX2_product 147 = .ok (.istore 9, 2) := dk_54 9 (dk_at dksX2_product_6 6 rfl rfl)
theorem dX2_product_149 : decode cX2_product 149 = .ok (.iload 9, 2) := dk_21 9 (dk_at dksX2_product_6 8 rfl rfl)
theorem dX2_product_151 : decode cX2_product 151 = .ok (.iload 6, 2) := dk_21 6 (dk_at dksX2_product_6 10 rfl rfl)
theorem dX2_product_153 : decode cX2_product 153 = .ok (.if_icmp .ge 95, 3) := dk_162 0 95 (dk_at dksX2_product_6 12 rfl rfl)
theorem dX2_product_156 : decode cX2_product 156 = .ok (.aload_n 0, 1) := dk_42 (dk_at dksX2_product_6 15 rfl rfl)
theorem dX2_product_157 : decode cX2_product 157 = .ok (.getfield 75, 3) := dk_180 0 75 (dk_at dksX2_product_6 16 rfl rfl)
theorem dX2_product_160 : decode cX2_product 160 = .ok (.iload_n 1, 1) := dk_27 (dk_at dksX2_product_6 19 rfl rfl)
theorem dX2_product_161 : decode cX2_product 161 = .ok (.iaload, 1) := dk_46 (dk_at dksX2_product_6 20 rfl rfl)
theorem dX2_product_162 : decode cX2_product 162 = .ok (.iload 8, 2) := dk_21 8 (dk_at dksX2_product_6 21 rfl rfl)
theorem dX2_product_164 : decode cX2_product 164 = .ok (.aload_n 0, 1) := dk_42 (dk_at dksX2_product_6 23 rfl rfl)
theorem dX2_product_165 : decode cX2_product 165 = .ok (.getfield 69, 3) := dk_180 0 69 (dk_at dksX2_product_7 0 rfl rfl)
theorem dX2_product_168 : decode cX2_product 168 = .ok (.iload_n 2, 1) := dk_28 (dk_at dksX2_product_7 3 rfl rfl)
theorem dX2_product_169 : decode cX2_product 169 = .ok (.iaload, 1) := dk_46 (dk_at dksX2_product_7 4 rfl rfl)
theorem dX2_product_170 : decode cX2_product 170 = .ok (.idiv, 1) := dk_108 (dk_at dksX2_product_7 5 rfl rfl)
theorem dX2_product_171 : decode cX2_product 171 = .ok (.iload 9, 2) := dk_21 9 (dk_at dksX2_product_7 6 rfl rfl)
theorem dX2_product_173 : decode cX2_product 173 = .ok (.aload_n 0, 1) := dk_42 (dk_at dksX2_product_7 8 rfl rfl)
theorem dX2_product_174 : decode cX2_product 174 = .ok (.getfield 72, 3) := dk_180 0 72 (dk_at dksX2_product_7 9 rfl rfl)
theorem dX2_product_177 : decode cX2_product 177 = .ok (.iload_n 2, 1) := dk_28 (dk_at dksX2_product_7 12 rfl rfl)
theorem dX2_product_178 : decode cX2_product 178 = .ok (.iaload, 1) := dk_46 (dk_at dksX2_product_7 13 rfl rfl)
theorem dX2_product_179 : decode cX2_product 179 = .ok (.idiv, 1) := dk_108 (dk_at dksX2_product_7 14 rfl rfl)
theorem dX2_product_180 : decode cX2_product 180 = .ok (.invokestatic 207, 3) := dk_184 0 207 (dk_at dksX2_product_7 15 rfl rfl)
theorem dX2_product_183 : decode cX2_product 183 = .ok (.istore 10, 2) := dk_54 10 (dk_at dksX2_product_7 18 rfl rfl)
theorem dX2_product_185 : decode cX2_product 185 = .ok (.aload_n 0, 1) := dk_42 (dk_at dksX2_product_7 20 rfl rfl)
theorem dX2_product_186 : decode cX2_product 186 = .ok (.getfield 75, 3) := dk_180 0 75 (dk_at dksX2_product_7 21 rfl rfl)
theorem dX2_product_189 : decode cX2_product 189 = .ok (.iload_n 2, 1) := dk_28 (dk_at dksX2_product_8 0 rfl rfl)
theorem dX2_product_190 : decode cX2_product 190 = .ok (.iaload, 1) := dk_46 (dk_at dksX2_product_8 1 rfl rfl)
theorem dX2_product_191 : decode cX2_product 191 = .ok (.iload 8, 2) := dk_21 8 (dk_at dksX2_product_8 2 rfl rfl)
theorem dX2_product_193 : decode cX2_product 193 = .ok (.aload_n 0, 1) := dk_42 (dk_at dksX2_product_8 4 rfl rfl)
theorem dX2_product_194 : decode cX2_product 194 = .ok (.getfield 69, 3) := dk_180 0 69 (dk_at dksX2_product_8 5 rfl rfl)
theorem dX2_product_197 : decode cX2_product 197 = .ok (.iload_n 2, 1) := dk_28 (dk_at dksX2_product_8 8 rfl rfl)
theorem dX2_product_198 : decode cX2_product 198 = .ok (.iaload, 1) := dk_46 (dk_at dksX2_product_8 9 rfl rfl)
theorem dX2_product_199 : decode cX2_product 199 = .ok (.irem, 1) := dk_112 (dk_at dksX2_product_8 10 rfl rfl)
theorem dX2_product_200 : decode cX2_product 200 = .ok (.iload 9, 2) := dk_21 9 (dk_at dksX2_product_8 11 rfl rfl)
theorem dX2_product_202 : decode cX2_product 202 = .ok (.aload_n 0, 1) := dk_42 (dk_at dksX2_product_8 13 rfl rfl)
theorem dX2_product_203 : decode cX2_product 203 = .ok (.getfield 72, 3) := dk_180 0 72 (dk_at dksX2_product_8 14 rfl rfl)
theorem dX2_product_206 : decode cX2_product 206 = .ok (.iload_n 2, 1) := dk_28 (dk_at dksX2_product_8 17 rfl rfl)
theorem dX2_product_207 : decode cX2_product 207 = .ok (.iaload, 1) := dk_46 (dk_at dksX2_product_8 18 rfl rfl)
theorem dX2_product_208 : decode cX2_product 208 = .ok (.irem, 1) := dk_112 (dk_at dksX2_product_8 19 rfl rfl)
theorem dX2_product_209 : decode cX2_product 209 = .ok (.invokestatic 207, 3) := dk_184 0 207 (dk_at dksX2_product_8 20 rfl rfl)
theorem dX2_product_212 : decode cX2_product 212 = .ok (.istore 11, 2) := dk_54 11 (dk_at dksX2_product_9 0 rfl rfl)
theorem dX2_product_214 : decode cX2_product 214 = .ok (.iload 7, 2) := dk_21 7 (dk_at dksX2_product_9 2 rfl rfl)
theorem dX2_product_216 : decode cX2_product 216 = .ok (.iload 10, 2) := dk_21 10 (dk_at dksX2_product_9 4 rfl rfl)
theorem dX2_product_218 : decode cX2_product 218 = .ok (.ifCond .eq 20, 3) := dk_153 0 20 (dk_at dksX2_product_9 6 rfl rfl)
theorem dX2_product_221 : decode cX2_product 221 = .ok (.iload 11, 2) := dk_21 11 (dk_at dksX2_product_9 9 rfl rfl)
theorem dX2_product_223 : decode cX2_product 223 = .ok (.ifCond .eq 15, 3) := dk_153 0 15 (dk_at dksX2_product_9 11 rfl rfl)
theorem dX2_product_226 : decode cX2_product 226 = .ok (.iconst 1, 1) := dk_4 (dk_at dksX2_product_9 14 rfl rfl)
theorem dX2_product_227 : decode cX2_product 227 = .ok (.iconst 4, 1) := dk_7 (dk_at dksX2_product_9 15 rfl rfl)
theorem dX2_product_228 : decode cX2_product 228 = .ok (.iload 8, 2) := dk_21 8 (dk_at dksX2_product_9 16 rfl rfl)
theorem dX2_product_230 : decode cX2_product 230 = .ok (.imul, 1) := dk_104 (dk_at dksX2_product_9 18 rfl rfl)
theorem dX2_product_231 : decode cX2_product 231 = .ok (.iload 9, 2) := dk_21 9 (dk_at dksX2_product_9 19 rfl rfl)
theorem dX2_product_233 : decode cX2_product 233 = .ok (.iadd, 1) := dk_96 (dk_at dksX2_product_9 21 rfl rfl)
theorem dX2_product_234 : decode cX2_product 234 = .ok (.ishl, 1) := dk_120 (dk_at dksX2_product_9 22 rfl rfl)
theorem dX2_product_235 : decode cX2_product 235 = .ok (.goto 4, 3) := dk_167 0 4 (dk_at dksX2_product_10 0 rfl rfl)
theorem dX2_product_238 : decode cX2_product 238 = .ok (.iconst 0, 1) := dk_3 (dk_at dksX2_product_10 3 rfl rfl)
theorem dX2_product_239 : decode cX2_product 239 = .ok (.ior, 1) := dk_128 (dk_at dksX2_product_10 4 rfl rfl)
theorem dX2_product_240 : decode cX2_product 240 = .ok (.istore 7, 2) := dk_54 7 (dk_at dksX2_product_10 5 rfl rfl)
theorem dX2_product_242 : decode cX2_product 242 = .ok (.iinc 9 1, 3) := dk_132 9 1 (dk_at dksX2_product_10 7 rfl rfl)
theorem dX2_product_245 : decode cX2_product 245 = .ok (.goto (-96), 3) := dk_167 255 160 (dk_at dksX2_product_10 10 rfl rfl)
theorem dX2_product_248 : decode cX2_product 248 = .ok (.iinc 8 1, 3) := dk_132 8 1 (dk_at dksX2_product_10 13 rfl rfl)
theorem dX2_product_251 : decode cX2_product 251 = .ok (.goto (-112), 3) := dk_167 255 144 (dk_at dksX2_product_10 16 rfl rfl)
theorem dX2_product_254 : decode cX2_product 254 = .ok (.aload_n 0, 1) := dk_42 (dk_at dksX2_product_10 19 rfl rfl)
theorem dX2_product_255 : decode cX2_product 255 = .ok (.iload 5, 2) := dk_21 5 (dk_at dksX2_product_10 20 rfl rfl)
theorem dX2_product_257 : decode cX2_product 257 = .ok (.iload 6, 2) := dk_21 6 (dk_at dksX2_product_10 22 rfl rfl)
theorem dX2_product_259 : decode cX2_product 259 = .ok (.iload 7, 2) := dk_21 7 (dk_at dksX2_product_11 0 rfl rfl)
theorem dX2_product_261 : decode cX2_product 261 = .ok (.invokevirtual 213, 3) := dk_182 0 213 (dk_at dksX2_product_11 2 rfl rfl)
theorem dX2_product_264 : decode cX2_product 264 = .ok (.ireturn, 1) := dk_172 (dk_at dksX2_product_11 5 rfl rfl)
abbrev cX2_isProblem : ByteArray := prog_17_method_49_code
def yX2_isProblem : MethodName := ⟨RX2, "isProblem", "(I)Z"⟩
def dkwX2_isProblem_0 : List UInt8 := [27, 3, 42, 180, 0, 204, 4, 100, 184, 0, 85, 172]
abbrev dktX2_isProblem_0 : List UInt8 := dkwX2_isProblem_0 ++ []
theorem dksX2_isProblem_0 : cX2_isProblem.data.toList.drop 0 = dktX2_isProblem_0 := by decide +kernel
theorem dX2_isProblem_0 : decode cX2_isProblem 0 = .ok (.iload_n 1, 1) := dk_27 (dk_at dksX2_isProblem_0 0 rfl rfl)
theorem dX2_isProblem_1 : decode cX2_isProblem 1 = .ok (.iconst 0, 1) := dk_3 (dk_at dksX2_isProblem_0 1 rfl rfl)
theorem dX2_isProblem_2 : decode cX2_isProblem 2 = .ok (.aload_n 0, 1) := dk_42 (dk_at dksX2_isProblem_0 2 rfl rfl)
theorem dX2_isProblem_3 : decode cX2_isProblem 3 = .ok (.getfield 204, 3) := dk_180 0 204 (dk_at dksX2_isProblem_0 3 rfl rfl)
theorem dX2_isProblem_6 : decode cX2_isProblem 6 = .ok (.iconst 1, 1) := dk_4 (dk_at dksX2_isProblem_0 6 rfl rfl)
theorem dX2_isProblem_7 : decode cX2_isProblem 7 = .ok (.isub, 1) := dk_100 (dk_at dksX2_isProblem_0 7 rfl rfl)
theorem dX2_isProblem_8 : decode cX2_isProblem 8 = .ok (.invokestatic 85, 3) := dk_184 0 85 (dk_at dksX2_isProblem_0 8 rfl rfl)
theorem dX2_isProblem_11 : decode cX2_isProblem 11 = .ok (.ireturn, 1) := dk_172 (dk_at dksX2_isProblem_0 11 rfl rfl)
abbrev cX2_reduces : ByteArray := prog_17_method_58_code
def yX2_reduces : MethodName := ⟨RX2, "reduces", "(II)I"⟩
def dkwX2_reduces_1 : List UInt8 := [182, 0, 99, 153, 0, 12, 42, 27, 28, 182, 0, 227, 167, 0, 4, 3, 172]
abbrev dktX2_reduces_1 : List UInt8 := dkwX2_reduces_1 ++ []
def dkwX2_reduces_0 : List UInt8 := [42, 42, 27, 182, 0, 217, 153, 0, 15, 42, 28, 182, 0, 217, 153, 0, 7, 3, 167, 0, 4, 4]
abbrev dktX2_reduces_0 : List UInt8 := dkwX2_reduces_0 ++ dktX2_reduces_1
theorem dksX2_reduces_0 : cX2_reduces.data.toList.drop 0 = dktX2_reduces_0 := by decide +kernel
theorem dksX2_reduces_1 : cX2_reduces.data.toList.drop 22 = dktX2_reduces_1 := dk_seg dksX2_reduces_0 22 rfl rfl
theorem dX2_reduces_0 : decode cX2_reduces 0 = .ok (.aload_n 0, 1) := dk_42 (dk_at dksX2_reduces_0 0 rfl rfl)
theorem dX2_reduces_1 : decode cX2_reduces 1 = .ok (.aload_n 0, 1) := dk_42 (dk_at dksX2_reduces_0 1 rfl rfl)
theorem dX2_reduces_2 : decode cX2_reduces 2 = .ok (.iload_n 1, 1) := dk_27 (dk_at dksX2_reduces_0 2 rfl rfl)
theorem dX2_reduces_3 : decode cX2_reduces 3 = .ok (.invokevirtual 217, 3) := dk_182 0 217 (dk_at dksX2_reduces_0 3 rfl rfl)
theorem dX2_reduces_6 : decode cX2_reduces 6 = .ok (.ifCond .eq 15, 3) := dk_153 0 15 (dk_at dksX2_reduces_0 6 rfl rfl)
theorem dX2_reduces_9 : decode cX2_reduces 9 = .ok (.aload_n 0, 1) := dk_42 (dk_at dksX2_reduces_0 9 rfl rfl)
theorem dX2_reduces_10 : decode cX2_reduces 10 = .ok (.iload_n 2, 1) := dk_28 (dk_at dksX2_reduces_0 10 rfl rfl)
theorem dX2_reduces_11 : decode cX2_reduces 11 = .ok (.invokevirtual 217, 3) := dk_182 0 217 (dk_at dksX2_reduces_0 11 rfl rfl)
theorem dX2_reduces_14 : decode cX2_reduces 14 = .ok (.ifCond .eq 7, 3) := dk_153 0 7 (dk_at dksX2_reduces_0 14 rfl rfl)
theorem dX2_reduces_17 : decode cX2_reduces 17 = .ok (.iconst 0, 1) := dk_3 (dk_at dksX2_reduces_0 17 rfl rfl)
theorem dX2_reduces_18 : decode cX2_reduces 18 = .ok (.goto 4, 3) := dk_167 0 4 (dk_at dksX2_reduces_0 18 rfl rfl)
theorem dX2_reduces_21 : decode cX2_reduces 21 = .ok (.iconst 1, 1) := dk_4 (dk_at dksX2_reduces_0 21 rfl rfl)
theorem dX2_reduces_22 : decode cX2_reduces 22 = .ok (.invokevirtual 99, 3) := dk_182 0 99 (dk_at dksX2_reduces_1 0 rfl rfl)
theorem dX2_reduces_25 : decode cX2_reduces 25 = .ok (.ifCond .eq 12, 3) := dk_153 0 12 (dk_at dksX2_reduces_1 3 rfl rfl)
theorem dX2_reduces_28 : decode cX2_reduces 28 = .ok (.aload_n 0, 1) := dk_42 (dk_at dksX2_reduces_1 6 rfl rfl)
theorem dX2_reduces_29 : decode cX2_reduces 29 = .ok (.iload_n 1, 1) := dk_27 (dk_at dksX2_reduces_1 7 rfl rfl)
theorem dX2_reduces_30 : decode cX2_reduces 30 = .ok (.iload_n 2, 1) := dk_28 (dk_at dksX2_reduces_1 8 rfl rfl)
theorem dX2_reduces_31 : decode cX2_reduces 31 = .ok (.invokevirtual 227, 3) := dk_182 0 227 (dk_at dksX2_reduces_1 9 rfl rfl)
theorem dX2_reduces_34 : decode cX2_reduces 34 = .ok (.goto 4, 3) := dk_167 0 4 (dk_at dksX2_reduces_1 12 rfl rfl)
theorem dX2_reduces_37 : decode cX2_reduces 37 = .ok (.iconst 0, 1) := dk_3 (dk_at dksX2_reduces_1 15 rfl rfl)
theorem dX2_reduces_38 : decode cX2_reduces 38 = .ok (.ireturn, 1) := dk_172 (dk_at dksX2_reduces_1 16 rfl rfl)
abbrev cX2_codeOf : ByteArray := prog_17_method_57_code
def yX2_codeOf : MethodName := ⟨RX2, "codeOf", "(II)I"⟩
def dkwX2_codeOf_4 : List UInt8 := [172, 132, 4, 1, 167, 255, 190, 2, 172]
abbrev dktX2_codeOf_4 : List UInt8 := dkwX2_codeOf_4 ++ []
def dkwX2_codeOf_3 : List UInt8 := [2, 159, 0, 7, 4, 167, 0, 4, 3, 54, 5, 132, 6, 1, 167, 255, 216, 21, 5, 153, 0, 6, 21, 4]
abbrev dktX2_codeOf_3 : List UInt8 := dkwX2_codeOf_3 ++ dktX2_codeOf_4
def dkwX2_codeOf_2 : List UInt8 := [42, 180, 0, 69, 27, 46, 162, 0, 35, 21, 5, 153, 0, 21, 42, 27, 28, 21, 4, 21, 6, 182, 0, 223]
abbrev dktX2_codeOf_2 : List UInt8 := dkwX2_codeOf_2 ++ dktX2_codeOf_3
def dkwX2_codeOf_1 : List UInt8 := [62, 132, 4, 1, 167, 255, 233, 3, 54, 4, 21, 4, 29, 162, 0, 66, 4, 54, 5, 3, 54, 6, 21, 6]
abbrev dktX2_codeOf_1 : List UInt8 := dkwX2_codeOf_1 ++ dktX2_codeOf_2
def dkwX2_codeOf_0 : List UInt8 := [4, 62, 3, 54, 4, 21, 4, 42, 180, 0, 72, 28, 46, 162, 0, 18, 29, 42, 180, 0, 72, 27, 46, 104]
abbrev dktX2_codeOf_0 : List UInt8 := dkwX2_codeOf_0 ++ dktX2_codeOf_1
theorem dksX2_codeOf_0 : cX2_codeOf.data.toList.drop 0 = dktX2_codeOf_0 := by decide +kernel
theorem dksX2_codeOf_1 : cX2_codeOf.data.toList.drop 24 = dktX2_codeOf_1 := dk_seg dksX2_codeOf_0 24 rfl rfl
theorem dksX2_codeOf_2 : cX2_codeOf.data.toList.drop 48 = dktX2_codeOf_2 := dk_seg dksX2_codeOf_1 24 rfl rfl
theorem dksX2_codeOf_3 : cX2_codeOf.data.toList.drop 72 = dktX2_codeOf_3 := dk_seg dksX2_codeOf_2 24 rfl rfl
theorem dksX2_codeOf_4 : cX2_codeOf.data.toList.drop 96 = dktX2_codeOf_4 := dk_seg dksX2_codeOf_3 24 rfl rfl
theorem dX2_codeOf_0 : decode cX2_codeOf 0 = .ok (.iconst 1, 1) := dk_4 (dk_at dksX2_codeOf_0 0 rfl rfl)
theorem dX2_codeOf_1 : decode cX2_codeOf 1 = .ok (.istore_n 3, 1) := dk_62 (dk_at dksX2_codeOf_0 1 rfl rfl)
theorem dX2_codeOf_2 : decode cX2_codeOf 2 = .ok (.iconst 0, 1) := dk_3 (dk_at dksX2_codeOf_0 2 rfl rfl)
theorem dX2_codeOf_3 : decode cX2_codeOf 3 = .ok (.istore 4, 2) := dk_54 4 (dk_at dksX2_codeOf_0 3 rfl rfl)
theorem dX2_codeOf_5 : decode cX2_codeOf 5 = .ok (.iload 4, 2) := dk_21 4 (dk_at dksX2_codeOf_0 5 rfl rfl)
theorem dX2_codeOf_7 : decode cX2_codeOf 7 = .ok (.aload_n 0, 1) := dk_42 (dk_at dksX2_codeOf_0 7 rfl rfl)
theorem dX2_codeOf_8 : decode cX2_codeOf 8 = .ok (.getfield 72, 3) := dk_180 0 72 (dk_at dksX2_codeOf_0 8 rfl rfl)
theorem dX2_codeOf_11 : decode cX2_codeOf 11 = .ok (.iload_n 2, 1) := dk_28 (dk_at dksX2_codeOf_0 11 rfl rfl)
theorem dX2_codeOf_12 : decode cX2_codeOf 12 = .ok (.iaload, 1) := dk_46 (dk_at dksX2_codeOf_0 12 rfl rfl)
theorem dX2_codeOf_13 : decode cX2_codeOf 13 = .ok (.if_icmp .ge 18, 3) := dk_162 0 18 (dk_at dksX2_codeOf_0 13 rfl rfl)
theorem dX2_codeOf_16 : decode cX2_codeOf 16 = .ok (.iload_n 3, 1) := dk_29 (dk_at dksX2_codeOf_0 16 rfl rfl)
theorem dX2_codeOf_17 : decode cX2_codeOf 17 = .ok (.aload_n 0, 1) := dk_42 (dk_at dksX2_codeOf_0 17 rfl rfl)
theorem dX2_codeOf_18 : decode cX2_codeOf 18 = .ok (.getfield 72, 3) := dk_180 0 72 (dk_at dksX2_codeOf_0 18 rfl rfl)
theorem dX2_codeOf_21 : decode cX2_codeOf 21 = .ok (.iload_n 1, 1) := dk_27 (dk_at dksX2_codeOf_0 21 rfl rfl)
theorem dX2_codeOf_22 : decode cX2_codeOf 22 = .ok (.iaload, 1) := dk_46 (dk_at dksX2_codeOf_0 22 rfl rfl)
theorem dX2_codeOf_23 : decode cX2_codeOf 23 = .ok (.imul, 1) := dk_104 (dk_at dksX2_codeOf_0 23 rfl rfl)
theorem dX2_codeOf_24 : decode cX2_codeOf 24 = .ok (.istore_n 3, 1) := dk_62 (dk_at dksX2_codeOf_1 0 rfl rfl)
theorem dX2_codeOf_25 : decode cX2_codeOf 25 = .ok (.iinc 4 1, 3) := dk_132 4 1 (dk_at dksX2_codeOf_1 1 rfl rfl)
theorem dX2_codeOf_28 : decode cX2_codeOf 28 = .ok (.goto (-23), 3) := dk_167 255 233 (dk_at dksX2_codeOf_1 4 rfl rfl)
theorem dX2_codeOf_31 : decode cX2_codeOf 31 = .ok (.iconst 0, 1) := dk_3 (dk_at dksX2_codeOf_1 7 rfl rfl)
theorem dX2_codeOf_32 : decode cX2_codeOf 32 = .ok (.istore 4, 2) := dk_54 4 (dk_at dksX2_codeOf_1 8 rfl rfl)
theorem dX2_codeOf_34 : decode cX2_codeOf 34 = .ok (.iload 4, 2) := dk_21 4 (dk_at dksX2_codeOf_1 10 rfl rfl)
theorem dX2_codeOf_36 : decode cX2_codeOf 36 = .ok (.iload_n 3, 1) := dk_29 (dk_at dksX2_codeOf_1 12 rfl rfl)
theorem dX2_codeOf_37 : decode cX2_codeOf 37 = .ok (.if_icmp .ge 66, 3) := dk_162 0 66 (dk_at dksX2_codeOf_1 13 rfl rfl)
theorem dX2_codeOf_40 : decode cX2_codeOf 40 = .ok (.iconst 1, 1) := dk_4 (dk_at dksX2_codeOf_1 16 rfl rfl)
theorem dX2_codeOf_41 : decode cX2_codeOf 41 = .ok (.istore 5, 2) := dk_54 5 (dk_at dksX2_codeOf_1 17 rfl rfl)
theorem dX2_codeOf_43 : decode cX2_codeOf 43 = .ok (.iconst 0, 1) := dk_3 (dk_at dksX2_codeOf_1 19 rfl rfl)
theorem dX2_codeOf_44 : decode cX2_codeOf 44 = .ok (.istore 6, 2) := dk_54 6 (dk_at dksX2_codeOf_1 20 rfl rfl)
theorem dX2_codeOf_46 : decode cX2_codeOf 46 = .ok (.iload 6, 2) := dk_21 6 (dk_at dksX2_codeOf_1 22 rfl rfl)
theorem dX2_codeOf_48 : decode cX2_codeOf 48 = .ok (.aload_n 0, 1) := dk_42 (dk_at dksX2_codeOf_2 0 rfl rfl)
theorem dX2_codeOf_49 : decode cX2_codeOf 49 = .ok (.getfield 69, 3) := dk_180 0 69 (dk_at dksX2_codeOf_2 1 rfl rfl)
theorem dX2_codeOf_52 : decode cX2_codeOf 52 = .ok (.iload_n 1, 1) := dk_27 (dk_at dksX2_codeOf_2 4 rfl rfl)
theorem dX2_codeOf_53 : decode cX2_codeOf 53 = .ok (.iaload, 1) := dk_46 (dk_at dksX2_codeOf_2 5 rfl rfl)
theorem dX2_codeOf_54 : decode cX2_codeOf 54 = .ok (.if_icmp .ge 35, 3) := dk_162 0 35 (dk_at dksX2_codeOf_2 6 rfl rfl)
theorem dX2_codeOf_57 : decode cX2_codeOf 57 = .ok (.iload 5, 2) := dk_21 5 (dk_at dksX2_codeOf_2 9 rfl rfl)
theorem dX2_codeOf_59 : decode cX2_codeOf 59 = .ok (.ifCond .eq 21, 3) := dk_153 0 21 (dk_at dksX2_codeOf_2 11 rfl rfl)
theorem dX2_codeOf_62 : decode cX2_codeOf 62 = .ok (.aload_n 0, 1) := dk_42 (dk_at dksX2_codeOf_2 14 rfl rfl)
theorem dX2_codeOf_63 : decode cX2_codeOf 63 = .ok (.iload_n 1, 1) := dk_27 (dk_at dksX2_codeOf_2 15 rfl rfl)
theorem dX2_codeOf_64 : decode cX2_codeOf 64 = .ok (.iload_n 2, 1) := dk_28 (dk_at dksX2_codeOf_2 16 rfl rfl)
theorem dX2_codeOf_65 : decode cX2_codeOf 65 = .ok (.iload 4, 2) := dk_21 4 (dk_at dksX2_codeOf_2 17 rfl rfl)
theorem dX2_codeOf_67 : decode cX2_codeOf 67 = .ok (.iload 6, 2) := dk_21 6 (dk_at dksX2_codeOf_2 19 rfl rfl)
theorem dX2_codeOf_69 : decode cX2_codeOf 69 = .ok (.invokevirtual 223, 3) := dk_182 0 223 (dk_at dksX2_codeOf_2 21 rfl rfl)
theorem dX2_codeOf_72 : decode cX2_codeOf 72 = .ok (.iconst (-1), 1) := dk_2 (dk_at dksX2_codeOf_3 0 rfl rfl)
theorem dX2_codeOf_73 : decode cX2_codeOf 73 = .ok (.if_icmp .eq 7, 3) := dk_159 0 7 (dk_at dksX2_codeOf_3 1 rfl rfl)
theorem dX2_codeOf_76 : decode cX2_codeOf 76 = .ok (.iconst 1, 1) := dk_4 (dk_at dksX2_codeOf_3 4 rfl rfl)
theorem dX2_codeOf_77 : decode cX2_codeOf 77 = .ok (.goto 4, 3) := dk_167 0 4 (dk_at dksX2_codeOf_3 5 rfl rfl)
theorem dX2_codeOf_80 : decode cX2_codeOf 80 = .ok (.iconst 0, 1) := dk_3 (dk_at dksX2_codeOf_3 8 rfl rfl)
theorem dX2_codeOf_81 : decode cX2_codeOf 81 = .ok (.istore 5, 2) := dk_54 5 (dk_at dksX2_codeOf_3 9 rfl rfl)
theorem dX2_codeOf_83 : decode cX2_codeOf 83 = .ok (.iinc 6 1, 3) := dk_132 6 1 (dk_at dksX2_codeOf_3 11 rfl rfl)
theorem dX2_codeOf_86 : decode cX2_codeOf 86 = .ok (.goto (-40), 3) := dk_167 255 216 (dk_at dksX2_codeOf_3 14 rfl rfl)
theorem dX2_codeOf_89 : decode cX2_codeOf 89 = .ok (.iload 5, 2) := dk_21 5 (dk_at dksX2_codeOf_3 17 rfl rfl)
theorem dX2_codeOf_91 : decode cX2_codeOf 91 = .ok (.ifCond .eq 6, 3) := dk_153 0 6 (dk_at dksX2_codeOf_3 19 rfl rfl)
theorem dX2_codeOf_94 : decode cX2_codeOf 94 = .ok (.iload 4, 2) := dk_21 4 (dk_at dksX2_codeOf_3 22 rfl rfl)
theorem dX2_codeOf_96 : decode cX2_codeOf 96 = .ok (.ireturn, 1) := dk_172 (dk_at dksX2_codeOf_4 0 rfl rfl)
theorem dX2_codeOf_97 : decode cX2_codeOf 97 = .ok (.iinc 4 1, 3) := dk_132 4 1 (dk_at dksX2_codeOf_4 1 rfl rfl)
theorem dX2_codeOf_100 : decode cX2_codeOf 100 = .ok (.goto (-66), 3) := dk_167 255 190 (dk_at dksX2_codeOf_4 4 rfl rfl)
theorem dX2_codeOf_103 : decode cX2_codeOf 103 = .ok (.iconst (-1), 1) := dk_2 (dk_at dksX2_codeOf_4 7 rfl rfl)
theorem dX2_codeOf_104 : decode cX2_codeOf 104 = .ok (.ireturn, 1) := dk_172 (dk_at dksX2_codeOf_4 8 rfl rfl)
abbrev cX2_served : ByteArray := prog_17_method_56_code
def yX2_served : MethodName := ⟨RX2, "served", "(IIII)I"⟩
def dkwX2_served_4 : List UInt8 := [21, 7, 153, 0, 8, 21, 6, 167, 0, 5, 21, 5, 54, 5, 132, 6, 255, 167, 255, 157, 21, 5, 172]
abbrev dktX2_served_4 : List UInt8 := dkwX2_served_4 ++ []
def dkwX2_served_3 : List UInt8 := [21, 8, 184, 0, 220, 184, 0, 207, 153, 0, 7, 4, 167, 0, 4, 3, 54, 7, 132, 8, 1, 167, 255, 188]
abbrev dktX2_served_3 : List UInt8 := dkwX2_served_3 ++ dktX2_served_4
def dkwX2_served_2 : List UInt8 := [21, 8, 184, 0, 207, 153, 0, 29, 42, 180, 0, 75, 27, 46, 21, 4, 29, 42, 180, 0, 72, 27, 46]
abbrev dktX2_served_2 : List UInt8 := dkwX2_served_2 ++ dktX2_served_3
def dkwX2_served_1 : List UInt8 := [21, 8, 42, 180, 0, 72, 28, 46, 162, 0, 63, 21, 7, 153, 0, 49, 42, 180, 0, 75, 28, 46, 21, 6]
abbrev dktX2_served_1 : List UInt8 := dkwX2_served_1 ++ dktX2_served_2
def dkwX2_served_0 : List UInt8 := [2, 54, 5, 42, 180, 0, 69, 28, 46, 4, 100, 54, 6, 21, 6, 155, 0, 100, 4, 54, 7, 3, 54, 8]
abbrev dktX2_served_0 : List UInt8 := dkwX2_served_0 ++ dktX2_served_1
theorem dksX2_served_0 : cX2_served.data.toList.drop 0 = dktX2_served_0 := by decide +kernel
theorem dksX2_served_1 : cX2_served.data.toList.drop 24 = dktX2_served_1 := dk_seg dksX2_served_0 24 rfl rfl
theorem dksX2_served_2 : cX2_served.data.toList.drop 48 = dktX2_served_2 := dk_seg dksX2_served_1 24 rfl rfl
theorem dksX2_served_3 : cX2_served.data.toList.drop 71 = dktX2_served_3 := dk_seg dksX2_served_2 23 rfl rfl
theorem dksX2_served_4 : cX2_served.data.toList.drop 95 = dktX2_served_4 := dk_seg dksX2_served_3 24 rfl rfl
theorem dX2_served_0 : decode cX2_served 0 = .ok (.iconst (-1), 1) := dk_2 (dk_at dksX2_served_0 0 rfl rfl)
theorem dX2_served_1 : decode cX2_served 1 = .ok (.istore 5, 2) := dk_54 5 (dk_at dksX2_served_0 1 rfl rfl)
theorem dX2_served_3 : decode cX2_served 3 = .ok (.aload_n 0, 1) := dk_42 (dk_at dksX2_served_0 3 rfl rfl)
theorem dX2_served_4 : decode cX2_served 4 = .ok (.getfield 69, 3) := dk_180 0 69 (dk_at dksX2_served_0 4 rfl rfl)
theorem dX2_served_7 : decode cX2_served 7 = .ok (.iload_n 2, 1) := dk_28 (dk_at dksX2_served_0 7 rfl rfl)
theorem dX2_served_8 : decode cX2_served 8 = .ok (.iaload, 1) := dk_46 (dk_at dksX2_served_0 8 rfl rfl)
theorem dX2_served_9 : decode cX2_served 9 = .ok (.iconst 1, 1) := dk_4 (dk_at dksX2_served_0 9 rfl rfl)
theorem dX2_served_10 : decode cX2_served 10 = .ok (.isub, 1) := dk_100 (dk_at dksX2_served_0 10 rfl rfl)
theorem dX2_served_11 : decode cX2_served 11 = .ok (.istore 6, 2) := dk_54 6 (dk_at dksX2_served_0 11 rfl rfl)
theorem dX2_served_13 : decode cX2_served 13 = .ok (.iload 6, 2) := dk_21 6 (dk_at dksX2_served_0 13 rfl rfl)
theorem dX2_served_15 : decode cX2_served 15 = .ok (.ifCond .lt 100, 3) := dk_155 0 100 (dk_at dksX2_served_0 15 rfl rfl)
theorem dX2_served_18 : decode cX2_served 18 = .ok (.iconst 1, 1) := dk_4 (dk_at dksX2_served_0 18 rfl rfl)
theorem dX2_served_19 : decode cX2_served 19 = .ok (.istore 7, 2) := dk_54 7 (dk_at dksX2_served_0 19 rfl rfl)
theorem dX2_served_21 : decode cX2_served 21 = .ok (.iconst 0, 1) := dk_3 (dk_at dksX2_served_0 21 rfl rfl)
theorem dX2_served_22 : decode cX2_served 22 = .ok (.istore 8, 2) := dk_54 8 (dk_at dksX2_served_0 22 rfl rfl)
theorem dX2_served_24 : decode cX2_served 24 = .ok (.iload 8, 2) := dk_21 8 (dk_at dksX2_served_1 0 rfl rfl)
theorem dX2_served_26 : decode cX2_served 26 = .ok (.aload_n 0, 1) := dk_42 (dk_at dksX2_served_1 2 rfl rfl)
theorem dX2_served_27 : decode cX2_served 27 = .ok (.getfield 72, 3) := dk_180 0 72 (dk_at dksX2_served_1 3 rfl rfl)
theorem dX2_served_30 : decode cX2_served 30 = .ok (.iload_n 2, 1) := dk_28 (dk_at dksX2_served_1 6 rfl rfl)
theorem dX2_served_31 : decode cX2_served 31 = .ok (.iaload, 1) := dk_46 (dk_at dksX2_served_1 7 rfl rfl)
theorem dX2_served_32 : decode cX2_served 32 = .ok (.if_icmp .ge 63, 3) := dk_162 0 63 (dk_at dksX2_served_1 8 rfl rfl)
theorem dX2_served_35 : decode cX2_served 35 = .ok (.iload 7, 2) := dk_21 7 (dk_at dksX2_served_1 11 rfl rfl)
theorem dX2_served_37 : decode cX2_served 37 = .ok (.ifCond .eq 49, 3) := dk_153 0 49 (dk_at dksX2_served_1 13 rfl rfl)
theorem dX2_served_40 : decode cX2_served 40 = .ok (.aload_n 0, 1) := dk_42 (dk_at dksX2_served_1 16 rfl rfl)
theorem dX2_served_41 : decode cX2_served 41 = .ok (.getfield 75, 3) := dk_180 0 75 (dk_at dksX2_served_1 17 rfl rfl)
theorem dX2_served_44 : decode cX2_served 44 = .ok (.iload_n 2, 1) := dk_28 (dk_at dksX2_served_1 20 rfl rfl)
theorem dX2_served_45 : decode cX2_served 45 = .ok (.iaload, 1) := dk_46 (dk_at dksX2_served_1 21 rfl rfl)
theorem dX2_served_46 : decode cX2_served 46 = .ok (.iload 6, 2) := dk_21 6 (dk_at dksX2_served_1 22 rfl rfl)
theorem dX2_served_48 : decode cX2_served 48 = .ok (.iload 8, 2) := dk_21 8 (dk_at dksX2_served_2 0 rfl rfl)
theorem dX2_served_50 : decode cX2_served 50 = .ok (.invokestatic 207, 3) := dk_184 0 207 (dk_at dksX2_served_2 2 rfl rfl)
theorem dX2_served_53 : decode cX2_served 53 = .ok (.ifCond .eq 29, 3) := dk_153 0 29 (dk_at dksX2_served_2 5 rfl rfl)
theorem dX2_served_56 : decode cX2_served 56 = .ok (.aload_n 0, 1) := dk_42 (dk_at dksX2_served_2 8 rfl rfl)
theorem dX2_served_57 : decode cX2_served 57 = .ok (.getfield 75, 3) := dk_180 0 75 (dk_at dksX2_served_2 9 rfl rfl)
theorem dX2_served_60 : decode cX2_served 60 = .ok (.iload_n 1, 1) := dk_27 (dk_at dksX2_served_2 12 rfl rfl)
theorem dX2_served_61 : decode cX2_served 61 = .ok (.iaload, 1) := dk_46 (dk_at dksX2_served_2 13 rfl rfl)
theorem dX2_served_62 : decode cX2_served 62 = .ok (.iload 4, 2) := dk_21 4 (dk_at dksX2_served_2 14 rfl rfl)
theorem dX2_served_64 : decode cX2_served 64 = .ok (.iload_n 3, 1) := dk_29 (dk_at dksX2_served_2 16 rfl rfl)
theorem dX2_served_65 : decode cX2_served 65 = .ok (.aload_n 0, 1) := dk_42 (dk_at dksX2_served_2 17 rfl rfl)
theorem dX2_served_66 : decode cX2_served 66 = .ok (.getfield 72, 3) := dk_180 0 72 (dk_at dksX2_served_2 18 rfl rfl)
theorem dX2_served_69 : decode cX2_served 69 = .ok (.iload_n 1, 1) := dk_27 (dk_at dksX2_served_2 21 rfl rfl)
theorem dX2_served_70 : decode cX2_served 70 = .ok (.iaload, 1) := dk_46 (dk_at dksX2_served_2 22 rfl rfl)
theorem dX2_served_71 : decode cX2_served 71 = .ok (.iload 8, 2) := dk_21 8 (dk_at dksX2_served_3 0 rfl rfl)
theorem dX2_served_73 : decode cX2_served 73 = .ok (.invokestatic 220, 3) := dk_184 0 220 (dk_at dksX2_served_3 2 rfl rfl)
theorem dX2_served_76 : decode cX2_served 76 = .ok (.invokestatic 207, 3) := dk_184 0 207 (dk_at dksX2_served_3 5 rfl rfl)
theorem dX2_served_79 : decode cX2_served 79 = .ok (.ifCond .eq 7, 3) := dk_153 0 7 (dk_at dksX2_served_3 8 rfl rfl)
theorem dX2_served_82 : decode cX2_served 82 = .ok (.iconst 1, 1) := dk_4 (dk_at dksX2_served_3 11 rfl rfl)
theorem dX2_served_83 : decode cX2_served 83 = .ok (.goto 4, 3) := dk_167 0 4 (dk_at dksX2_served_3 12 rfl rfl)
theorem dX2_served_86 : decode cX2_served 86 = .ok (.iconst 0, 1) := dk_3 (dk_at dksX2_served_3 15 rfl rfl)
theorem dX2_served_87 : decode cX2_served 87 = .ok (.istore 7, 2) := dk_54 7 (dk_at dksX2_served_3 16 rfl rfl)
theorem dX2_served_89 : decode cX2_served 89 = .ok (.iinc 8 1, 3) := dk_132 8 1 (dk_at dksX2_served_3 18 rfl rfl)
theorem dX2_served_92 : decode cX2_served 92 = .ok (.goto (-68), 3) := dk_167 255 188 (dk_at dksX2_served_3 21 rfl rfl)
theorem dX2_served_95 : decode cX2_served 95 = .ok (.iload 7, 2) := dk_21 7 (dk_at dksX2_served_4 0 rfl rfl)
theorem dX2_served_97 : decode cX2_served 97 = .ok (.ifCond .eq 8, 3) := dk_153 0 8 (dk_at dksX2_served_4 2 rfl rfl)
theorem dX2_served_100 : decode cX2_served 100 = .ok (.iload 6, 2) := dk_21 6 (dk_at dksX2_served_4 5 rfl rfl)
theorem dX2_served_102 : decode cX2_served 102 = .ok (.goto 5, 3) := dk_167 0 5 (dk_at dksX2_served_4 7 rfl rfl)
theorem dX2_served_105 : decode cX2_served 105 = .ok (.iload 5, 2) := dk_21 5 (dk_at dksX2_served_4 10 rfl rfl)
theorem dX2_served_107 : decode cX2_served 107 = .ok (.istore 5, 2) := dk_54 5 (dk_at dksX2_served_4 12 rfl rfl)
theorem dX2_served_109 : decode cX2_served 109 = .ok (.iinc 6 (-1), 3) := dk_132 6 255 (dk_at dksX2_served_4 14 rfl rfl)
theorem dX2_served_112 : decode cX2_served 112 = .ok (.goto (-99), 3) := dk_167 255 157 (dk_at dksX2_served_4 17 rfl rfl)
theorem dX2_served_115 : decode cX2_served 115 = .ok (.iload 5, 2) := dk_21 5 (dk_at dksX2_served_4 20 rfl rfl)
theorem dX2_served_117 : decode cX2_served 117 = .ok (.ireturn, 1) := dk_172 (dk_at dksX2_served_4 22 rfl rfl)
abbrev cX2_given : ByteArray := prog_17_method_55_code
def yX2_given : MethodName := ⟨RX2, "given", "(III)I"⟩
def dkwX2_given_1 : List UInt8 := [172]
abbrev dktX2_given_1 : List UInt8 := dkwX2_given_1 ++ []
def dkwX2_given_0 : List UInt8 := [26, 62, 3, 54, 4, 21, 4, 28, 162, 0, 13, 29, 27, 108, 62, 132, 4, 1, 167, 255, 243, 29, 27, 112]
abbrev dktX2_given_0 : List UInt8 := dkwX2_given_0 ++ dktX2_given_1
theorem dksX2_given_0 : cX2_given.data.toList.drop 0 = dktX2_given_0 := by decide +kernel
theorem dksX2_given_1 : cX2_given.data.toList.drop 24 = dktX2_given_1 := dk_seg dksX2_given_0 24 rfl rfl
theorem dX2_given_0 : decode cX2_given 0 = .ok (.iload_n 0, 1) := dk_26 (dk_at dksX2_given_0 0 rfl rfl)
theorem dX2_given_1 : decode cX2_given 1 = .ok (.istore_n 3, 1) := dk_62 (dk_at dksX2_given_0 1 rfl rfl)
theorem dX2_given_2 : decode cX2_given 2 = .ok (.iconst 0, 1) := dk_3 (dk_at dksX2_given_0 2 rfl rfl)
theorem dX2_given_3 : decode cX2_given 3 = .ok (.istore 4, 2) := dk_54 4 (dk_at dksX2_given_0 3 rfl rfl)
theorem dX2_given_5 : decode cX2_given 5 = .ok (.iload 4, 2) := dk_21 4 (dk_at dksX2_given_0 5 rfl rfl)
theorem dX2_given_7 : decode cX2_given 7 = .ok (.iload_n 2, 1) := dk_28 (dk_at dksX2_given_0 7 rfl rfl)
theorem dX2_given_8 : decode cX2_given 8 = .ok (.if_icmp .ge 13, 3) := dk_162 0 13 (dk_at dksX2_given_0 8 rfl rfl)
theorem dX2_given_11 : decode cX2_given 11 = .ok (.iload_n 3, 1) := dk_29 (dk_at dksX2_given_0 11 rfl rfl)
theorem dX2_given_12 : decode cX2_given 12 = .ok (.iload_n 1, 1) := dk_27 (dk_at dksX2_given_0 12 rfl rfl)
theorem dX2_given_13 : decode cX2_given 13 = .ok (.idiv, 1) := dk_108 (dk_at dksX2_given_0 13 rfl rfl)
theorem dX2_given_14 : decode cX2_given 14 = .ok (.istore_n 3, 1) := dk_62 (dk_at dksX2_given_0 14 rfl rfl)
theorem dX2_given_15 : decode cX2_given 15 = .ok (.iinc 4 1, 3) := dk_132 4 1 (dk_at dksX2_given_0 15 rfl rfl)
theorem dX2_given_18 : decode cX2_given 18 = .ok (.goto (-13), 3) := dk_167 255 243 (dk_at dksX2_given_0 18 rfl rfl)
theorem dX2_given_21 : decode cX2_given 21 = .ok (.iload_n 3, 1) := dk_29 (dk_at dksX2_given_0 21 rfl rfl)
theorem dX2_given_22 : decode cX2_given 22 = .ok (.iload_n 1, 1) := dk_27 (dk_at dksX2_given_0 22 rfl rfl)
theorem dX2_given_23 : decode cX2_given 23 = .ok (.irem, 1) := dk_112 (dk_at dksX2_given_0 23 rfl rfl)
theorem dX2_given_24 : decode cX2_given 24 = .ok (.ireturn, 1) := dk_172 (dk_at dksX2_given_1 0 rfl rfl)
abbrev cX2_reducesAnew : ByteArray := prog_17_method_59_code
def yX2_reducesAnew : MethodName := ⟨RX2, "reducesAnew", "(II)I"⟩
def dkwX2_reducesAnew_1 : List UInt8 := [182, 0, 99, 153, 0, 12, 42, 27, 28, 182, 0, 227, 167, 0, 4, 3, 172]
abbrev dktX2_reducesAnew_1 : List UInt8 := dkwX2_reducesAnew_1 ++ []
def dkwX2_reducesAnew_0 : List UInt8 := [42, 42, 27, 182, 0, 217, 153, 0, 15, 42, 28, 182, 0, 217, 153, 0, 7, 3, 167, 0, 4, 4]
abbrev dktX2_reducesAnew_0 : List UInt8 := dkwX2_reducesAnew_0 ++ dktX2_reducesAnew_1
theorem dksX2_reducesAnew_0 : cX2_reducesAnew.data.toList.drop 0 = dktX2_reducesAnew_0 := by decide +kernel
theorem dksX2_reducesAnew_1 : cX2_reducesAnew.data.toList.drop 22 = dktX2_reducesAnew_1 := dk_seg dksX2_reducesAnew_0 22 rfl rfl
theorem dX2_reducesAnew_0 : decode cX2_reducesAnew 0 = .ok (.aload_n 0, 1) := dk_42 (dk_at dksX2_reducesAnew_0 0 rfl rfl)
theorem dX2_reducesAnew_1 : decode cX2_reducesAnew 1 = .ok (.aload_n 0, 1) := dk_42 (dk_at dksX2_reducesAnew_0 1 rfl rfl)
theorem dX2_reducesAnew_2 : decode cX2_reducesAnew 2 = .ok (.iload_n 1, 1) := dk_27 (dk_at dksX2_reducesAnew_0 2 rfl rfl)
theorem dX2_reducesAnew_3 : decode cX2_reducesAnew 3 = .ok (.invokevirtual 217, 3) := dk_182 0 217 (dk_at dksX2_reducesAnew_0 3 rfl rfl)
theorem dX2_reducesAnew_6 : decode cX2_reducesAnew 6 = .ok (.ifCond .eq 15, 3) := dk_153 0 15 (dk_at dksX2_reducesAnew_0 6 rfl rfl)
theorem dX2_reducesAnew_9 : decode cX2_reducesAnew 9 = .ok (.aload_n 0, 1) := dk_42 (dk_at dksX2_reducesAnew_0 9 rfl rfl)
theorem dX2_reducesAnew_10 : decode cX2_reducesAnew 10 = .ok (.iload_n 2, 1) := dk_28 (dk_at dksX2_reducesAnew_0 10 rfl rfl)
theorem dX2_reducesAnew_11 : decode cX2_reducesAnew 11 = .ok (.invokevirtual 217, 3) := dk_182 0 217 (dk_at dksX2_reducesAnew_0 11 rfl rfl)
theorem dX2_reducesAnew_14 : decode cX2_reducesAnew 14 = .ok (.ifCond .eq 7, 3) := dk_153 0 7 (dk_at dksX2_reducesAnew_0 14 rfl rfl)
theorem dX2_reducesAnew_17 : decode cX2_reducesAnew 17 = .ok (.iconst 0, 1) := dk_3 (dk_at dksX2_reducesAnew_0 17 rfl rfl)
theorem dX2_reducesAnew_18 : decode cX2_reducesAnew 18 = .ok (.goto 4, 3) := dk_167 0 4 (dk_at dksX2_reducesAnew_0 18 rfl rfl)
theorem dX2_reducesAnew_21 : decode cX2_reducesAnew 21 = .ok (.iconst 1, 1) := dk_4 (dk_at dksX2_reducesAnew_0 21 rfl rfl)
theorem dX2_reducesAnew_22 : decode cX2_reducesAnew 22 = .ok (.invokevirtual 99, 3) := dk_182 0 99 (dk_at dksX2_reducesAnew_1 0 rfl rfl)
theorem dX2_reducesAnew_25 : decode cX2_reducesAnew 25 = .ok (.ifCond .eq 12, 3) := dk_153 0 12 (dk_at dksX2_reducesAnew_1 3 rfl rfl)
theorem dX2_reducesAnew_28 : decode cX2_reducesAnew 28 = .ok (.aload_n 0, 1) := dk_42 (dk_at dksX2_reducesAnew_1 6 rfl rfl)
theorem dX2_reducesAnew_29 : decode cX2_reducesAnew 29 = .ok (.iload_n 1, 1) := dk_27 (dk_at dksX2_reducesAnew_1 7 rfl rfl)
theorem dX2_reducesAnew_30 : decode cX2_reducesAnew 30 = .ok (.iload_n 2, 1) := dk_28 (dk_at dksX2_reducesAnew_1 8 rfl rfl)
theorem dX2_reducesAnew_31 : decode cX2_reducesAnew 31 = .ok (.invokevirtual 227, 3) := dk_182 0 227 (dk_at dksX2_reducesAnew_1 9 rfl rfl)
theorem dX2_reducesAnew_34 : decode cX2_reducesAnew 34 = .ok (.goto 4, 3) := dk_167 0 4 (dk_at dksX2_reducesAnew_1 12 rfl rfl)
theorem dX2_reducesAnew_37 : decode cX2_reducesAnew 37 = .ok (.iconst 0, 1) := dk_3 (dk_at dksX2_reducesAnew_1 15 rfl rfl)
theorem dX2_reducesAnew_38 : decode cX2_reducesAnew 38 = .ok (.ireturn, 1) := dk_172 (dk_at dksX2_reducesAnew_1 16 rfl rfl)
abbrev cX2_forth : ByteArray := prog_17_method_60_code
def yX2_forth : MethodName := ⟨RX2, "forth", "(III)I"⟩
def dkwX2_forth_3 : List UInt8 := [160, 0, 7, 2, 167, 0, 12, 42, 27, 28, 21, 5, 29, 182, 0, 223, 172]
abbrev dktX2_forth_3 : List UInt8 := dkwX2_forth_3 ++ []
def dkwX2_forth_2 : List UInt8 := [167, 0, 4, 4, 182, 0, 99, 154, 0, 5, 3, 172, 42, 27, 28, 182, 0, 227, 54, 5, 21, 5, 2]
abbrev dktX2_forth_2 : List UInt8 := dkwX2_forth_2 ++ dktX2_forth_3
def dkwX2_forth_1 : List UInt8 := [4, 100, 184, 0, 85, 153, 0, 7, 4, 167, 0, 4, 3, 54, 4, 42, 21, 4, 153, 0, 7, 3]
abbrev dktX2_forth_1 : List UInt8 := dkwX2_forth_1 ++ dktX2_forth_2
def dkwX2_forth_0 : List UInt8 := [42, 27, 182, 0, 217, 153, 0, 31, 42, 28, 182, 0, 217, 153, 0, 23, 29, 3, 42, 180, 0, 69, 27, 46]
abbrev dktX2_forth_0 : List UInt8 := dkwX2_forth_0 ++ dktX2_forth_1
theorem dksX2_forth_0 : cX2_forth.data.toList.drop 0 = dktX2_forth_0 := by decide +kernel
theorem dksX2_forth_1 : cX2_forth.data.toList.drop 24 = dktX2_forth_1 := dk_seg dksX2_forth_0 24 rfl rfl
theorem dksX2_forth_2 : cX2_forth.data.toList.drop 46 = dktX2_forth_2 := dk_seg dksX2_forth_1 22 rfl rfl
theorem dksX2_forth_3 : cX2_forth.data.toList.drop 69 = dktX2_forth_3 := dk_seg dksX2_forth_2 23 rfl rfl
theorem dX2_forth_0 : decode cX2_forth 0 = .ok (.aload_n 0, 1) := dk_42 (dk_at dksX2_forth_0 0 rfl rfl)
theorem dX2_forth_1 : decode cX2_forth 1 = .ok (.iload_n 1, 1) := dk_27 (dk_at dksX2_forth_0 1 rfl rfl)
theorem dX2_forth_2 : decode cX2_forth 2 = .ok (.invokevirtual 217, 3) := dk_182 0 217 (dk_at dksX2_forth_0 2 rfl rfl)
theorem dX2_forth_5 : decode cX2_forth 5 = .ok (.ifCond .eq 31, 3) := dk_153 0 31 (dk_at dksX2_forth_0 5 rfl rfl)
theorem dX2_forth_8 : decode cX2_forth 8 = .ok (.aload_n 0, 1) := dk_42 (dk_at dksX2_forth_0 8 rfl rfl)
theorem dX2_forth_9 : decode cX2_forth 9 = .ok (.iload_n 2, 1) := dk_28 (dk_at dksX2_forth_0 9 rfl rfl)
theorem dX2_forth_10 : decode cX2_forth 10 = .ok (.invokevirtual 217, 3) := dk_182 0 217 (dk_at dksX2_forth_0 10 rfl rfl)
theorem dX2_forth_13 : decode cX2_forth 13 = .ok (.ifCond .eq 23, 3) := dk_153 0 23 (dk_at dksX2_forth_0 13 rfl rfl)
theorem dX2_forth_16 : decode cX2_forth 16 = .ok (.iload_n 3, 1) := dk_29 (dk_at dksX2_forth_0 16 rfl rfl)
theorem dX2_forth_17 : decode cX2_forth 17 = .ok (.iconst 0, 1) := dk_3 (dk_at dksX2_forth_0 17 rfl rfl)
theorem dX2_forth_18 : decode cX2_forth 18 = .ok (.aload_n 0, 1) := dk_42 (dk_at dksX2_forth_0 18 rfl rfl)
theorem dX2_forth_19 : decode cX2_forth 19 = .ok (.getfield 69, 3) := dk_180 0 69 (dk_at dksX2_forth_0 19 rfl rfl)
theorem dX2_forth_22 : decode cX2_forth 22 = .ok (.iload_n 1, 1) := dk_27 (dk_at dksX2_forth_0 22 rfl rfl)
theorem dX2_forth_23 : decode cX2_forth 23 = .ok (.iaload, 1) := dk_46 (dk_at dksX2_forth_0 23 rfl rfl)
theorem dX2_forth_24 : decode cX2_forth 24 = .ok (.iconst 1, 1) := dk_4 (dk_at dksX2_forth_1 0 rfl rfl)
theorem dX2_forth_25 : decode cX2_forth 25 = .ok (.isub, 1) := dk_100 (dk_at dksX2_forth_1 1 rfl rfl)
theorem dX2_forth_26 : decode cX2_forth 26 = .ok (.invokestatic 85, 3) := dk_184 0 85 (dk_at dksX2_forth_1 2 rfl rfl)
theorem dX2_forth_29 : decode cX2_forth 29 = .ok (.ifCond .eq 7, 3) := dk_153 0 7 (dk_at dksX2_forth_1 5 rfl rfl)
theorem dX2_forth_32 : decode cX2_forth 32 = .ok (.iconst 1, 1) := dk_4 (dk_at dksX2_forth_1 8 rfl rfl)
theorem dX2_forth_33 : decode cX2_forth 33 = .ok (.goto 4, 3) := dk_167 0 4 (dk_at dksX2_forth_1 9 rfl rfl)
theorem dX2_forth_36 : decode cX2_forth 36 = .ok (.iconst 0, 1) := dk_3 (dk_at dksX2_forth_1 12 rfl rfl)
theorem dX2_forth_37 : decode cX2_forth 37 = .ok (.istore 4, 2) := dk_54 4 (dk_at dksX2_forth_1 13 rfl rfl)
theorem dX2_forth_39 : decode cX2_forth 39 = .ok (.aload_n 0, 1) := dk_42 (dk_at dksX2_forth_1 15 rfl rfl)
theorem dX2_forth_40 : decode cX2_forth 40 = .ok (.iload 4, 2) := dk_21 4 (dk_at dksX2_forth_1 16 rfl rfl)
theorem dX2_forth_42 : decode cX2_forth 42 = .ok (.ifCond .eq 7, 3) := dk_153 0 7 (dk_at dksX2_forth_1 18 rfl rfl)
theorem dX2_forth_45 : decode cX2_forth 45 = .ok (.iconst 0, 1) := dk_3 (dk_at dksX2_forth_1 21 rfl rfl)
theorem dX2_forth_46 : decode cX2_forth 46 = .ok (.goto 4, 3) := dk_167 0 4 (dk_at dksX2_forth_2 0 rfl rfl)
theorem dX2_forth_49 : decode cX2_forth 49 = .ok (.iconst 1, 1) := dk_4 (dk_at dksX2_forth_2 3 rfl rfl)
theorem dX2_forth_50 : decode cX2_forth 50 = .ok (.invokevirtual 99, 3) := dk_182 0 99 (dk_at dksX2_forth_2 4 rfl rfl)
theorem dX2_forth_53 : decode cX2_forth 53 = .ok (.ifCond .ne 5, 3) := dk_154 0 5 (dk_at dksX2_forth_2 7 rfl rfl)
theorem dX2_forth_56 : decode cX2_forth 56 = .ok (.iconst 0, 1) := dk_3 (dk_at dksX2_forth_2 10 rfl rfl)
theorem dX2_forth_57 : decode cX2_forth 57 = .ok (.ireturn, 1) := dk_172 (dk_at dksX2_forth_2 11 rfl rfl)
theorem dX2_forth_58 : decode cX2_forth 58 = .ok (.aload_n 0, 1) := dk_42 (dk_at dksX2_forth_2 12 rfl rfl)
theorem dX2_forth_59 : decode cX2_forth 59 = .ok (.iload_n 1, 1) := dk_27 (dk_at dksX2_forth_2 13 rfl rfl)
theorem dX2_forth_60 : decode cX2_forth 60 = .ok (.iload_n 2, 1) := dk_28 (dk_at dksX2_forth_2 14 rfl rfl)
theorem dX2_forth_61 : decode cX2_forth 61 = .ok (.invokevirtual 227, 3) := dk_182 0 227 (dk_at dksX2_forth_2 15 rfl rfl)
theorem dX2_forth_64 : decode cX2_forth 64 = .ok (.istore 5, 2) := dk_54 5 (dk_at dksX2_forth_2 18 rfl rfl)
theorem dX2_forth_66 : decode cX2_forth 66 = .ok (.iload 5, 2) := dk_21 5 (dk_at dksX2_forth_2 20 rfl rfl)
theorem dX2_forth_68 : decode cX2_forth 68 = .ok (.iconst (-1), 1) := dk_2 (dk_at dksX2_forth_2 22 rfl rfl)
theorem dX2_forth_69 : decode cX2_forth 69 = .ok (.if_icmp .ne 7, 3) := dk_160 0 7 (dk_at dksX2_forth_3 0 rfl rfl)
theorem dX2_forth_72 : decode cX2_forth 72 = .ok (.iconst (-1), 1) := dk_2 (dk_at dksX2_forth_3 3 rfl rfl)
theorem dX2_forth_73 : decode cX2_forth 73 = .ok (.goto 12, 3) := dk_167 0 12 (dk_at dksX2_forth_3 4 rfl rfl)
theorem dX2_forth_76 : decode cX2_forth 76 = .ok (.aload_n 0, 1) := dk_42 (dk_at dksX2_forth_3 7 rfl rfl)
theorem dX2_forth_77 : decode cX2_forth 77 = .ok (.iload_n 1, 1) := dk_27 (dk_at dksX2_forth_3 8 rfl rfl)
theorem dX2_forth_78 : decode cX2_forth 78 = .ok (.iload_n 2, 1) := dk_28 (dk_at dksX2_forth_3 9 rfl rfl)
theorem dX2_forth_79 : decode cX2_forth 79 = .ok (.iload 5, 2) := dk_21 5 (dk_at dksX2_forth_3 10 rfl rfl)
theorem dX2_forth_81 : decode cX2_forth 81 = .ok (.iload_n 3, 1) := dk_29 (dk_at dksX2_forth_3 12 rfl rfl)
theorem dX2_forth_82 : decode cX2_forth 82 = .ok (.invokevirtual 223, 3) := dk_182 0 223 (dk_at dksX2_forth_3 13 rfl rfl)
theorem dX2_forth_85 : decode cX2_forth 85 = .ok (.ireturn, 1) := dk_172 (dk_at dksX2_forth_3 16 rfl rfl)
abbrev cX2_ofProblem : ByteArray := prog_17_method_61_code
def yX2_ofProblem : MethodName := ⟨RX2, "ofProblem", "(II)I"⟩
def dkwX2_ofProblem_2 : List UInt8 := [167, 0, 23, 28, 4, 160, 0, 12, 42, 180, 0, 72, 27, 46, 167, 0, 9, 42, 180, 0, 75, 27, 46, 172]
abbrev dktX2_ofProblem_2 : List UInt8 := dkwX2_ofProblem_2 ++ []
def dkwX2_ofProblem_1 : List UInt8 := [3, 167, 0, 4, 5, 182, 0, 99, 154, 0, 5, 3, 172, 28, 154, 0, 12, 42, 180, 0, 69, 27, 46]
abbrev dktX2_ofProblem_1 : List UInt8 := dkwX2_ofProblem_1 ++ dktX2_ofProblem_2
def dkwX2_ofProblem_0 : List UInt8 := [42, 27, 182, 0, 217, 62, 42, 29, 154, 0, 7, 4, 167, 0, 17, 28, 3, 5, 184, 0, 85, 153, 0, 7]
abbrev dktX2_ofProblem_0 : List UInt8 := dkwX2_ofProblem_0 ++ dktX2_ofProblem_1
theorem dksX2_ofProblem_0 : cX2_ofProblem.data.toList.drop 0 = dktX2_ofProblem_0 := by decide +kernel
theorem dksX2_ofProblem_1 : cX2_ofProblem.data.toList.drop 24 = dktX2_ofProblem_1 := dk_seg dksX2_ofProblem_0 24 rfl rfl
theorem dksX2_ofProblem_2 : cX2_ofProblem.data.toList.drop 47 = dktX2_ofProblem_2 := dk_seg dksX2_ofProblem_1 23 rfl rfl
theorem dX2_ofProblem_0 : decode cX2_ofProblem 0 = .ok (.aload_n 0, 1) := dk_42 (dk_at dksX2_ofProblem_0 0 rfl rfl)
theorem dX2_ofProblem_1 : decode cX2_ofProblem 1 = .ok (.iload_n 1, 1) := dk_27 (dk_at dksX2_ofProblem_0 1 rfl rfl)
theorem dX2_ofProblem_2 : decode cX2_ofProblem 2 = .ok (.invokevirtual 217, 3) := dk_182 0 217 (dk_at dksX2_ofProblem_0 2 rfl rfl)
theorem dX2_ofProblem_5 : decode cX2_ofProblem 5 = .ok (.istore_n 3, 1) := dk_62 (dk_at dksX2_ofProblem_0 5 rfl rfl)
theorem dX2_ofProblem_6 : decode cX2_ofProblem 6 = .ok (.aload_n 0, 1) := dk_42 (dk_at dksX2_ofProblem_0 6 rfl rfl)
theorem dX2_ofProblem_7 : decode cX2_ofProblem 7 = .ok (.iload_n 3, 1) := dk_29 (dk_at dksX2_ofProblem_0 7 rfl rfl)
theorem dX2_ofProblem_8 : decode cX2_ofProblem 8 = .ok (.ifCond .ne 7, 3) := dk_154 0 7 (dk_at dksX2_ofProblem_0 8 rfl rfl)
theorem dX2_ofProblem_11 : decode cX2_ofProblem 11 = .ok (.iconst 1, 1) := dk_4 (dk_at dksX2_ofProblem_0 11 rfl rfl)
theorem dX2_ofProblem_12 : decode cX2_ofProblem 12 = .ok (.goto 17, 3) := dk_167 0 17 (dk_at dksX2_ofProblem_0 12 rfl rfl)
theorem dX2_ofProblem_15 : decode cX2_ofProblem 15 = .ok (.iload_n 2, 1) := dk_28 (dk_at dksX2_ofProblem_0 15 rfl rfl)
theorem dX2_ofProblem_16 : decode cX2_ofProblem 16 = .ok (.iconst 0, 1) := dk_3 (dk_at dksX2_ofProblem_0 16 rfl rfl)
theorem dX2_ofProblem_17 : decode cX2_ofProblem 17 = .ok (.iconst 2, 1) := dk_5 (dk_at dksX2_ofProblem_0 17 rfl rfl)
theorem dX2_ofProblem_18 : decode cX2_ofProblem 18 = .ok (.invokestatic 85, 3) := dk_184 0 85 (dk_at dksX2_ofProblem_0 18 rfl rfl)
theorem dX2_ofProblem_21 : decode cX2_ofProblem 21 = .ok (.ifCond .eq 7, 3) := dk_153 0 7 (dk_at dksX2_ofProblem_0 21 rfl rfl)
theorem dX2_ofProblem_24 : decode cX2_ofProblem 24 = .ok (.iconst 0, 1) := dk_3 (dk_at dksX2_ofProblem_1 0 rfl rfl)
theorem dX2_ofProblem_25 : decode cX2_ofProblem 25 = .ok (.goto 4, 3) := dk_167 0 4 (dk_at dksX2_ofProblem_1 1 rfl rfl)
theorem dX2_ofProblem_28 : decode cX2_ofProblem 28 = .ok (.iconst 2, 1) := dk_5 (dk_at dksX2_ofProblem_1 4 rfl rfl)
theorem dX2_ofProblem_29 : decode cX2_ofProblem 29 = .ok (.invokevirtual 99, 3) := dk_182 0 99 (dk_at dksX2_ofProblem_1 5 rfl rfl)
theorem dX2_ofProblem_32 : decode cX2_ofProblem 32 = .ok (.ifCond .ne 5, 3) := dk_154 0 5 (dk_at dksX2_ofProblem_1 8 rfl rfl)
theorem dX2_ofProblem_35 : decode cX2_ofProblem 35 = .ok (.iconst 0, 1) := dk_3 (dk_at dksX2_ofProblem_1 11 rfl rfl)
theorem dX2_ofProblem_36 : decode cX2_ofProblem 36 = .ok (.ireturn, 1) := dk_172 (dk_at dksX2_ofProblem_1 12 rfl rfl)
theorem dX2_ofProblem_37 : decode cX2_ofProblem 37 = .ok (.iload_n 2, 1) := dk_28 (dk_at dksX2_ofProblem_1 13 rfl rfl)
theorem dX2_ofProblem_38 : decode cX2_ofProblem 38 = .ok (.ifCond .ne 12, 3) := dk_154 0 12 (dk_at dksX2_ofProblem_1 14 rfl rfl)
theorem dX2_ofProblem_41 : decode cX2_ofProblem 41 = .ok (.aload_n 0, 1) := dk_42 (dk_at dksX2_ofProblem_1 17 rfl rfl)
theorem dX2_ofProblem_42 : decode cX2_ofProblem 42 = .ok (.getfield 69, 3) := dk_180 0 69 (dk_at dksX2_ofProblem_1 18 rfl rfl)
theorem dX2_ofProblem_45 : decode cX2_ofProblem 45 = .ok (.iload_n 1, 1) := dk_27 (dk_at dksX2_ofProblem_1 21 rfl rfl)
theorem dX2_ofProblem_46 : decode cX2_ofProblem 46 = .ok (.iaload, 1) := dk_46 (dk_at dksX2_ofProblem_1 22 rfl rfl)
theorem dX2_ofProblem_47 : decode cX2_ofProblem 47 = .ok (.goto 23, 3) := dk_167 0 23 (dk_at dksX2_ofProblem_2 0 rfl rfl)
theorem dX2_ofProblem_50 : decode cX2_ofProblem 50 = .ok (.iload_n 2, 1) := dk_28 (dk_at dksX2_ofProblem_2 3 rfl rfl)
theorem dX2_ofProblem_51 : decode cX2_ofProblem 51 = .ok (.iconst 1, 1) := dk_4 (dk_at dksX2_ofProblem_2 4 rfl rfl)
theorem dX2_ofProblem_52 : decode cX2_ofProblem 52 = .ok (.if_icmp .ne 12, 3) := dk_160 0 12 (dk_at dksX2_ofProblem_2 5 rfl rfl)
theorem dX2_ofProblem_55 : decode cX2_ofProblem 55 = .ok (.aload_n 0, 1) := dk_42 (dk_at dksX2_ofProblem_2 8 rfl rfl)
theorem dX2_ofProblem_56 : decode cX2_ofProblem 56 = .ok (.getfield 72, 3) := dk_180 0 72 (dk_at dksX2_ofProblem_2 9 rfl rfl)
theorem dX2_ofProblem_59 : decode cX2_ofProblem 59 = .ok (.iload_n 1, 1) := dk_27 (dk_at dksX2_ofProblem_2 12 rfl rfl)
theorem dX2_ofProblem_60 : decode cX2_ofProblem 60 = .ok (.iaload, 1) := dk_46 (dk_at dksX2_ofProblem_2 13 rfl rfl)
theorem dX2_ofProblem_61 : decode cX2_ofProblem 61 = .ok (.goto 9, 3) := dk_167 0 9 (dk_at dksX2_ofProblem_2 14 rfl rfl)
theorem dX2_ofProblem_64 : decode cX2_ofProblem 64 = .ok (.aload_n 0, 1) := dk_42 (dk_at dksX2_ofProblem_2 17 rfl rfl)
theorem dX2_ofProblem_65 : decode cX2_ofProblem 65 = .ok (.getfield 75, 3) := dk_180 0 75 (dk_at dksX2_ofProblem_2 18 rfl rfl)
theorem dX2_ofProblem_68 : decode cX2_ofProblem 68 = .ok (.iload_n 1, 1) := dk_27 (dk_at dksX2_ofProblem_2 21 rfl rfl)
theorem dX2_ofProblem_69 : decode cX2_ofProblem 69 = .ok (.iaload, 1) := dk_46 (dk_at dksX2_ofProblem_2 22 rfl rfl)
theorem dX2_ofProblem_70 : decode cX2_ofProblem 70 = .ok (.ireturn, 1) := dk_172 (dk_at dksX2_ofProblem_2 23 rfl rfl)
abbrev cX2_has : ByteArray := prog_17_method_64_code
def yX2_has : MethodName := ⟨RX2, "has", "(II)Z"⟩
def dkwX2_has_0 : List UInt8 := [42, 27, 28, 182, 0, 234, 172]
abbrev dktX2_has_0 : List UInt8 := dkwX2_has_0 ++ []
theorem dksX2_has_0 : cX2_has.data.toList.drop 0 = dktX2_has_0 := by decide +kernel
theorem dX2_has_0 : decode cX2_has 0 = .ok (.aload_n 0, 1) := dk_42 (dk_at dksX2_has_0 0 rfl rfl)
theorem dX2_has_1 : decode cX2_has 1 = .ok (.iload_n 1, 1) := dk_27 (dk_at dksX2_has_0 1 rfl rfl)
theorem dX2_has_2 : decode cX2_has 2 = .ok (.iload_n 2, 1) := dk_28 (dk_at dksX2_has_0 2 rfl rfl)
theorem dX2_has_3 : decode cX2_has 3 = .ok (.invokevirtual 234, 3) := dk_182 0 234 (dk_at dksX2_has_0 3 rfl rfl)
theorem dX2_has_6 : decode cX2_has 6 = .ok (.ireturn, 1) := dk_172 (dk_at dksX2_has_0 6 rfl rfl)
abbrev cX2_ask : ByteArray := prog_17_method_63_code
def yX2_ask : MethodName := ⟨RX2, "ask", "(II)Z"⟩
def dkwX2_ask_2 : List UInt8 := [28, 182, 0, 230, 153, 0, 7, 4, 167, 0, 4, 3, 172]
abbrev dktX2_ask_2 : List UInt8 := dkwX2_ask_2 ++ []
def dkwX2_ask_1 : List UInt8 := [4, 167, 0, 4, 3, 62, 42, 29, 153, 0, 7, 3, 167, 0, 4, 4, 182, 0, 99, 153, 0, 16, 42, 27]
abbrev dktX2_ask_1 : List UInt8 := dkwX2_ask_1 ++ dktX2_ask_2
def dkwX2_ask_0 : List UInt8 := [27, 4, 7, 184, 0, 85, 153, 0, 22, 28, 3, 4, 4, 27, 120, 120, 4, 100, 184, 0, 85, 153, 0, 7]
abbrev dktX2_ask_0 : List UInt8 := dkwX2_ask_0 ++ dktX2_ask_1
theorem dksX2_ask_0 : cX2_ask.data.toList.drop 0 = dktX2_ask_0 := by decide +kernel
theorem dksX2_ask_1 : cX2_ask.data.toList.drop 24 = dktX2_ask_1 := dk_seg dksX2_ask_0 24 rfl rfl
theorem dksX2_ask_2 : cX2_ask.data.toList.drop 48 = dktX2_ask_2 := dk_seg dksX2_ask_1 24 rfl rfl
theorem dX2_ask_0 : decode cX2_ask 0 = .ok (.iload_n 1, 1) := dk_27 (dk_at dksX2_ask_0 0 rfl rfl)
theorem dX2_ask_1 : decode cX2_ask 1 = .ok (.iconst 1, 1) := dk_4 (dk_at dksX2_ask_0 1 rfl rfl)
theorem dX2_ask_2 : decode cX2_ask 2 = .ok (.iconst 4, 1) := dk_7 (dk_at dksX2_ask_0 2 rfl rfl)
theorem dX2_ask_3 : decode cX2_ask 3 = .ok (.invokestatic 85, 3) := dk_184 0 85 (dk_at dksX2_ask_0 3 rfl rfl)
theorem dX2_ask_6 : decode cX2_ask 6 = .ok (.ifCond .eq 22, 3) := dk_153 0 22 (dk_at dksX2_ask_0 6 rfl rfl)
theorem dX2_ask_9 : decode cX2_ask 9 = .ok (.iload_n 2, 1) := dk_28 (dk_at dksX2_ask_0 9 rfl rfl)
theorem dX2_ask_10 : decode cX2_ask 10 = .ok (.iconst 0, 1) := dk_3 (dk_at dksX2_ask_0 10 rfl rfl)
theorem dX2_ask_11 : decode cX2_ask 11 = .ok (.iconst 1, 1) := dk_4 (dk_at dksX2_ask_0 11 rfl rfl)
theorem dX2_ask_12 : decode cX2_ask 12 = .ok (.iconst 1, 1) := dk_4 (dk_at dksX2_ask_0 12 rfl rfl)
theorem dX2_ask_13 : decode cX2_ask 13 = .ok (.iload_n 1, 1) := dk_27 (dk_at dksX2_ask_0 13 rfl rfl)
theorem dX2_ask_14 : decode cX2_ask 14 = .ok (.ishl, 1) := dk_120 (dk_at dksX2_ask_0 14 rfl rfl)
theorem dX2_ask_15 : decode cX2_ask 15 = .ok (.ishl, 1) := dk_120 (dk_at dksX2_ask_0 15 rfl rfl)
theorem dX2_ask_16 : decode cX2_ask 16 = .ok (.iconst 1, 1) := dk_4 (dk_at dksX2_ask_0 16 rfl rfl)
theorem dX2_ask_17 : decode cX2_ask 17 = .ok (.isub, 1) := dk_100 (dk_at dksX2_ask_0 17 rfl rfl)
theorem dX2_ask_18 : decode cX2_ask 18 = .ok (.invokestatic 85, 3) := dk_184 0 85 (dk_at dksX2_ask_0 18 rfl rfl)
theorem dX2_ask_21 : decode cX2_ask 21 = .ok (.ifCond .eq 7, 3) := dk_153 0 7 (dk_at dksX2_ask_0 21 rfl rfl)
theorem dX2_ask_24 : decode cX2_ask 24 = .ok (.iconst 1, 1) := dk_4 (dk_at dksX2_ask_1 0 rfl rfl)
theorem dX2_ask_25 : decode cX2_ask 25 = .ok (.goto 4, 3) := dk_167 0 4 (dk_at dksX2_ask_1 1 rfl rfl)
theorem dX2_ask_28 : decode cX2_ask 28 = .ok (.iconst 0, 1) := dk_3 (dk_at dksX2_ask_1 4 rfl rfl)
theorem dX2_ask_29 : decode cX2_ask 29 = .ok (.istore_n 3, 1) := dk_62 (dk_at dksX2_ask_1 5 rfl rfl)
theorem dX2_ask_30 : decode cX2_ask 30 = .ok (.aload_n 0, 1) := dk_42 (dk_at dksX2_ask_1 6 rfl rfl)
theorem dX2_ask_31 : decode cX2_ask 31 = .ok (.iload_n 3, 1) := dk_29 (dk_at dksX2_ask_1 7 rfl rfl)
theorem dX2_ask_32 : decode cX2_ask 32 = .ok (.ifCond .eq 7, 3) := dk_153 0 7 (dk_at dksX2_ask_1 8 rfl rfl)
theorem dX2_ask_35 : decode cX2_ask 35 = .ok (.iconst 0, 1) := dk_3 (dk_at dksX2_ask_1 11 rfl rfl)
theorem dX2_ask_36 : decode cX2_ask 36 = .ok (.goto 4, 3) := dk_167 0 4 (dk_at dksX2_ask_1 12 rfl rfl)
theorem dX2_ask_39 : decode cX2_ask 39 = .ok (.iconst 1, 1) := dk_4 (dk_at dksX2_ask_1 15 rfl rfl)
theorem dX2_ask_40 : decode cX2_ask 40 = .ok (.invokevirtual 99, 3) := dk_182 0 99 (dk_at dksX2_ask_1 16 rfl rfl)
theorem dX2_ask_43 : decode cX2_ask 43 = .ok (.ifCond .eq 16, 3) := dk_153 0 16 (dk_at dksX2_ask_1 19 rfl rfl)
theorem dX2_ask_46 : decode cX2_ask 46 = .ok (.aload_n 0, 1) := dk_42 (dk_at dksX2_ask_1 22 rfl rfl)
theorem dX2_ask_47 : decode cX2_ask 47 = .ok (.iload_n 1, 1) := dk_27 (dk_at dksX2_ask_1 23 rfl rfl)
theorem dX2_ask_48 : decode cX2_ask 48 = .ok (.iload_n 2, 1) := dk_28 (dk_at dksX2_ask_2 0 rfl rfl)
theorem dX2_ask_49 : decode cX2_ask 49 = .ok (.invokevirtual 230, 3) := dk_182 0 230 (dk_at dksX2_ask_2 1 rfl rfl)
theorem dX2_ask_52 : decode cX2_ask 52 = .ok (.ifCond .eq 7, 3) := dk_153 0 7 (dk_at dksX2_ask_2 4 rfl rfl)
theorem dX2_ask_55 : decode cX2_ask 55 = .ok (.iconst 1, 1) := dk_4 (dk_at dksX2_ask_2 7 rfl rfl)
theorem dX2_ask_56 : decode cX2_ask 56 = .ok (.goto 4, 3) := dk_167 0 4 (dk_at dksX2_ask_2 8 rfl rfl)
theorem dX2_ask_59 : decode cX2_ask 59 = .ok (.iconst 0, 1) := dk_3 (dk_at dksX2_ask_2 11 rfl rfl)
theorem dX2_ask_60 : decode cX2_ask 60 = .ok (.ireturn, 1) := dk_172 (dk_at dksX2_ask_2 12 rfl rfl)
abbrev cX2_isHad : ByteArray := prog_17_method_62_code
def yX2_isHad : MethodName := ⟨RX2, "isHad", "(II)Z"⟩
def dkwX2_isHad_6 : List UInt8 := [167, 255, 154, 42, 180, 0, 78, 3, 51, 172]
abbrev dktX2_isHad_6 : List UInt8 := dkwX2_isHad_6 ++ []
def dkwX2_isHad_5 : List UInt8 := [21, 4, 104, 4, 96, 51, 153, 0, 7, 4, 167, 0, 4, 3, 84, 132, 4, 1, 167, 255, 167, 132, 3, 255]
abbrev dktX2_isHad_5 : List UInt8 := dkwX2_isHad_5 ++ dktX2_isHad_6
def dkwX2_isHad_4 : List UInt8 := [167, 0, 38, 3, 167, 0, 34, 42, 180, 0, 78, 5, 21, 4, 104, 51, 153, 0, 21, 42, 180, 0, 78, 5]
abbrev dktX2_isHad_4 : List UInt8 := dkwX2_isHad_4 ++ dktX2_isHad_5
def dkwX2_isHad_3 : List UInt8 := [21, 4, 104, 51, 154, 0, 17, 42, 180, 0, 78, 5, 21, 4, 104, 4, 96, 51, 153, 0, 7, 4]
abbrev dktX2_isHad_3 : List UInt8 := dkwX2_isHad_3 ++ dktX2_isHad_4
def dkwX2_isHad_2 : List UInt8 := [4, 29, 120, 162, 0, 87, 42, 180, 0, 78, 21, 4, 29, 5, 112, 154, 0, 37, 42, 180, 0, 78, 5]
abbrev dktX2_isHad_2 : List UInt8 := dkwX2_isHad_2 ++ dktX2_isHad_3
def dkwX2_isHad_1 : List UInt8 := [167, 0, 4, 3, 84, 132, 3, 1, 167, 255, 226, 27, 4, 100, 62, 29, 155, 0, 104, 3, 54, 4, 21, 4]
abbrev dktX2_isHad_1 : List UInt8 := dkwX2_isHad_1 ++ dktX2_isHad_2
def dkwX2_isHad_0 : List UInt8 := [3, 62, 29, 4, 27, 120, 162, 0, 29, 42, 180, 0, 78, 29, 28, 29, 122, 4, 126, 4, 160, 0, 7, 4]
abbrev dktX2_isHad_0 : List UInt8 := dkwX2_isHad_0 ++ dktX2_isHad_1
theorem dksX2_isHad_0 : cX2_isHad.data.toList.drop 0 = dktX2_isHad_0 := by decide +kernel
theorem dksX2_isHad_1 : cX2_isHad.data.toList.drop 24 = dktX2_isHad_1 := dk_seg dksX2_isHad_0 24 rfl rfl
theorem dksX2_isHad_2 : cX2_isHad.data.toList.drop 48 = dktX2_isHad_2 := dk_seg dksX2_isHad_1 24 rfl rfl
theorem dksX2_isHad_3 : cX2_isHad.data.toList.drop 71 = dktX2_isHad_3 := dk_seg dksX2_isHad_2 23 rfl rfl
theorem dksX2_isHad_4 : cX2_isHad.data.toList.drop 93 = dktX2_isHad_4 := dk_seg dksX2_isHad_3 22 rfl rfl
theorem dksX2_isHad_5 : cX2_isHad.data.toList.drop 117 = dktX2_isHad_5 := dk_seg dksX2_isHad_4 24 rfl rfl
theorem dksX2_isHad_6 : cX2_isHad.data.toList.drop 141 = dktX2_isHad_6 := dk_seg dksX2_isHad_5 24 rfl rfl
theorem dX2_isHad_0 : decode cX2_isHad 0 = .ok (.iconst 0, 1) := dk_3 (dk_at dksX2_isHad_0 0 rfl rfl)
theorem dX2_isHad_1 : decode cX2_isHad 1 = .ok (.istore_n 3, 1) := dk_62 (dk_at dksX2_isHad_0 1 rfl rfl)
theorem dX2_isHad_2 : decode cX2_isHad 2 = .ok (.iload_n 3, 1) := dk_29 (dk_at dksX2_isHad_0 2 rfl rfl)
theorem dX2_isHad_3 : decode cX2_isHad 3 = .ok (.iconst 1, 1) := dk_4 (dk_at dksX2_isHad_0 3 rfl rfl)
theorem dX2_isHad_4 : decode cX2_isHad 4 = .ok (.iload_n 1, 1) := dk_27 (dk_at dksX2_isHad_0 4 rfl rfl)
theorem dX2_isHad_5 : decode cX2_isHad 5 = .ok (.ishl, 1) := dk_120 (dk_at dksX2_isHad_0 5 rfl rfl)
theorem dX2_isHad_6 : decode cX2_isHad 6 = .ok (.if_icmp .ge 29, 3) := dk_162 0 29 (dk_at dksX2_isHad_0 6 rfl rfl)
theorem dX2_isHad_9 : decode cX2_isHad 9 = .ok (.aload_n 0, 1) := dk_42 (dk_at dksX2_isHad_0 9 rfl rfl)
theorem dX2_isHad_10 : decode cX2_isHad 10 = .ok (.getfield 78, 3) := dk_180 0 78 (dk_at dksX2_isHad_0 10 rfl rfl)
theorem dX2_isHad_13 : decode cX2_isHad 13 = .ok (.iload_n 3, 1) := dk_29 (dk_at dksX2_isHad_0 13 rfl rfl)
theorem dX2_isHad_14 : decode cX2_isHad 14 = .ok (.iload_n 2, 1) := dk_28 (dk_at dksX2_isHad_0 14 rfl rfl)
theorem dX2_isHad_15 : decode cX2_isHad 15 = .ok (.iload_n 3, 1) := dk_29 (dk_at dksX2_isHad_0 15 rfl rfl)
theorem dX2_isHad_16 : decode cX2_isHad 16 = .ok (.ishr, 1) := dk_122 (dk_at dksX2_isHad_0 16 rfl rfl)
theorem dX2_isHad_17 : decode cX2_isHad 17 = .ok (.iconst 1, 1) := dk_4 (dk_at dksX2_isHad_0 17 rfl rfl)
theorem dX2_isHad_18 : decode cX2_isHad 18 = .ok (.iand, 1) := dk_126 (dk_at dksX2_isHad_0 18 rfl rfl)
theorem dX2_isHad_19 : decode cX2_isHad 19 = .ok (.iconst 1, 1) := dk_4 (dk_at dksX2_isHad_0 19 rfl rfl)
theorem dX2_isHad_20 : decode cX2_isHad 20 = .ok (.if_icmp .ne 7, 3) := dk_160 0 7 (dk_at dksX2_isHad_0 20 rfl rfl)
theorem dX2_isHad_23 : decode cX2_isHad 23 = .ok (.iconst 1, 1) := dk_4 (dk_at dksX2_isHad_0 23 rfl rfl)
theorem dX2_isHad_24 : decode cX2_isHad 24 = .ok (.goto 4, 3) := dk_167 0 4 (dk_at dksX2_isHad_1 0 rfl rfl)
theorem dX2_isHad_27 : decode cX2_isHad 27 = .ok (.iconst 0, 1) := dk_3 (dk_at dksX2_isHad_1 3 rfl rfl)
theorem dX2_isHad_28 : decode cX2_isHad 28 = .ok (.bastore, 1) := dk_84 (dk_at dksX2_isHad_1 4 rfl rfl)
theorem dX2_isHad_29 : decode cX2_isHad 29 = .ok (.iinc 3 1, 3) := dk_132 3 1 (dk_at dksX2_isHad_1 5 rfl rfl)
theorem dX2_isHad_32 : decode cX2_isHad 32 = .ok (.goto (-30), 3) := dk_167 255 226 (dk_at dksX2_isHad_1 8 rfl rfl)
theorem dX2_isHad_35 : decode cX2_isHad 35 = .ok (.iload_n 1, 1) := dk_27 (dk_at dksX2_isHad_1 11 rfl rfl)
theorem dX2_isHad_36 : decode cX2_isHad 36 = .ok (.iconst 1, 1) := dk_4 (dk_at dksX2_isHad_1 12 rfl rfl)
theorem dX2_isHad_37 : decode cX2_isHad 37 = .ok (.isub, 1) := dk_100 (dk_at dksX2_isHad_1 13 rfl rfl)
theorem dX2_isHad_38 : decode cX2_isHad 38 = .ok (.istore_n 3, 1) := dk_62 (dk_at dksX2_isHad_1 14 rfl rfl)
theorem dX2_isHad_39 : decode cX2_isHad 39 = .ok (.iload_n 3, 1) := dk_29 (dk_at dksX2_isHad_1 15 rfl rfl)
theorem dX2_isHad_40 : decode cX2_isHad 40 = .ok (.ifCond .lt 104, 3) := dk_155 0 104 (dk_at dksX2_isHad_1 16 rfl rfl)
theorem dX2_isHad_43 : decode cX2_isHad 43 = .ok (.iconst 0, 1) := dk_3 (dk_at dksX2_isHad_1 19 rfl rfl)
theorem dX2_isHad_44 : decode cX2_isHad 44 = .ok (.istore 4, 2) := dk_54 4 (dk_at dksX2_isHad_1 20 rfl rfl)
theorem dX2_isHad_46 : decode cX2_isHad 46 = .ok (.iload 4, 2) := dk_21 4 (dk_at dksX2_isHad_1 22 rfl rfl)
theorem dX2_isHad_48 : decode cX2_isHad 48 = .ok (.iconst 1, 1) := dk_4 (dk_at dksX2_isHad_2 0 rfl rfl)
theorem dX2_isHad_49 : decode cX2_isHad 49 = .ok (.iload_n 3, 1) := dk_29 (dk_at dksX2_isHad_2 1 rfl rfl)
theorem dX2_isHad_50 : decode cX2_isHad 50 = .ok (.ishl, 1) := dk_120 (dk_at dksX2_isHad_2 2 rfl rfl)
theorem dX2_isHad_51 : decode cX2_isHad 51 = .ok (.if_icmp .ge 87, 3) := dk_162 0 87 (dk_at dksX2_isHad_2 3 rfl rfl)
theorem dX2_isHad_54 : decode cX2_isHad 54 = .ok (.aload_n 0, 1) := dk_42 (dk_at dksX2_isHad_2 6 rfl rfl)
theorem dX2_isHad_55 : decode cX2_isHad 55 = .ok (.getfield 78, 3) := dk_180 0 78 (dk_at dksX2_isHad_2 7 rfl rfl)
theorem dX2_isHad_58 : decode cX2_isHad 58 = .ok (.iload 4, 2) := dk_21 4 (dk_at dksX2_isHad_2 10 rfl rfl)
theorem dX2_isHad_60 : decode cX2_isHad 60 = .ok (.iload_n 3, 1) := dk_29 (dk_at dksX2_isHad_2 12 rfl rfl)
theorem dX2_isHad_61 : decode cX2_isHad 61 = .ok (.iconst 2, 1) := dk_5 (dk_at dksX2_isHad_2 13 rfl rfl)
theorem dX2_isHad_62 : decode cX2_isHad 62 = .ok (.irem, 1) := dk_112 (dk_at dksX2_isHad_2 14 rfl rfl)
theorem dX2_isHad_63 : decode cX2_isHad 63 = .ok (.ifCond .ne 37, 3) := dk_154 0 37 (dk_at dksX2_isHad_2 15 rfl rfl)
theorem dX2_isHad_66 : decode cX2_isHad 66 = .ok (.aload_n 0, 1) := dk_42 (dk_at dksX2_isHad_2 18 rfl rfl)
theorem dX2_isHad_67 : decode cX2_isHad 67 = .ok (.getfield 78, 3) := dk_180 0 78 (dk_at dksX2_isHad_2 19 rfl rfl)
theorem dX2_isHad_70 : decode cX2_isHad 70 = .ok (.iconst 2, 1) := dk_5 (dk_at dksX2_isHad_2 22 rfl rfl)
theorem dX2_isHad_71 : decode cX2_isHad 71 = .ok (.iload 4, 2) := dk_21 4 (dk_at dksX2_isHad_3 0 rfl rfl)
theorem dX2_isHad_73 : decode cX2_isHad 73 = .ok (.imul, 1) := dk_104 (dk_at dksX2_isHad_3 2 rfl rfl)
theorem dX2_isHad_74 : decode cX2_isHad 74 = .ok (.baload, 1) := dk_51 (dk_at dksX2_isHad_3 3 rfl rfl)
theorem dX2_isHad_75 : decode cX2_isHad 75 = .ok (.ifCond .ne 17, 3) := dk_154 0 17 (dk_at dksX2_isHad_3 4 rfl rfl)
theorem dX2_isHad_78 : decode cX2_isHad 78 = .ok (.aload_n 0, 1) := dk_42 (dk_at dksX2_isHad_3 7 rfl rfl)
theorem dX2_isHad_79 : decode cX2_isHad 79 = .ok (.getfield 78, 3) := dk_180 0 78 (dk_at dksX2_isHad_3 8 rfl rfl)
theorem dX2_isHad_82 : decode cX2_isHad 82 = .ok (.iconst 2, 1) := dk_5 (dk_at dksX2_isHad_3 11 rfl rfl)
theorem dX2_isHad_83 : decode cX2_isHad 83 = .ok (.iload 4, 2) := dk_21 4 (dk_at dksX2_isHad_3 12 rfl rfl)
theorem dX2_isHad_85 : decode cX2_isHad 85 = .ok (.imul, 1) := dk_104 (dk_at dksX2_isHad_3 14 rfl rfl)
theorem dX2_isHad_86 : decode cX2_isHad 86 = .ok (.iconst 1, 1) := dk_4 (dk_at dksX2_isHad_3 15 rfl rfl)
theorem dX2_isHad_87 : decode cX2_isHad 87 = .ok (.iadd, 1) := dk_96 (dk_at dksX2_isHad_3 16 rfl rfl)
theorem dX2_isHad_88 : decode cX2_isHad 88 = .ok (.baload, 1) := dk_51 (dk_at dksX2_isHad_3 17 rfl rfl)
theorem dX2_isHad_89 : decode cX2_isHad 89 = .ok (.ifCond .eq 7, 3) := dk_153 0 7 (dk_at dksX2_isHad_3 18 rfl rfl)
theorem dX2_isHad_92 : decode cX2_isHad 92 = .ok (.iconst 1, 1) := dk_4 (dk_at dksX2_isHad_3 21 rfl rfl)
theorem dX2_isHad_93 : decode cX2_isHad 93 = .ok (.goto 38, 3) := dk_167 0 38 (dk_at dksX2_isHad_4 0 rfl rfl)
theorem dX2_isHad_96 : decode cX2_isHad 96 = .ok (.iconst 0, 1) := dk_3 (dk_at dksX2_isHad_4 3 rfl rfl)
theorem dX2_isHad_97 : decode cX2_isHad 97 = .ok (.goto 34, 3) := dk_167 0 34 (dk_at dksX2_isHad_4 4 rfl rfl)
theorem dX2_isHad_100 : decode cX2_isHad 100 = .ok (.aload_n 0, 1) := dk_42 (dk_at dksX2_isHad_4 7 rfl rfl)
theorem dX2_isHad_101 : decode cX2_isHad 101 = .ok (.getfield 78, 3) := dk_180 0 78 (dk_at dksX2_isHad_4 8 rfl rfl)
theorem dX2_isHad_104 : decode cX2_isHad 104 = .ok (.iconst 2, 1) := dk_5 (dk_at dksX2_isHad_4 11 rfl rfl)
theorem dX2_isHad_105 : decode cX2_isHad 105 = .ok (.iload 4, 2) := dk_21 4 (dk_at dksX2_isHad_4 12 rfl rfl)
theorem dX2_isHad_107 : decode cX2_isHad 107 = .ok (.imul, 1) := dk_104 (dk_at dksX2_isHad_4 14 rfl rfl)
theorem dX2_isHad_108 : decode cX2_isHad 108 = .ok (.baload, 1) := dk_51 (dk_at dksX2_isHad_4 15 rfl rfl)
theorem dX2_isHad_109 : decode cX2_isHad 109 = .ok (.ifCond .eq 21, 3) := dk_153 0 21 (dk_at dksX2_isHad_4 16 rfl rfl)
theorem dX2_isHad_112 : decode cX2_isHad 112 = .ok (.aload_n 0, 1) := dk_42 (dk_at dksX2_isHad_4 19 rfl rfl)
theorem dX2_isHad_113 : decode cX2_isHad 113 = .ok (.getfield 78, 3) := dk_180 0 78 (dk_at dksX2_isHad_4 20 rfl rfl)
theorem dX2_isHad_116 : decode cX2_isHad 116 = .ok (.iconst 2, 1) := dk_5 (dk_at dksX2_isHad_4 23 rfl rfl)
theorem dX2_isHad_117 : decode cX2_isHad 117 = .ok (.iload 4, 2) := dk_21 4 (dk_at dksX2_isHad_5 0 rfl rfl)
theorem dX2_isHad_119 : decode cX2_isHad 119 = .ok (.imul, 1) := dk_104 (dk_at dksX2_isHad_5 2 rfl rfl)
theorem dX2_isHad_120 : decode cX2_isHad 120 = .ok (.iconst 1, 1) := dk_4 (dk_at dksX2_isHad_5 3 rfl rfl)
theorem dX2_isHad_121 : decode cX2_isHad 121 = .ok (.iadd, 1) := dk_96 (dk_at dksX2_isHad_5 4 rfl rfl)
theorem dX2_isHad_122 : decode cX2_isHad 122 = .ok (.baload, 1) := dk_51 (dk_at dksX2_isHad_5 5 rfl rfl)
theorem dX2_isHad_123 : decode cX2_isHad 123 = .ok (.ifCond .eq 7, 3) := dk_153 0 7 (dk_at dksX2_isHad_5 6 rfl rfl)
theorem dX2_isHad_126 : decode cX2_isHad 126 = .ok (.iconst 1, 1) := dk_4 (dk_at dksX2_isHad_5 9 rfl rfl)
theorem dX2_isHad_127 : decode cX2_isHad 127 = .ok (.goto 4, 3) := dk_167 0 4 (dk_at dksX2_isHad_5 10 rfl rfl)
theorem dX2_isHad_130 : decode cX2_isHad 130 = .ok (.iconst 0, 1) := dk_3 (dk_at dksX2_isHad_5 13 rfl rfl)
theorem dX2_isHad_131 : decode cX2_isHad 131 = .ok (.bastore, 1) := dk_84 (dk_at dksX2_isHad_5 14 rfl rfl)
theorem dX2_isHad_132 : decode cX2_isHad 132 = .ok (.iinc 4 1, 3) := dk_132 4 1 (dk_at dksX2_isHad_5 15 rfl rfl)
theorem dX2_isHad_135 : decode cX2_isHad 135 = .ok (.goto (-89), 3) := dk_167 255 167 (dk_at dksX2_isHad_5 18 rfl rfl)
theorem dX2_isHad_138 : decode cX2_isHad 138 = .ok (.iinc 3 (-1), 3) := dk_132 3 255 (dk_at dksX2_isHad_5 21 rfl rfl)
theorem dX2_isHad_141 : decode cX2_isHad 141 = .ok (.goto (-102), 3) := dk_167 255 154 (dk_at dksX2_isHad_6 0 rfl rfl)
theorem dX2_isHad_144 : decode cX2_isHad 144 = .ok (.aload_n 0, 1) := dk_42 (dk_at dksX2_isHad_6 3 rfl rfl)
theorem dX2_isHad_145 : decode cX2_isHad 145 = .ok (.getfield 78, 3) := dk_180 0 78 (dk_at dksX2_isHad_6 4 rfl rfl)
theorem dX2_isHad_148 : decode cX2_isHad 148 = .ok (.iconst 0, 1) := dk_3 (dk_at dksX2_isHad_6 7 rfl rfl)
theorem dX2_isHad_149 : decode cX2_isHad 149 = .ok (.baload, 1) := dk_51 (dk_at dksX2_isHad_6 8 rfl rfl)
theorem dX2_isHad_150 : decode cX2_isHad 150 = .ok (.ireturn, 1) := dk_172 (dk_at dksX2_isHad_6 9 rfl rfl)
abbrev cX2_hasAnew : ByteArray := prog_17_method_65_code
def yX2_hasAnew : MethodName := ⟨RX2, "hasAnew", "(II)Z"⟩
def dkwX2_hasAnew_0 : List UInt8 := [42, 27, 28, 182, 0, 234, 172]
abbrev dktX2_hasAnew_0 : List UInt8 := dkwX2_hasAnew_0 ++ []
theorem dksX2_hasAnew_0 : cX2_hasAnew.data.toList.drop 0 = dktX2_hasAnew_0 := by decide +kernel
theorem dX2_hasAnew_0 : decode cX2_hasAnew 0 = .ok (.aload_n 0, 1) := dk_42 (dk_at dksX2_hasAnew_0 0 rfl rfl)
theorem dX2_hasAnew_1 : decode cX2_hasAnew 1 = .ok (.iload_n 1, 1) := dk_27 (dk_at dksX2_hasAnew_0 1 rfl rfl)
theorem dX2_hasAnew_2 : decode cX2_hasAnew 2 = .ok (.iload_n 2, 1) := dk_28 (dk_at dksX2_hasAnew_0 2 rfl rfl)
theorem dX2_hasAnew_3 : decode cX2_hasAnew 3 = .ok (.invokevirtual 234, 3) := dk_182 0 234 (dk_at dksX2_hasAnew_0 3 rfl rfl)
theorem dX2_hasAnew_6 : decode cX2_hasAnew 6 = .ok (.ireturn, 1) := dk_172 (dk_at dksX2_hasAnew_0 6 rfl rfl)
theorem q61 : (Jvm.Cond.initialized "ReversalCourtModel") ∈ lw_all := lw_g (lw_at lw_m1 9 rfl) rfl
theorem q1047 : (Jvm.Cond.selects "ReversalCourtModel" ({ cls := "java/lang/Object", name := "getClass", desc := "()Ljava/lang/Class;" } : Jvm.MethodName) ({ cls := "java/lang/Object", name := "getClass", desc := "()Ljava/lang/Class;" } : Jvm.MethodName)) ∈ lw_all := lw_g (lw_at lw_m5 35 rfl) rfl
theorem q1455 : (Jvm.Cond.instantiable "ReversalCourtModel" (32 : Nat)) ∈ lw_all := lw_g (lw_at lw_m6 203 rfl) rfl
theorem q1457 : (Jvm.Cond.instanceMethod ({ cls := "ReversalCourtModel", name := "<init>", desc := "()V" } : Jvm.MethodName)) ∈ lw_all := lw_g (lw_at lw_m6 205 rfl) rfl
theorem q1458 : (Jvm.Cond.code ({ cls := "ReversalCourtModel", name := "<init>", desc := "()V" } : Jvm.MethodName) prog_17_method_1_code (1 : Nat) (Option.none : Option Jvm.ClassFile.FieldType)) ∈ lw_all := lw_g (lw_at lw_m6 206 rfl) rfl
theorem q1459 : (Jvm.Cond.methodLink "ReversalCourtModel" (1 : Nat) ({ cls := "java/lang/Object", name := "<init>", desc := "()V" } : Jvm.MethodName)) ∈ lw_all := lw_g (lw_at lw_m6 207 rfl) rfl
theorem q1460 : (Jvm.Cond.fieldLink "ReversalCourtModel" (81 : Nat) "ReversalCourtModel" "thrown" "I") ∈ lw_all := lw_g (lw_at lw_m6 208 rfl) rfl
theorem q1461 : (Jvm.Cond.fieldLink "ReversalCourtModel" (96 : Nat) "ReversalCourtModel" "letters" "I") ∈ lw_all := lw_g (lw_at lw_m6 209 rfl) rfl
theorem q1462 : (Jvm.Cond.fieldLink "ReversalCourtModel" (7 : Nat) "ReversalCourtModel" "page" "[C") ∈ lw_all := lw_g (lw_at lw_m6 210 rfl) rfl
theorem q1463 : (Jvm.Cond.fieldLink "ReversalCourtModel" (103 : Nat) "ReversalCourtModel" "parts" "I") ∈ lw_all := lw_g (lw_at lw_m6 211 rfl) rfl
theorem q1464 : (Jvm.Cond.fieldLink "ReversalCourtModel" (13 : Nat) "ReversalCourtModel" "what" "[I") ∈ lw_all := lw_g (lw_at lw_m6 212 rfl) rfl
theorem q1465 : (Jvm.Cond.fieldLink "ReversalCourtModel" (17 : Nat) "ReversalCourtModel" "left" "[I") ∈ lw_all := lw_g (lw_at lw_m6 213 rfl) rfl
theorem q1466 : (Jvm.Cond.fieldLink "ReversalCourtModel" (20 : Nat) "ReversalCourtModel" "right" "[I") ∈ lw_all := lw_g (lw_at lw_m6 214 rfl) rfl
theorem q1467 : (Jvm.Cond.fieldLink "ReversalCourtModel" (23 : Nat) "ReversalCourtModel" "variable" "[I") ∈ lw_all := lw_g (lw_at lw_m6 215 rfl) rfl
theorem q1468 : (Jvm.Cond.fieldLink "ReversalCourtModel" (26 : Nat) "ReversalCourtModel" "bound" "[I") ∈ lw_all := lw_g (lw_at lw_m6 216 rfl) rfl
theorem q1469 : (Jvm.Cond.fieldLink "ReversalCourtModel" (29 : Nat) "ReversalCourtModel" "sigma" "[I") ∈ lw_all := lw_g (lw_at lw_m6 217 rfl) rfl
theorem q1470 : (Jvm.Cond.fieldLink "ReversalCourtModel" (32 : Nat) "ReversalCourtModel" "pi" "[I") ∈ lw_all := lw_g (lw_at lw_m6 218 rfl) rfl
theorem q1471 : (Jvm.Cond.fieldLink "ReversalCourtModel" (35 : Nat) "ReversalCourtModel" "free" "[I") ∈ lw_all := lw_g (lw_at lw_m6 219 rfl) rfl
theorem q1472 : (Jvm.Cond.fieldLink "ReversalCourtModel" (114 : Nat) "ReversalCourtModel" "begun" "I") ∈ lw_all := lw_g (lw_at lw_m6 220 rfl) rfl
theorem q1473 : (Jvm.Cond.fieldLink "ReversalCourtModel" (38 : Nat) "ReversalCourtModel" "kind" "[I") ∈ lw_all := lw_g (lw_at lw_m6 221 rfl) rfl
theorem q1474 : (Jvm.Cond.fieldLink "ReversalCourtModel" (41 : Nat) "ReversalCourtModel" "its" "[I") ∈ lw_all := lw_g (lw_at lw_m6 222 rfl) rfl
theorem q1475 : (Jvm.Cond.fieldLink "ReversalCourtModel" (44 : Nat) "ReversalCourtModel" "other" "[I") ∈ lw_all := lw_g (lw_at lw_m6 223 rfl) rfl
theorem q1476 : (Jvm.Cond.fieldLink "ReversalCourtModel" (121 : Nat) "ReversalCourtModel" "looks" "I") ∈ lw_all := lw_g (lw_at lw_m6 224 rfl) rfl
theorem q1477 : (Jvm.Cond.fieldLink "ReversalCourtModel" (47 : Nat) "ReversalCourtModel" "table" "[Z") ∈ lw_all := lw_g (lw_at lw_m6 225 rfl) rfl
theorem q1478 : (Jvm.Cond.fieldLink "ReversalCourtModel" (168 : Nat) "ReversalCourtModel" "principles" "I") ∈ lw_all := lw_g (lw_at lw_m6 226 rfl) rfl
theorem q1479 : (Jvm.Cond.fieldLink "ReversalCourtModel" (51 : Nat) "ReversalCourtModel" "hasSigma" "[I") ∈ lw_all := lw_g (lw_at lw_m6 227 rfl) rfl
theorem q1480 : (Jvm.Cond.fieldLink "ReversalCourtModel" (54 : Nat) "ReversalCourtModel" "hasPi" "[I") ∈ lw_all := lw_g (lw_at lw_m6 228 rfl) rfl
theorem q1481 : (Jvm.Cond.fieldLink "ReversalCourtModel" (177 : Nat) "ReversalCourtModel" "rules" "I") ∈ lw_all := lw_g (lw_at lw_m6 229 rfl) rfl
theorem q1482 : (Jvm.Cond.fieldLink "ReversalCourtModel" (57 : Nat) "ReversalCourtModel" "premises" "[I") ∈ lw_all := lw_g (lw_at lw_m6 230 rfl) rfl
theorem q1483 : (Jvm.Cond.fieldLink "ReversalCourtModel" (60 : Nat) "ReversalCourtModel" "conclusion" "[I") ∈ lw_all := lw_g (lw_at lw_m6 231 rfl) rfl
theorem q1484 : (Jvm.Cond.fieldLink "ReversalCourtModel" (180 : Nat) "ReversalCourtModel" "models" "I") ∈ lw_all := lw_g (lw_at lw_m6 232 rfl) rfl
theorem q1485 : (Jvm.Cond.fieldLink "ReversalCourtModel" (63 : Nat) "ReversalCourtModel" "model" "[I") ∈ lw_all := lw_g (lw_at lw_m6 233 rfl) rfl
theorem q1486 : (Jvm.Cond.fieldLink "ReversalCourtModel" (66 : Nat) "ReversalCourtModel" "steps" "[I") ∈ lw_all := lw_g (lw_at lw_m6 234 rfl) rfl
theorem q1487 : (Jvm.Cond.fieldLink "ReversalCourtModel" (204 : Nat) "ReversalCourtModel" "problems" "I") ∈ lw_all := lw_g (lw_at lw_m6 235 rfl) rfl
theorem q1488 : (Jvm.Cond.fieldLink "ReversalCourtModel" (69 : Nat) "ReversalCourtModel" "instances" "[I") ∈ lw_all := lw_g (lw_at lw_m6 236 rfl) rfl
theorem q1489 : (Jvm.Cond.fieldLink "ReversalCourtModel" (72 : Nat) "ReversalCourtModel" "answers" "[I") ∈ lw_all := lw_g (lw_at lw_m6 237 rfl) rfl
theorem q1490 : (Jvm.Cond.fieldLink "ReversalCourtModel" (75 : Nat) "ReversalCourtModel" "solves" "[I") ∈ lw_all := lw_g (lw_at lw_m6 238 rfl) rfl
theorem q1491 : (Jvm.Cond.fieldLink "ReversalCourtModel" (78 : Nat) "ReversalCourtModel" "wins" "[Z") ∈ lw_all := lw_g (lw_at lw_m6 239 rfl) rfl
theorem q1492 : (Jvm.Cond.lays "ReversalCourtModel" "ReversalCourtModel" "thrown" "I") ∈ lw_all := lw_g (lw_at lw_m7 0 rfl) rfl
theorem q1493 : (Jvm.Cond.soleField "ReversalCourtModel" "thrown") ∈ lw_all := lw_g (lw_at lw_m7 1 rfl) rfl
theorem q1494 : (Jvm.Cond.lays "ReversalCourtModel" "ReversalCourtModel" "letters" "I") ∈ lw_all := lw_g (lw_at lw_m7 2 rfl) rfl
theorem q1495 : (Jvm.Cond.soleField "ReversalCourtModel" "letters") ∈ lw_all := lw_g (lw_at lw_m7 3 rfl) rfl
theorem q1496 : (Jvm.Cond.laysFinal "ReversalCourtModel" "ReversalCourtModel" "page" "[C") ∈ lw_all := lw_g (lw_at lw_m7 4 rfl) rfl
theorem q1497 : (Jvm.Cond.soleField "ReversalCourtModel" "page") ∈ lw_all := lw_g (lw_at lw_m7 5 rfl) rfl
theorem q1498 : (Jvm.Cond.lays "ReversalCourtModel" "ReversalCourtModel" "parts" "I") ∈ lw_all := lw_g (lw_at lw_m7 6 rfl) rfl
theorem q1499 : (Jvm.Cond.soleField "ReversalCourtModel" "parts") ∈ lw_all := lw_g (lw_at lw_m7 7 rfl) rfl
theorem q1500 : (Jvm.Cond.laysFinal "ReversalCourtModel" "ReversalCourtModel" "what" "[I") ∈ lw_all := lw_g (lw_at lw_m7 8 rfl) rfl
theorem q1501 : (Jvm.Cond.soleField "ReversalCourtModel" "what") ∈ lw_all := lw_g (lw_at lw_m7 9 rfl) rfl
theorem q1502 : (Jvm.Cond.laysFinal "ReversalCourtModel" "ReversalCourtModel" "left" "[I") ∈ lw_all := lw_g (lw_at lw_m7 10 rfl) rfl
theorem q1503 : (Jvm.Cond.soleField "ReversalCourtModel" "left") ∈ lw_all := lw_g (lw_at lw_m7 11 rfl) rfl
theorem q1504 : (Jvm.Cond.laysFinal "ReversalCourtModel" "ReversalCourtModel" "right" "[I") ∈ lw_all := lw_g (lw_at lw_m7 12 rfl) rfl
theorem q1505 : (Jvm.Cond.soleField "ReversalCourtModel" "right") ∈ lw_all := lw_g (lw_at lw_m7 13 rfl) rfl
theorem q1506 : (Jvm.Cond.laysFinal "ReversalCourtModel" "ReversalCourtModel" "variable" "[I") ∈ lw_all := lw_g (lw_at lw_m7 14 rfl) rfl
theorem q1507 : (Jvm.Cond.soleField "ReversalCourtModel" "variable") ∈ lw_all := lw_g (lw_at lw_m7 15 rfl) rfl
theorem q1508 : (Jvm.Cond.laysFinal "ReversalCourtModel" "ReversalCourtModel" "bound" "[I") ∈ lw_all := lw_g (lw_at lw_m7 16 rfl) rfl
theorem q1509 : (Jvm.Cond.soleField "ReversalCourtModel" "bound") ∈ lw_all := lw_g (lw_at lw_m7 17 rfl) rfl
theorem q1510 : (Jvm.Cond.laysFinal "ReversalCourtModel" "ReversalCourtModel" "sigma" "[I") ∈ lw_all := lw_g (lw_at lw_m7 18 rfl) rfl
theorem q1511 : (Jvm.Cond.soleField "ReversalCourtModel" "sigma") ∈ lw_all := lw_g (lw_at lw_m7 19 rfl) rfl
theorem q1512 : (Jvm.Cond.laysFinal "ReversalCourtModel" "ReversalCourtModel" "pi" "[I") ∈ lw_all := lw_g (lw_at lw_m7 20 rfl) rfl
theorem q1513 : (Jvm.Cond.soleField "ReversalCourtModel" "pi") ∈ lw_all := lw_g (lw_at lw_m7 21 rfl) rfl
theorem q1514 : (Jvm.Cond.laysFinal "ReversalCourtModel" "ReversalCourtModel" "free" "[I") ∈ lw_all := lw_g (lw_at lw_m7 22 rfl) rfl
theorem q1515 : (Jvm.Cond.soleField "ReversalCourtModel" "free") ∈ lw_all := lw_g (lw_at lw_m7 23 rfl) rfl
theorem q1516 : (Jvm.Cond.lays "ReversalCourtModel" "ReversalCourtModel" "begun" "I") ∈ lw_all := lw_g (lw_at lw_m7 24 rfl) rfl
theorem q1517 : (Jvm.Cond.soleField "ReversalCourtModel" "begun") ∈ lw_all := lw_g (lw_at lw_m7 25 rfl) rfl
theorem q1518 : (Jvm.Cond.laysFinal "ReversalCourtModel" "ReversalCourtModel" "kind" "[I") ∈ lw_all := lw_g (lw_at lw_m7 26 rfl) rfl
theorem q1519 : (Jvm.Cond.soleField "ReversalCourtModel" "kind") ∈ lw_all := lw_g (lw_at lw_m7 27 rfl) rfl
theorem q1520 : (Jvm.Cond.laysFinal "ReversalCourtModel" "ReversalCourtModel" "its" "[I") ∈ lw_all := lw_g (lw_at lw_m7 28 rfl) rfl
theorem q1521 : (Jvm.Cond.soleField "ReversalCourtModel" "its") ∈ lw_all := lw_g (lw_at lw_m7 29 rfl) rfl
theorem q1522 : (Jvm.Cond.laysFinal "ReversalCourtModel" "ReversalCourtModel" "other" "[I") ∈ lw_all := lw_g (lw_at lw_m7 30 rfl) rfl
theorem q1523 : (Jvm.Cond.soleField "ReversalCourtModel" "other") ∈ lw_all := lw_g (lw_at lw_m7 31 rfl) rfl
theorem q1524 : (Jvm.Cond.lays "ReversalCourtModel" "ReversalCourtModel" "looks" "I") ∈ lw_all := lw_g (lw_at lw_m7 32 rfl) rfl
theorem q1525 : (Jvm.Cond.soleField "ReversalCourtModel" "looks") ∈ lw_all := lw_g (lw_at lw_m7 33 rfl) rfl
theorem q1526 : (Jvm.Cond.laysFinal "ReversalCourtModel" "ReversalCourtModel" "table" "[Z") ∈ lw_all := lw_g (lw_at lw_m7 34 rfl) rfl
theorem q1527 : (Jvm.Cond.soleField "ReversalCourtModel" "table") ∈ lw_all := lw_g (lw_at lw_m7 35 rfl) rfl
theorem q1528 : (Jvm.Cond.lays "ReversalCourtModel" "ReversalCourtModel" "principles" "I") ∈ lw_all := lw_g (lw_at lw_m7 36 rfl) rfl
theorem q1529 : (Jvm.Cond.soleField "ReversalCourtModel" "principles") ∈ lw_all := lw_g (lw_at lw_m7 37 rfl) rfl
theorem q1530 : (Jvm.Cond.laysFinal "ReversalCourtModel" "ReversalCourtModel" "hasSigma" "[I") ∈ lw_all := lw_g (lw_at lw_m7 38 rfl) rfl
theorem q1531 : (Jvm.Cond.soleField "ReversalCourtModel" "hasSigma") ∈ lw_all := lw_g (lw_at lw_m7 39 rfl) rfl
theorem q1532 : (Jvm.Cond.laysFinal "ReversalCourtModel" "ReversalCourtModel" "hasPi" "[I") ∈ lw_all := lw_g (lw_at lw_m7 40 rfl) rfl
theorem q1533 : (Jvm.Cond.soleField "ReversalCourtModel" "hasPi") ∈ lw_all := lw_g (lw_at lw_m7 41 rfl) rfl
theorem q1534 : (Jvm.Cond.lays "ReversalCourtModel" "ReversalCourtModel" "rules" "I") ∈ lw_all := lw_g (lw_at lw_m7 42 rfl) rfl
theorem q1535 : (Jvm.Cond.soleField "ReversalCourtModel" "rules") ∈ lw_all := lw_g (lw_at lw_m7 43 rfl) rfl
theorem q1536 : (Jvm.Cond.laysFinal "ReversalCourtModel" "ReversalCourtModel" "premises" "[I") ∈ lw_all := lw_g (lw_at lw_m7 44 rfl) rfl
theorem q1537 : (Jvm.Cond.soleField "ReversalCourtModel" "premises") ∈ lw_all := lw_g (lw_at lw_m7 45 rfl) rfl
theorem q1538 : (Jvm.Cond.laysFinal "ReversalCourtModel" "ReversalCourtModel" "conclusion" "[I") ∈ lw_all := lw_g (lw_at lw_m7 46 rfl) rfl
theorem q1539 : (Jvm.Cond.soleField "ReversalCourtModel" "conclusion") ∈ lw_all := lw_g (lw_at lw_m7 47 rfl) rfl
theorem q1540 : (Jvm.Cond.lays "ReversalCourtModel" "ReversalCourtModel" "models" "I") ∈ lw_all := lw_g (lw_at lw_m7 48 rfl) rfl
theorem q1541 : (Jvm.Cond.soleField "ReversalCourtModel" "models") ∈ lw_all := lw_g (lw_at lw_m7 49 rfl) rfl
theorem q1542 : (Jvm.Cond.laysFinal "ReversalCourtModel" "ReversalCourtModel" "model" "[I") ∈ lw_all := lw_g (lw_at lw_m7 50 rfl) rfl
theorem q1543 : (Jvm.Cond.soleField "ReversalCourtModel" "model") ∈ lw_all := lw_g (lw_at lw_m7 51 rfl) rfl
theorem q1544 : (Jvm.Cond.laysFinal "ReversalCourtModel" "ReversalCourtModel" "steps" "[I") ∈ lw_all := lw_g (lw_at lw_m7 52 rfl) rfl
theorem q1545 : (Jvm.Cond.soleField "ReversalCourtModel" "steps") ∈ lw_all := lw_g (lw_at lw_m7 53 rfl) rfl
theorem q1546 : (Jvm.Cond.lays "ReversalCourtModel" "ReversalCourtModel" "problems" "I") ∈ lw_all := lw_g (lw_at lw_m7 54 rfl) rfl
theorem q1547 : (Jvm.Cond.soleField "ReversalCourtModel" "problems") ∈ lw_all := lw_g (lw_at lw_m7 55 rfl) rfl
theorem q1548 : (Jvm.Cond.laysFinal "ReversalCourtModel" "ReversalCourtModel" "instances" "[I") ∈ lw_all := lw_g (lw_at lw_m7 56 rfl) rfl
theorem q1549 : (Jvm.Cond.soleField "ReversalCourtModel" "instances") ∈ lw_all := lw_g (lw_at lw_m7 57 rfl) rfl
theorem q1550 : (Jvm.Cond.laysFinal "ReversalCourtModel" "ReversalCourtModel" "answers" "[I") ∈ lw_all := lw_g (lw_at lw_m7 58 rfl) rfl
theorem q1551 : (Jvm.Cond.soleField "ReversalCourtModel" "answers") ∈ lw_all := lw_g (lw_at lw_m7 59 rfl) rfl
theorem q1552 : (Jvm.Cond.laysFinal "ReversalCourtModel" "ReversalCourtModel" "solves" "[I") ∈ lw_all := lw_g (lw_at lw_m7 60 rfl) rfl
theorem q1553 : (Jvm.Cond.soleField "ReversalCourtModel" "solves") ∈ lw_all := lw_g (lw_at lw_m7 61 rfl) rfl
theorem q1554 : (Jvm.Cond.laysFinal "ReversalCourtModel" "ReversalCourtModel" "wins" "[Z") ∈ lw_all := lw_g (lw_at lw_m7 62 rfl) rfl
theorem q1555 : (Jvm.Cond.soleField "ReversalCourtModel" "wins") ∈ lw_all := lw_g (lw_at lw_m7 63 rfl) rfl
theorem q1556 : (Jvm.Cond.superclass "ReversalCourtModel" "java/lang/Object") ∈ lw_all := lw_g (lw_at lw_m7 64 rfl) rfl
theorem q1560 : (Jvm.Cond.instanceMethod ({ cls := "ReversalCourtModel", name := "thrown", desc := "()I" } : Jvm.MethodName)) ∈ lw_all := lw_g (lw_at lw_m7 68 rfl) rfl
theorem q1561 : (Jvm.Cond.selects "ReversalCourtModel" ({ cls := "ReversalCourtModel", name := "thrown", desc := "()I" } : Jvm.MethodName) ({ cls := "ReversalCourtModel", name := "thrown", desc := "()I" } : Jvm.MethodName)) ∈ lw_all := lw_g (lw_at lw_m7 69 rfl) rfl
theorem q1562 : (Jvm.Cond.code ({ cls := "ReversalCourtModel", name := "thrown", desc := "()I" } : Jvm.MethodName) prog_17_method_2_code (1 : Nat) (Option.some Jvm.ClassFile.FieldType.int)) ∈ lw_all := lw_g (lw_at lw_m7 70 rfl) rfl
theorem q1564 : (Jvm.Cond.instanceMethod ({ cls := "ReversalCourtModel", name := "letter", desc := "(C)I" } : Jvm.MethodName)) ∈ lw_all := lw_g (lw_at lw_m7 72 rfl) rfl
theorem q1565 : (Jvm.Cond.selects "ReversalCourtModel" ({ cls := "ReversalCourtModel", name := "letter", desc := "(C)I" } : Jvm.MethodName) ({ cls := "ReversalCourtModel", name := "letter", desc := "(C)I" } : Jvm.MethodName)) ∈ lw_all := lw_g (lw_at lw_m7 73 rfl) rfl
theorem q1566 : (Jvm.Cond.code ({ cls := "ReversalCourtModel", name := "letter", desc := "(C)I" } : Jvm.MethodName) prog_17_method_7_code (3 : Nat) (Option.some Jvm.ClassFile.FieldType.int)) ∈ lw_all := lw_g (lw_at lw_m7 74 rfl) rfl
theorem q1567 : (Jvm.Cond.methodLink "ReversalCourtModel" (89 : Nat) ({ cls := "ReversalCourtModel", name := "variableOf", desc := "(C)I" } : Jvm.MethodName)) ∈ lw_all := lw_g (lw_at lw_m7 75 rfl) rfl
theorem q1568 : (Jvm.Cond.static ({ cls := "ReversalCourtModel", name := "variableOf", desc := "(C)I" } : Jvm.MethodName)) ∈ lw_all := lw_g (lw_at lw_m7 76 rfl) rfl
theorem q1569 : (Jvm.Cond.code ({ cls := "ReversalCourtModel", name := "variableOf", desc := "(C)I" } : Jvm.MethodName) prog_17_method_5_code (1 : Nat) (Option.some Jvm.ClassFile.FieldType.int)) ∈ lw_all := lw_g (lw_at lw_m7 77 rfl) rfl
theorem q1570 : (Jvm.Cond.methodLink "ReversalCourtModel" (85 : Nat) ({ cls := "ReversalCourtModel", name := "in", desc := "(III)Z" } : Jvm.MethodName)) ∈ lw_all := lw_g (lw_at lw_m7 78 rfl) rfl
theorem q1571 : (Jvm.Cond.static ({ cls := "ReversalCourtModel", name := "in", desc := "(III)Z" } : Jvm.MethodName)) ∈ lw_all := lw_g (lw_at lw_m7 79 rfl) rfl
theorem q1572 : (Jvm.Cond.code ({ cls := "ReversalCourtModel", name := "in", desc := "(III)Z" } : Jvm.MethodName) prog_17_method_4_code (3 : Nat) (Option.some Jvm.ClassFile.FieldType.boolean)) ∈ lw_all := lw_g (lw_at lw_m7 80 rfl) rfl
theorem q1573 : (Jvm.Cond.methodLink "ReversalCourtModel" (93 : Nat) ({ cls := "ReversalCourtModel", name := "kindOf", desc := "(C)I" } : Jvm.MethodName)) ∈ lw_all := lw_g (lw_at lw_m7 81 rfl) rfl
theorem q1574 : (Jvm.Cond.static ({ cls := "ReversalCourtModel", name := "kindOf", desc := "(C)I" } : Jvm.MethodName)) ∈ lw_all := lw_g (lw_at lw_m7 82 rfl) rfl
theorem q1575 : (Jvm.Cond.code ({ cls := "ReversalCourtModel", name := "kindOf", desc := "(C)I" } : Jvm.MethodName) prog_17_method_6_code (1 : Nat) (Option.some Jvm.ClassFile.FieldType.int)) ∈ lw_all := lw_g (lw_at lw_m7 83 rfl) rfl
theorem q1576 : (Jvm.Cond.methodLink "ReversalCourtModel" (99 : Nat) ({ cls := "ReversalCourtModel", name := "goesWell", desc := "(I)Z" } : Jvm.MethodName)) ∈ lw_all := lw_g (lw_at lw_m7 84 rfl) rfl
theorem q1577 : (Jvm.Cond.privateMethod ({ cls := "ReversalCourtModel", name := "goesWell", desc := "(I)Z" } : Jvm.MethodName)) ∈ lw_tbl := lw_at lw_m7 85 rfl
theorem q1578 : (Jvm.Cond.instanceMethod ({ cls := "ReversalCourtModel", name := "goesWell", desc := "(I)Z" } : Jvm.MethodName)) ∈ lw_all := lw_g (lw_at lw_m7 86 rfl) rfl
theorem q1579 : (Jvm.Cond.code ({ cls := "ReversalCourtModel", name := "goesWell", desc := "(I)Z" } : Jvm.MethodName) prog_17_method_3_code (2 : Nat) (Option.some Jvm.ClassFile.FieldType.boolean)) ∈ lw_all := lw_g (lw_at lw_m7 87 rfl) rfl
theorem q1581 : (Jvm.Cond.instanceMethod ({ cls := "ReversalCourtModel", name := "blank", desc := "()I" } : Jvm.MethodName)) ∈ lw_all := lw_g (lw_at lw_m7 89 rfl) rfl
theorem q1582 : (Jvm.Cond.selects "ReversalCourtModel" ({ cls := "ReversalCourtModel", name := "blank", desc := "()I" } : Jvm.MethodName) ({ cls := "ReversalCourtModel", name := "blank", desc := "()I" } : Jvm.MethodName)) ∈ lw_all := lw_g (lw_at lw_m7 90 rfl) rfl
theorem q1583 : (Jvm.Cond.code ({ cls := "ReversalCourtModel", name := "blank", desc := "()I" } : Jvm.MethodName) prog_17_method_8_code (2 : Nat) (Option.some Jvm.ClassFile.FieldType.int)) ∈ lw_all := lw_g (lw_at lw_m7 91 rfl) rfl
theorem q1585 : (Jvm.Cond.instanceMethod ({ cls := "ReversalCourtModel", name := "fault", desc := "()I" } : Jvm.MethodName)) ∈ lw_all := lw_g (lw_at lw_m7 93 rfl) rfl
theorem q1586 : (Jvm.Cond.selects "ReversalCourtModel" ({ cls := "ReversalCourtModel", name := "fault", desc := "()I" } : Jvm.MethodName) ({ cls := "ReversalCourtModel", name := "fault", desc := "()I" } : Jvm.MethodName)) ∈ lw_all := lw_g (lw_at lw_m7 94 rfl) rfl
theorem q1587 : (Jvm.Cond.code ({ cls := "ReversalCourtModel", name := "fault", desc := "()I" } : Jvm.MethodName) prog_17_method_19_code (1 : Nat) (Option.some Jvm.ClassFile.FieldType.int)) ∈ lw_all := lw_g (lw_at lw_m7 95 rfl) rfl
theorem q1588 : (Jvm.Cond.methodLink "ReversalCourtModel" (141 : Nat) ({ cls := "ReversalCourtModel", name := "read", desc := "()I" } : Jvm.MethodName)) ∈ lw_all := lw_g (lw_at lw_m7 96 rfl) rfl
theorem q1589 : (Jvm.Cond.privateMethod ({ cls := "ReversalCourtModel", name := "read", desc := "()I" } : Jvm.MethodName)) ∈ lw_tbl := lw_at lw_m7 97 rfl
theorem q1590 : (Jvm.Cond.instanceMethod ({ cls := "ReversalCourtModel", name := "read", desc := "()I" } : Jvm.MethodName)) ∈ lw_all := lw_g (lw_at lw_m7 98 rfl) rfl
theorem q1591 : (Jvm.Cond.code ({ cls := "ReversalCourtModel", name := "read", desc := "()I" } : Jvm.MethodName) prog_17_method_17_code (2 : Nat) (Option.some Jvm.ClassFile.FieldType.int)) ∈ lw_all := lw_g (lw_at lw_m7 99 rfl) rfl
theorem q1592 : (Jvm.Cond.methodLink "ReversalCourtModel" (138 : Nat) ({ cls := "ReversalCourtModel", name := "goesOn", desc := "(C)Z" } : Jvm.MethodName)) ∈ lw_all := lw_g (lw_at lw_m7 100 rfl) rfl
theorem q1593 : (Jvm.Cond.privateMethod ({ cls := "ReversalCourtModel", name := "goesOn", desc := "(C)Z" } : Jvm.MethodName)) ∈ lw_tbl := lw_at lw_m7 101 rfl
theorem q1594 : (Jvm.Cond.instanceMethod ({ cls := "ReversalCourtModel", name := "goesOn", desc := "(C)Z" } : Jvm.MethodName)) ∈ lw_all := lw_g (lw_at lw_m7 102 rfl) rfl
theorem q1595 : (Jvm.Cond.code ({ cls := "ReversalCourtModel", name := "goesOn", desc := "(C)Z" } : Jvm.MethodName) prog_17_method_16_code (3 : Nat) (Option.some Jvm.ClassFile.FieldType.boolean)) ∈ lw_all := lw_g (lw_at lw_m7 103 rfl) rfl
theorem q1596 : (Jvm.Cond.methodLink "ReversalCourtModel" (131 : Nat) ({ cls := "ReversalCourtModel", name := "startsWith", desc := "(C)Z" } : Jvm.MethodName)) ∈ lw_all := lw_g (lw_at lw_m7 104 rfl) rfl
theorem q1597 : (Jvm.Cond.privateMethod ({ cls := "ReversalCourtModel", name := "startsWith", desc := "(C)Z" } : Jvm.MethodName)) ∈ lw_tbl := lw_at lw_m7 105 rfl
theorem q1598 : (Jvm.Cond.instanceMethod ({ cls := "ReversalCourtModel", name := "startsWith", desc := "(C)Z" } : Jvm.MethodName)) ∈ lw_all := lw_g (lw_at lw_m7 106 rfl) rfl
theorem q1599 : (Jvm.Cond.code ({ cls := "ReversalCourtModel", name := "startsWith", desc := "(C)Z" } : Jvm.MethodName) prog_17_method_14_code (3 : Nat) (Option.some Jvm.ClassFile.FieldType.boolean)) ∈ lw_all := lw_g (lw_at lw_m7 107 rfl) rfl
theorem q1600 : (Jvm.Cond.methodLink "ReversalCourtModel" (124 : Nat) ({ cls := "ReversalCourtModel", name := "begin", desc := "(III)V" } : Jvm.MethodName)) ∈ lw_all := lw_g (lw_at lw_m7 108 rfl) rfl
theorem q1601 : (Jvm.Cond.privateMethod ({ cls := "ReversalCourtModel", name := "begin", desc := "(III)V" } : Jvm.MethodName)) ∈ lw_tbl := lw_at lw_m7 109 rfl
theorem q1602 : (Jvm.Cond.instanceMethod ({ cls := "ReversalCourtModel", name := "begin", desc := "(III)V" } : Jvm.MethodName)) ∈ lw_all := lw_g (lw_at lw_m7 110 rfl) rfl
theorem q1603 : (Jvm.Cond.code ({ cls := "ReversalCourtModel", name := "begin", desc := "(III)V" } : Jvm.MethodName) prog_17_method_12_code (4 : Nat) (Option.none : Option Jvm.ClassFile.FieldType)) ∈ lw_all := lw_g (lw_at lw_m7 111 rfl) rfl
theorem q1604 : (Jvm.Cond.methodLink "ReversalCourtModel" (117 : Nat) ({ cls := "ReversalCourtModel", name := "make", desc := "(IIIII)I" } : Jvm.MethodName)) ∈ lw_all := lw_g (lw_at lw_m7 112 rfl) rfl
theorem q1605 : (Jvm.Cond.privateMethod ({ cls := "ReversalCourtModel", name := "make", desc := "(IIIII)I" } : Jvm.MethodName)) ∈ lw_tbl := lw_at lw_m7 113 rfl
theorem q1606 : (Jvm.Cond.instanceMethod ({ cls := "ReversalCourtModel", name := "make", desc := "(IIIII)I" } : Jvm.MethodName)) ∈ lw_all := lw_g (lw_at lw_m7 114 rfl) rfl
theorem q1607 : (Jvm.Cond.code ({ cls := "ReversalCourtModel", name := "make", desc := "(IIIII)I" } : Jvm.MethodName) prog_17_method_9_code (6 : Nat) (Option.some Jvm.ClassFile.FieldType.int)) ∈ lw_all := lw_g (lw_at lw_m7 115 rfl) rfl
theorem q1608 : (Jvm.Cond.methodLink "ReversalCourtModel" (106 : Nat) ({ cls := "ReversalCourtModel", name := "measure", desc := "(I)V" } : Jvm.MethodName)) ∈ lw_all := lw_g (lw_at lw_m7 116 rfl) rfl
theorem q1609 : (Jvm.Cond.privateMethod ({ cls := "ReversalCourtModel", name := "measure", desc := "(I)V" } : Jvm.MethodName)) ∈ lw_tbl := lw_at lw_m7 117 rfl
theorem q1610 : (Jvm.Cond.instanceMethod ({ cls := "ReversalCourtModel", name := "measure", desc := "(I)V" } : Jvm.MethodName)) ∈ lw_all := lw_g (lw_at lw_m7 118 rfl) rfl
theorem q1611 : (Jvm.Cond.code ({ cls := "ReversalCourtModel", name := "measure", desc := "(I)V" } : Jvm.MethodName) prog_17_method_10_code (9 : Nat) (Option.none : Option Jvm.ClassFile.FieldType)) ∈ lw_all := lw_g (lw_at lw_m7 119 rfl) rfl
theorem q1612 : (Jvm.Cond.methodLink "ReversalCourtModel" (110 : Nat) ({ cls := "ReversalCourtModel", name := "lesser", desc := "(II)I" } : Jvm.MethodName)) ∈ lw_all := lw_g (lw_at lw_m7 120 rfl) rfl
theorem q1613 : (Jvm.Cond.static ({ cls := "ReversalCourtModel", name := "lesser", desc := "(II)I" } : Jvm.MethodName)) ∈ lw_all := lw_g (lw_at lw_m7 121 rfl) rfl
theorem q1614 : (Jvm.Cond.code ({ cls := "ReversalCourtModel", name := "lesser", desc := "(II)I" } : Jvm.MethodName) prog_17_method_11_code (3 : Nat) (Option.some Jvm.ClassFile.FieldType.int)) ∈ lw_all := lw_g (lw_at lw_m7 122 rfl) rfl
theorem q1615 : (Jvm.Cond.methodLink "ReversalCourtModel" (128 : Nat) ({ cls := "ReversalCourtModel", name := "end", desc := "(I)V" } : Jvm.MethodName)) ∈ lw_all := lw_g (lw_at lw_m7 123 rfl) rfl
theorem q1616 : (Jvm.Cond.privateMethod ({ cls := "ReversalCourtModel", name := "end", desc := "(I)V" } : Jvm.MethodName)) ∈ lw_tbl := lw_at lw_m7 124 rfl
theorem q1617 : (Jvm.Cond.instanceMethod ({ cls := "ReversalCourtModel", name := "end", desc := "(I)V" } : Jvm.MethodName)) ∈ lw_all := lw_g (lw_at lw_m7 125 rfl) rfl
theorem q1618 : (Jvm.Cond.code ({ cls := "ReversalCourtModel", name := "end", desc := "(I)V" } : Jvm.MethodName) prog_17_method_13_code (3 : Nat) (Option.none : Option Jvm.ClassFile.FieldType)) ∈ lw_all := lw_g (lw_at lw_m7 126 rfl) rfl
theorem q1619 : (Jvm.Cond.methodLink "ReversalCourtModel" (135 : Nat) ({ cls := "ReversalCourtModel", name := "names", desc := "(C)Z" } : Jvm.MethodName)) ∈ lw_all := lw_g (lw_at lw_m7 127 rfl) rfl
theorem q1620 : (Jvm.Cond.privateMethod ({ cls := "ReversalCourtModel", name := "names", desc := "(C)Z" } : Jvm.MethodName)) ∈ lw_tbl := lw_at lw_m7 128 rfl
theorem q1621 : (Jvm.Cond.instanceMethod ({ cls := "ReversalCourtModel", name := "names", desc := "(C)Z" } : Jvm.MethodName)) ∈ lw_all := lw_g (lw_at lw_m7 129 rfl) rfl
theorem q1622 : (Jvm.Cond.code ({ cls := "ReversalCourtModel", name := "names", desc := "(C)Z" } : Jvm.MethodName) prog_17_method_15_code (3 : Nat) (Option.some Jvm.ClassFile.FieldType.boolean)) ∈ lw_all := lw_g (lw_at lw_m7 130 rfl) rfl
theorem q1624 : (Jvm.Cond.instanceMethod ({ cls := "ReversalCourtModel", name := "sigma", desc := "()I" } : Jvm.MethodName)) ∈ lw_all := lw_g (lw_at lw_m7 132 rfl) rfl
theorem q1625 : (Jvm.Cond.selects "ReversalCourtModel" ({ cls := "ReversalCourtModel", name := "sigma", desc := "()I" } : Jvm.MethodName) ({ cls := "ReversalCourtModel", name := "sigma", desc := "()I" } : Jvm.MethodName)) ∈ lw_all := lw_g (lw_at lw_m7 133 rfl) rfl
theorem q1626 : (Jvm.Cond.code ({ cls := "ReversalCourtModel", name := "sigma", desc := "()I" } : Jvm.MethodName) prog_17_method_20_code (1 : Nat) (Option.some Jvm.ClassFile.FieldType.int)) ∈ lw_all := lw_g (lw_at lw_m7 134 rfl) rfl
theorem q1627 : (Jvm.Cond.methodLink "ReversalCourtModel" (145 : Nat) ({ cls := "ReversalCourtModel", name := "isFormula", desc := "()Z" } : Jvm.MethodName)) ∈ lw_all := lw_g (lw_at lw_m7 135 rfl) rfl
theorem q1628 : (Jvm.Cond.privateMethod ({ cls := "ReversalCourtModel", name := "isFormula", desc := "()Z" } : Jvm.MethodName)) ∈ lw_tbl := lw_at lw_m7 136 rfl
theorem q1629 : (Jvm.Cond.instanceMethod ({ cls := "ReversalCourtModel", name := "isFormula", desc := "()Z" } : Jvm.MethodName)) ∈ lw_all := lw_g (lw_at lw_m7 137 rfl) rfl
theorem q1630 : (Jvm.Cond.code ({ cls := "ReversalCourtModel", name := "isFormula", desc := "()Z" } : Jvm.MethodName) prog_17_method_18_code (1 : Nat) (Option.some Jvm.ClassFile.FieldType.boolean)) ∈ lw_all := lw_g (lw_at lw_m7 138 rfl) rfl
theorem q1632 : (Jvm.Cond.instanceMethod ({ cls := "ReversalCourtModel", name := "pi", desc := "()I" } : Jvm.MethodName)) ∈ lw_all := lw_g (lw_at lw_m7 140 rfl) rfl
theorem q1633 : (Jvm.Cond.selects "ReversalCourtModel" ({ cls := "ReversalCourtModel", name := "pi", desc := "()I" } : Jvm.MethodName) ({ cls := "ReversalCourtModel", name := "pi", desc := "()I" } : Jvm.MethodName)) ∈ lw_all := lw_g (lw_at lw_m7 141 rfl) rfl
theorem q1634 : (Jvm.Cond.code ({ cls := "ReversalCourtModel", name := "pi", desc := "()I" } : Jvm.MethodName) prog_17_method_21_code (1 : Nat) (Option.some Jvm.ClassFile.FieldType.int)) ∈ lw_all := lw_g (lw_at lw_m7 142 rfl) rfl
theorem q1636 : (Jvm.Cond.instanceMethod ({ cls := "ReversalCourtModel", name := "free", desc := "()I" } : Jvm.MethodName)) ∈ lw_all := lw_g (lw_at lw_m7 144 rfl) rfl
theorem q1637 : (Jvm.Cond.selects "ReversalCourtModel" ({ cls := "ReversalCourtModel", name := "free", desc := "()I" } : Jvm.MethodName) ({ cls := "ReversalCourtModel", name := "free", desc := "()I" } : Jvm.MethodName)) ∈ lw_all := lw_g (lw_at lw_m7 145 rfl) rfl
theorem q1638 : (Jvm.Cond.code ({ cls := "ReversalCourtModel", name := "free", desc := "()I" } : Jvm.MethodName) prog_17_method_22_code (1 : Nat) (Option.some Jvm.ClassFile.FieldType.int)) ∈ lw_all := lw_g (lw_at lw_m7 146 rfl) rfl
theorem q1640 : (Jvm.Cond.instanceMethod ({ cls := "ReversalCourtModel", name := "isSo", desc := "(IIII)Z" } : Jvm.MethodName)) ∈ lw_all := lw_g (lw_at lw_m7 148 rfl) rfl
theorem q1641 : (Jvm.Cond.selects "ReversalCourtModel" ({ cls := "ReversalCourtModel", name := "isSo", desc := "(IIII)Z" } : Jvm.MethodName) ({ cls := "ReversalCourtModel", name := "isSo", desc := "(IIII)Z" } : Jvm.MethodName)) ∈ lw_all := lw_g (lw_at lw_m7 149 rfl) rfl
theorem q1642 : (Jvm.Cond.code ({ cls := "ReversalCourtModel", name := "isSo", desc := "(IIII)Z" } : Jvm.MethodName) prog_17_method_29_code (6 : Nat) (Option.some Jvm.ClassFile.FieldType.boolean)) ∈ lw_all := lw_g (lw_at lw_m7 150 rfl) rfl
theorem q1643 : (Jvm.Cond.methodLink "ReversalCourtModel" (162 : Nat) ({ cls := "ReversalCourtModel", name := "quantifiers", desc := "()I" } : Jvm.MethodName)) ∈ lw_all := lw_g (lw_at lw_m7 151 rfl) rfl
theorem q1644 : (Jvm.Cond.privateMethod ({ cls := "ReversalCourtModel", name := "quantifiers", desc := "()I" } : Jvm.MethodName)) ∈ lw_tbl := lw_at lw_m7 152 rfl
theorem q1645 : (Jvm.Cond.instanceMethod ({ cls := "ReversalCourtModel", name := "quantifiers", desc := "()I" } : Jvm.MethodName)) ∈ lw_all := lw_g (lw_at lw_m7 153 rfl) rfl
theorem q1646 : (Jvm.Cond.code ({ cls := "ReversalCourtModel", name := "quantifiers", desc := "()I" } : Jvm.MethodName) prog_17_method_28_code (3 : Nat) (Option.some Jvm.ClassFile.FieldType.int)) ∈ lw_all := lw_g (lw_at lw_m7 154 rfl) rfl
theorem q1647 : (Jvm.Cond.methodLink "ReversalCourtModel" (165 : Nat) ({ cls := "ReversalCourtModel", name := "fill", desc := "(I)V" } : Jvm.MethodName)) ∈ lw_all := lw_g (lw_at lw_m7 155 rfl) rfl
theorem q1648 : (Jvm.Cond.privateMethod ({ cls := "ReversalCourtModel", name := "fill", desc := "(I)V" } : Jvm.MethodName)) ∈ lw_tbl := lw_at lw_m7 156 rfl
theorem q1649 : (Jvm.Cond.instanceMethod ({ cls := "ReversalCourtModel", name := "fill", desc := "(I)V" } : Jvm.MethodName)) ∈ lw_all := lw_g (lw_at lw_m7 157 rfl) rfl
theorem q1650 : (Jvm.Cond.code ({ cls := "ReversalCourtModel", name := "fill", desc := "(I)V" } : Jvm.MethodName) prog_17_method_27_code (5 : Nat) (Option.none : Option Jvm.ClassFile.FieldType)) ∈ lw_all := lw_g (lw_at lw_m7 158 rfl) rfl
theorem q1651 : (Jvm.Cond.methodLink "ReversalCourtModel" (153 : Nat) ({ cls := "ReversalCourtModel", name := "numberAt", desc := "(II)I" } : Jvm.MethodName)) ∈ lw_all := lw_g (lw_at lw_m7 159 rfl) rfl
theorem q1652 : (Jvm.Cond.static ({ cls := "ReversalCourtModel", name := "numberAt", desc := "(II)I" } : Jvm.MethodName)) ∈ lw_all := lw_g (lw_at lw_m7 160 rfl) rfl
theorem q1653 : (Jvm.Cond.code ({ cls := "ReversalCourtModel", name := "numberAt", desc := "(II)I" } : Jvm.MethodName) prog_17_method_24_code (2 : Nat) (Option.some Jvm.ClassFile.FieldType.int)) ∈ lw_all := lw_g (lw_at lw_m7 161 rfl) rfl
theorem q1654 : (Jvm.Cond.methodLink "ReversalCourtModel" (149 : Nat) ({ cls := "ReversalCourtModel", name := "power", desc := "(I)I" } : Jvm.MethodName)) ∈ lw_all := lw_g (lw_at lw_m7 162 rfl) rfl
theorem q1655 : (Jvm.Cond.static ({ cls := "ReversalCourtModel", name := "power", desc := "(I)I" } : Jvm.MethodName)) ∈ lw_all := lw_g (lw_at lw_m7 163 rfl) rfl
theorem q1656 : (Jvm.Cond.code ({ cls := "ReversalCourtModel", name := "power", desc := "(I)I" } : Jvm.MethodName) prog_17_method_23_code (1 : Nat) (Option.some Jvm.ClassFile.FieldType.int)) ∈ lw_all := lw_g (lw_at lw_m7 164 rfl) rfl
theorem q1657 : (Jvm.Cond.methodLink "ReversalCourtModel" (159 : Nat) ({ cls := "ReversalCourtModel", name := "isPartSo", desc := "(III)Z" } : Jvm.MethodName)) ∈ lw_all := lw_g (lw_at lw_m7 165 rfl) rfl
theorem q1658 : (Jvm.Cond.privateMethod ({ cls := "ReversalCourtModel", name := "isPartSo", desc := "(III)Z" } : Jvm.MethodName)) ∈ lw_tbl := lw_at lw_m7 166 rfl
theorem q1659 : (Jvm.Cond.instanceMethod ({ cls := "ReversalCourtModel", name := "isPartSo", desc := "(III)Z" } : Jvm.MethodName)) ∈ lw_all := lw_g (lw_at lw_m7 167 rfl) rfl
theorem q1660 : (Jvm.Cond.code ({ cls := "ReversalCourtModel", name := "isPartSo", desc := "(III)Z" } : Jvm.MethodName) prog_17_method_25_code (6 : Nat) (Option.some Jvm.ClassFile.FieldType.boolean)) ∈ lw_all := lw_g (lw_at lw_m7 168 rfl) rfl
theorem q1661 : (Jvm.Cond.methodLink "ReversalCourtModel" (156 : Nat) ({ cls := "ReversalCourtModel", name := "isSoFor", desc := "(III)Z" } : Jvm.MethodName)) ∈ lw_all := lw_g (lw_at lw_m7 169 rfl) rfl
theorem q1662 : (Jvm.Cond.privateMethod ({ cls := "ReversalCourtModel", name := "isSoFor", desc := "(III)Z" } : Jvm.MethodName)) ∈ lw_tbl := lw_at lw_m7 170 rfl
theorem q1663 : (Jvm.Cond.instanceMethod ({ cls := "ReversalCourtModel", name := "isSoFor", desc := "(III)Z" } : Jvm.MethodName)) ∈ lw_all := lw_g (lw_at lw_m7 171 rfl) rfl
theorem q1664 : (Jvm.Cond.code ({ cls := "ReversalCourtModel", name := "isSoFor", desc := "(III)Z" } : Jvm.MethodName) prog_17_method_26_code (10 : Nat) (Option.some Jvm.ClassFile.FieldType.boolean)) ∈ lw_all := lw_g (lw_at lw_m7 172 rfl) rfl
theorem q1666 : (Jvm.Cond.instanceMethod ({ cls := "ReversalCourtModel", name := "principle", desc := "()I" } : Jvm.MethodName)) ∈ lw_all := lw_g (lw_at lw_m7 174 rfl) rfl
theorem q1667 : (Jvm.Cond.selects "ReversalCourtModel" ({ cls := "ReversalCourtModel", name := "principle", desc := "()I" } : Jvm.MethodName) ({ cls := "ReversalCourtModel", name := "principle", desc := "()I" } : Jvm.MethodName)) ∈ lw_all := lw_g (lw_at lw_m7 175 rfl) rfl
theorem q1668 : (Jvm.Cond.code ({ cls := "ReversalCourtModel", name := "principle", desc := "()I" } : Jvm.MethodName) prog_17_method_30_code (2 : Nat) (Option.some Jvm.ClassFile.FieldType.int)) ∈ lw_all := lw_g (lw_at lw_m7 176 rfl) rfl
theorem q1670 : (Jvm.Cond.instanceMethod ({ cls := "ReversalCourtModel", name := "rule", desc := "(II)I" } : Jvm.MethodName)) ∈ lw_all := lw_g (lw_at lw_m7 178 rfl) rfl
theorem q1671 : (Jvm.Cond.selects "ReversalCourtModel" ({ cls := "ReversalCourtModel", name := "rule", desc := "(II)I" } : Jvm.MethodName) ({ cls := "ReversalCourtModel", name := "rule", desc := "(II)I" } : Jvm.MethodName)) ∈ lw_all := lw_g (lw_at lw_m7 179 rfl) rfl
theorem q1672 : (Jvm.Cond.code ({ cls := "ReversalCourtModel", name := "rule", desc := "(II)I" } : Jvm.MethodName) prog_17_method_34_code (7 : Nat) (Option.some Jvm.ClassFile.FieldType.int)) ∈ lw_all := lw_g (lw_at lw_m7 180 rfl) rfl
theorem q1673 : (Jvm.Cond.methodLink "ReversalCourtModel" (171 : Nat) ({ cls := "ReversalCourtModel", name := "isPrinciple", desc := "(I)Z" } : Jvm.MethodName)) ∈ lw_all := lw_g (lw_at lw_m7 181 rfl) rfl
theorem q1674 : (Jvm.Cond.privateMethod ({ cls := "ReversalCourtModel", name := "isPrinciple", desc := "(I)Z" } : Jvm.MethodName)) ∈ lw_tbl := lw_at lw_m7 182 rfl
theorem q1675 : (Jvm.Cond.instanceMethod ({ cls := "ReversalCourtModel", name := "isPrinciple", desc := "(I)Z" } : Jvm.MethodName)) ∈ lw_all := lw_g (lw_at lw_m7 183 rfl) rfl
theorem q1676 : (Jvm.Cond.code ({ cls := "ReversalCourtModel", name := "isPrinciple", desc := "(I)Z" } : Jvm.MethodName) prog_17_method_31_code (2 : Nat) (Option.some Jvm.ClassFile.FieldType.boolean)) ∈ lw_all := lw_g (lw_at lw_m7 184 rfl) rfl
theorem q1677 : (Jvm.Cond.methodLink "ReversalCourtModel" (174 : Nat) ({ cls := "ReversalCourtModel", name := "isSet", desc := "(I)Z" } : Jvm.MethodName)) ∈ lw_all := lw_g (lw_at lw_m7 185 rfl) rfl
theorem q1678 : (Jvm.Cond.privateMethod ({ cls := "ReversalCourtModel", name := "isSet", desc := "(I)Z" } : Jvm.MethodName)) ∈ lw_tbl := lw_at lw_m7 186 rfl
theorem q1679 : (Jvm.Cond.instanceMethod ({ cls := "ReversalCourtModel", name := "isSet", desc := "(I)Z" } : Jvm.MethodName)) ∈ lw_all := lw_g (lw_at lw_m7 187 rfl) rfl
theorem q1680 : (Jvm.Cond.code ({ cls := "ReversalCourtModel", name := "isSet", desc := "(I)Z" } : Jvm.MethodName) prog_17_method_32_code (2 : Nat) (Option.some Jvm.ClassFile.FieldType.boolean)) ∈ lw_all := lw_g (lw_at lw_m7 188 rfl) rfl
theorem q1681 : (Jvm.Cond.methodLink "ReversalCourtModel" (183 : Nat) ({ cls := "ReversalCourtModel", name := "breaks", desc := "(III)Z" } : Jvm.MethodName)) ∈ lw_all := lw_g (lw_at lw_m7 189 rfl) rfl
theorem q1682 : (Jvm.Cond.static ({ cls := "ReversalCourtModel", name := "breaks", desc := "(III)Z" } : Jvm.MethodName)) ∈ lw_all := lw_g (lw_at lw_m7 190 rfl) rfl
theorem q1683 : (Jvm.Cond.code ({ cls := "ReversalCourtModel", name := "breaks", desc := "(III)Z" } : Jvm.MethodName) prog_17_method_33_code (3 : Nat) (Option.some Jvm.ClassFile.FieldType.boolean)) ∈ lw_all := lw_g (lw_at lw_m7 191 rfl) rfl
theorem q1685 : (Jvm.Cond.instanceMethod ({ cls := "ReversalCourtModel", name := "model", desc := "(I)I" } : Jvm.MethodName)) ∈ lw_all := lw_g (lw_at lw_m7 193 rfl) rfl
theorem q1686 : (Jvm.Cond.selects "ReversalCourtModel" ({ cls := "ReversalCourtModel", name := "model", desc := "(I)I" } : Jvm.MethodName) ({ cls := "ReversalCourtModel", name := "model", desc := "(I)I" } : Jvm.MethodName)) ∈ lw_all := lw_g (lw_at lw_m7 194 rfl) rfl
theorem q1687 : (Jvm.Cond.code ({ cls := "ReversalCourtModel", name := "model", desc := "(I)I" } : Jvm.MethodName) prog_17_method_35_code (5 : Nat) (Option.some Jvm.ClassFile.FieldType.int)) ∈ lw_all := lw_g (lw_at lw_m7 195 rfl) rfl
theorem q1689 : (Jvm.Cond.instanceMethod ({ cls := "ReversalCourtModel", name := "proves", desc := "(I)I" } : Jvm.MethodName)) ∈ lw_all := lw_g (lw_at lw_m7 197 rfl) rfl
theorem q1690 : (Jvm.Cond.selects "ReversalCourtModel" ({ cls := "ReversalCourtModel", name := "proves", desc := "(I)I" } : Jvm.MethodName) ({ cls := "ReversalCourtModel", name := "proves", desc := "(I)I" } : Jvm.MethodName)) ∈ lw_all := lw_g (lw_at lw_m7 198 rfl) rfl
theorem q1691 : (Jvm.Cond.code ({ cls := "ReversalCourtModel", name := "proves", desc := "(I)I" } : Jvm.MethodName) prog_17_method_38_code (2 : Nat) (Option.some Jvm.ClassFile.FieldType.int)) ∈ lw_all := lw_g (lw_at lw_m7 199 rfl) rfl
theorem q1692 : (Jvm.Cond.methodLink "ReversalCourtModel" (189 : Nat) ({ cls := "ReversalCourtModel", name := "closed", desc := "(I)I" } : Jvm.MethodName)) ∈ lw_all := lw_g (lw_at lw_m7 200 rfl) rfl
theorem q1693 : (Jvm.Cond.privateMethod ({ cls := "ReversalCourtModel", name := "closed", desc := "(I)I" } : Jvm.MethodName)) ∈ lw_tbl := lw_at lw_m7 201 rfl
theorem q1694 : (Jvm.Cond.instanceMethod ({ cls := "ReversalCourtModel", name := "closed", desc := "(I)I" } : Jvm.MethodName)) ∈ lw_all := lw_g (lw_at lw_m7 202 rfl) rfl
theorem q1695 : (Jvm.Cond.code ({ cls := "ReversalCourtModel", name := "closed", desc := "(I)I" } : Jvm.MethodName) prog_17_method_37_code (4 : Nat) (Option.some Jvm.ClassFile.FieldType.int)) ∈ lw_all := lw_g (lw_at lw_m7 203 rfl) rfl
theorem q1696 : (Jvm.Cond.methodLink "ReversalCourtModel" (186 : Nat) ({ cls := "ReversalCourtModel", name := "nextRule", desc := "(I)I" } : Jvm.MethodName)) ∈ lw_all := lw_g (lw_at lw_m7 204 rfl) rfl
theorem q1697 : (Jvm.Cond.privateMethod ({ cls := "ReversalCourtModel", name := "nextRule", desc := "(I)I" } : Jvm.MethodName)) ∈ lw_tbl := lw_at lw_m7 205 rfl
theorem q1698 : (Jvm.Cond.instanceMethod ({ cls := "ReversalCourtModel", name := "nextRule", desc := "(I)I" } : Jvm.MethodName)) ∈ lw_all := lw_g (lw_at lw_m7 206 rfl) rfl
theorem q1699 : (Jvm.Cond.code ({ cls := "ReversalCourtModel", name := "nextRule", desc := "(I)I" } : Jvm.MethodName) prog_17_method_36_code (4 : Nat) (Option.some Jvm.ClassFile.FieldType.int)) ∈ lw_all := lw_g (lw_at lw_m7 207 rfl) rfl
theorem q1701 : (Jvm.Cond.instanceMethod ({ cls := "ReversalCourtModel", name := "proof", desc := "(III)I" } : Jvm.MethodName)) ∈ lw_all := lw_g (lw_at lw_m7 209 rfl) rfl
theorem q1702 : (Jvm.Cond.selects "ReversalCourtModel" ({ cls := "ReversalCourtModel", name := "proof", desc := "(III)I" } : Jvm.MethodName) ({ cls := "ReversalCourtModel", name := "proof", desc := "(III)I" } : Jvm.MethodName)) ∈ lw_all := lw_g (lw_at lw_m7 210 rfl) rfl
theorem q1703 : (Jvm.Cond.code ({ cls := "ReversalCourtModel", name := "proof", desc := "(III)I" } : Jvm.MethodName) prog_17_method_40_code (6 : Nat) (Option.some Jvm.ClassFile.FieldType.int)) ∈ lw_all := lw_g (lw_at lw_m7 211 rfl) rfl
theorem q1704 : (Jvm.Cond.methodLink "ReversalCourtModel" (192 : Nat) ({ cls := "ReversalCourtModel", name := "prove", desc := "(II)I" } : Jvm.MethodName)) ∈ lw_all := lw_g (lw_at lw_m7 212 rfl) rfl
theorem q1705 : (Jvm.Cond.privateMethod ({ cls := "ReversalCourtModel", name := "prove", desc := "(II)I" } : Jvm.MethodName)) ∈ lw_tbl := lw_at lw_m7 213 rfl
theorem q1706 : (Jvm.Cond.instanceMethod ({ cls := "ReversalCourtModel", name := "prove", desc := "(II)I" } : Jvm.MethodName)) ∈ lw_all := lw_g (lw_at lw_m7 214 rfl) rfl
theorem q1707 : (Jvm.Cond.code ({ cls := "ReversalCourtModel", name := "prove", desc := "(II)I" } : Jvm.MethodName) prog_17_method_39_code (8 : Nat) (Option.some Jvm.ClassFile.FieldType.int)) ∈ lw_all := lw_g (lw_at lw_m7 215 rfl) rfl
theorem q1709 : (Jvm.Cond.instanceMethod ({ cls := "ReversalCourtModel", name := "known", desc := "(II)I" } : Jvm.MethodName)) ∈ lw_all := lw_g (lw_at lw_m7 217 rfl) rfl
theorem q1710 : (Jvm.Cond.selects "ReversalCourtModel" ({ cls := "ReversalCourtModel", name := "known", desc := "(II)I" } : Jvm.MethodName) ({ cls := "ReversalCourtModel", name := "known", desc := "(II)I" } : Jvm.MethodName)) ∈ lw_all := lw_g (lw_at lw_m7 218 rfl) rfl
theorem q1711 : (Jvm.Cond.code ({ cls := "ReversalCourtModel", name := "known", desc := "(II)I" } : Jvm.MethodName) prog_17_method_42_code (4 : Nat) (Option.some Jvm.ClassFile.FieldType.int)) ∈ lw_all := lw_g (lw_at lw_m7 219 rfl) rfl
theorem q1712 : (Jvm.Cond.methodLink "ReversalCourtModel" (195 : Nat) ({ cls := "ReversalCourtModel", name := "knownOf", desc := "(II)I" } : Jvm.MethodName)) ∈ lw_all := lw_g (lw_at lw_m7 220 rfl) rfl
theorem q1713 : (Jvm.Cond.privateMethod ({ cls := "ReversalCourtModel", name := "knownOf", desc := "(II)I" } : Jvm.MethodName)) ∈ lw_tbl := lw_at lw_m7 221 rfl
theorem q1714 : (Jvm.Cond.instanceMethod ({ cls := "ReversalCourtModel", name := "knownOf", desc := "(II)I" } : Jvm.MethodName)) ∈ lw_all := lw_g (lw_at lw_m7 222 rfl) rfl
theorem q1715 : (Jvm.Cond.code ({ cls := "ReversalCourtModel", name := "knownOf", desc := "(II)I" } : Jvm.MethodName) prog_17_method_41_code (5 : Nat) (Option.some Jvm.ClassFile.FieldType.int)) ∈ lw_all := lw_g (lw_at lw_m7 223 rfl) rfl
theorem q1717 : (Jvm.Cond.instanceMethod ({ cls := "ReversalCourtModel", name := "open", desc := "()I" } : Jvm.MethodName)) ∈ lw_all := lw_g (lw_at lw_m7 225 rfl) rfl
theorem q1718 : (Jvm.Cond.selects "ReversalCourtModel" ({ cls := "ReversalCourtModel", name := "open", desc := "()I" } : Jvm.MethodName) ({ cls := "ReversalCourtModel", name := "open", desc := "()I" } : Jvm.MethodName)) ∈ lw_all := lw_g (lw_at lw_m7 226 rfl) rfl
theorem q1719 : (Jvm.Cond.code ({ cls := "ReversalCourtModel", name := "open", desc := "()I" } : Jvm.MethodName) prog_17_method_43_code (4 : Nat) (Option.some Jvm.ClassFile.FieldType.int)) ∈ lw_all := lw_g (lw_at lw_m7 227 rfl) rfl
theorem q1721 : (Jvm.Cond.instanceMethod ({ cls := "ReversalCourtModel", name := "least", desc := "(II)I" } : Jvm.MethodName)) ∈ lw_all := lw_g (lw_at lw_m7 229 rfl) rfl
theorem q1722 : (Jvm.Cond.selects "ReversalCourtModel" ({ cls := "ReversalCourtModel", name := "least", desc := "(II)I" } : Jvm.MethodName) ({ cls := "ReversalCourtModel", name := "least", desc := "(II)I" } : Jvm.MethodName)) ∈ lw_all := lw_g (lw_at lw_m7 230 rfl) rfl
theorem q1723 : (Jvm.Cond.code ({ cls := "ReversalCourtModel", name := "least", desc := "(II)I" } : Jvm.MethodName) prog_17_method_46_code (3 : Nat) (Option.some Jvm.ClassFile.FieldType.int)) ∈ lw_all := lw_g (lw_at lw_m7 231 rfl) rfl
theorem q1724 : (Jvm.Cond.methodLink "ReversalCourtModel" (201 : Nat) ({ cls := "ReversalCourtModel", name := "leastOf", desc := "(II)I" } : Jvm.MethodName)) ∈ lw_all := lw_g (lw_at lw_m7 232 rfl) rfl
theorem q1725 : (Jvm.Cond.privateMethod ({ cls := "ReversalCourtModel", name := "leastOf", desc := "(II)I" } : Jvm.MethodName)) ∈ lw_tbl := lw_at lw_m7 233 rfl
theorem q1726 : (Jvm.Cond.instanceMethod ({ cls := "ReversalCourtModel", name := "leastOf", desc := "(II)I" } : Jvm.MethodName)) ∈ lw_all := lw_g (lw_at lw_m7 234 rfl) rfl
theorem q1727 : (Jvm.Cond.code ({ cls := "ReversalCourtModel", name := "leastOf", desc := "(II)I" } : Jvm.MethodName) prog_17_method_45_code (7 : Nat) (Option.some Jvm.ClassFile.FieldType.int)) ∈ lw_all := lw_g (lw_at lw_m7 235 rfl) rfl
theorem q1728 : (Jvm.Cond.methodLink "ReversalCourtModel" (198 : Nat) ({ cls := "ReversalCourtModel", name := "bits", desc := "(I)I" } : Jvm.MethodName)) ∈ lw_all := lw_g (lw_at lw_m7 236 rfl) rfl
theorem q1729 : (Jvm.Cond.static ({ cls := "ReversalCourtModel", name := "bits", desc := "(I)I" } : Jvm.MethodName)) ∈ lw_all := lw_g (lw_at lw_m7 237 rfl) rfl
theorem q1730 : (Jvm.Cond.code ({ cls := "ReversalCourtModel", name := "bits", desc := "(I)I" } : Jvm.MethodName) prog_17_method_44_code (3 : Nat) (Option.some Jvm.ClassFile.FieldType.int)) ∈ lw_all := lw_g (lw_at lw_m7 238 rfl) rfl
theorem q1732 : (Jvm.Cond.instanceMethod ({ cls := "ReversalCourtModel", name := "leastAnew", desc := "(II)I" } : Jvm.MethodName)) ∈ lw_all := lw_g (lw_at lw_m8 0 rfl) rfl
theorem q1733 : (Jvm.Cond.selects "ReversalCourtModel" ({ cls := "ReversalCourtModel", name := "leastAnew", desc := "(II)I" } : Jvm.MethodName) ({ cls := "ReversalCourtModel", name := "leastAnew", desc := "(II)I" } : Jvm.MethodName)) ∈ lw_all := lw_g (lw_at lw_m8 1 rfl) rfl
theorem q1734 : (Jvm.Cond.code ({ cls := "ReversalCourtModel", name := "leastAnew", desc := "(II)I" } : Jvm.MethodName) prog_17_method_47_code (3 : Nat) (Option.some Jvm.ClassFile.FieldType.int)) ∈ lw_all := lw_g (lw_at lw_m8 2 rfl) rfl
theorem q1736 : (Jvm.Cond.instanceMethod ({ cls := "ReversalCourtModel", name := "ofPrinciple", desc := "(II)I" } : Jvm.MethodName)) ∈ lw_all := lw_g (lw_at lw_m8 4 rfl) rfl
theorem q1737 : (Jvm.Cond.selects "ReversalCourtModel" ({ cls := "ReversalCourtModel", name := "ofPrinciple", desc := "(II)I" } : Jvm.MethodName) ({ cls := "ReversalCourtModel", name := "ofPrinciple", desc := "(II)I" } : Jvm.MethodName)) ∈ lw_all := lw_g (lw_at lw_m8 5 rfl) rfl
theorem q1738 : (Jvm.Cond.code ({ cls := "ReversalCourtModel", name := "ofPrinciple", desc := "(II)I" } : Jvm.MethodName) prog_17_method_48_code (7 : Nat) (Option.some Jvm.ClassFile.FieldType.int)) ∈ lw_all := lw_g (lw_at lw_m8 6 rfl) rfl
theorem q1740 : (Jvm.Cond.instanceMethod ({ cls := "ReversalCourtModel", name := "problem", desc := "(III)I" } : Jvm.MethodName)) ∈ lw_all := lw_g (lw_at lw_m8 8 rfl) rfl
theorem q1741 : (Jvm.Cond.selects "ReversalCourtModel" ({ cls := "ReversalCourtModel", name := "problem", desc := "(III)I" } : Jvm.MethodName) ({ cls := "ReversalCourtModel", name := "problem", desc := "(III)I" } : Jvm.MethodName)) ∈ lw_all := lw_g (lw_at lw_m8 9 rfl) rfl
theorem q1742 : (Jvm.Cond.code ({ cls := "ReversalCourtModel", name := "problem", desc := "(III)I" } : Jvm.MethodName) prog_17_method_53_code (5 : Nat) (Option.some Jvm.ClassFile.FieldType.int)) ∈ lw_all := lw_g (lw_at lw_m8 10 rfl) rfl
theorem q1743 : (Jvm.Cond.methodLink "ReversalCourtModel" (210 : Nat) ({ cls := "ReversalCourtModel", name := "areAnswers", desc := "(III)Z" } : Jvm.MethodName)) ∈ lw_all := lw_g (lw_at lw_m8 11 rfl) rfl
theorem q1744 : (Jvm.Cond.static ({ cls := "ReversalCourtModel", name := "areAnswers", desc := "(III)Z" } : Jvm.MethodName)) ∈ lw_all := lw_g (lw_at lw_m8 12 rfl) rfl
theorem q1745 : (Jvm.Cond.code ({ cls := "ReversalCourtModel", name := "areAnswers", desc := "(III)Z" } : Jvm.MethodName) prog_17_method_51_code (8 : Nat) (Option.some Jvm.ClassFile.FieldType.boolean)) ∈ lw_all := lw_g (lw_at lw_m8 13 rfl) rfl
theorem q1746 : (Jvm.Cond.methodLink "ReversalCourtModel" (207 : Nat) ({ cls := "ReversalCourtModel", name := "isSolved", desc := "(III)Z" } : Jvm.MethodName)) ∈ lw_all := lw_g (lw_at lw_m8 14 rfl) rfl
theorem q1747 : (Jvm.Cond.static ({ cls := "ReversalCourtModel", name := "isSolved", desc := "(III)Z" } : Jvm.MethodName)) ∈ lw_all := lw_g (lw_at lw_m8 15 rfl) rfl
theorem q1748 : (Jvm.Cond.code ({ cls := "ReversalCourtModel", name := "isSolved", desc := "(III)Z" } : Jvm.MethodName) prog_17_method_50_code (3 : Nat) (Option.some Jvm.ClassFile.FieldType.boolean)) ∈ lw_all := lw_g (lw_at lw_m8 16 rfl) rfl
theorem q1749 : (Jvm.Cond.methodLink "ReversalCourtModel" (213 : Nat) ({ cls := "ReversalCourtModel", name := "addProblem", desc := "(III)I" } : Jvm.MethodName)) ∈ lw_all := lw_g (lw_at lw_m8 17 rfl) rfl
theorem q1750 : (Jvm.Cond.privateMethod ({ cls := "ReversalCourtModel", name := "addProblem", desc := "(III)I" } : Jvm.MethodName)) ∈ lw_tbl := lw_at lw_m8 18 rfl
theorem q1751 : (Jvm.Cond.instanceMethod ({ cls := "ReversalCourtModel", name := "addProblem", desc := "(III)I" } : Jvm.MethodName)) ∈ lw_all := lw_g (lw_at lw_m8 19 rfl) rfl
theorem q1752 : (Jvm.Cond.code ({ cls := "ReversalCourtModel", name := "addProblem", desc := "(III)I" } : Jvm.MethodName) prog_17_method_52_code (4 : Nat) (Option.some Jvm.ClassFile.FieldType.int)) ∈ lw_all := lw_g (lw_at lw_m8 20 rfl) rfl
theorem q1754 : (Jvm.Cond.instanceMethod ({ cls := "ReversalCourtModel", name := "product", desc := "(II)I" } : Jvm.MethodName)) ∈ lw_all := lw_g (lw_at lw_m8 22 rfl) rfl
theorem q1755 : (Jvm.Cond.selects "ReversalCourtModel" ({ cls := "ReversalCourtModel", name := "product", desc := "(II)I" } : Jvm.MethodName) ({ cls := "ReversalCourtModel", name := "product", desc := "(II)I" } : Jvm.MethodName)) ∈ lw_all := lw_g (lw_at lw_m8 23 rfl) rfl
theorem q1756 : (Jvm.Cond.code ({ cls := "ReversalCourtModel", name := "product", desc := "(II)I" } : Jvm.MethodName) prog_17_method_54_code (12 : Nat) (Option.some Jvm.ClassFile.FieldType.int)) ∈ lw_all := lw_g (lw_at lw_m8 24 rfl) rfl
theorem q1757 : (Jvm.Cond.methodLink "ReversalCourtModel" (217 : Nat) ({ cls := "ReversalCourtModel", name := "isProblem", desc := "(I)Z" } : Jvm.MethodName)) ∈ lw_all := lw_g (lw_at lw_m8 25 rfl) rfl
theorem q1758 : (Jvm.Cond.privateMethod ({ cls := "ReversalCourtModel", name := "isProblem", desc := "(I)Z" } : Jvm.MethodName)) ∈ lw_tbl := lw_at lw_m8 26 rfl
theorem q1759 : (Jvm.Cond.instanceMethod ({ cls := "ReversalCourtModel", name := "isProblem", desc := "(I)Z" } : Jvm.MethodName)) ∈ lw_all := lw_g (lw_at lw_m8 27 rfl) rfl
theorem q1760 : (Jvm.Cond.code ({ cls := "ReversalCourtModel", name := "isProblem", desc := "(I)Z" } : Jvm.MethodName) prog_17_method_49_code (2 : Nat) (Option.some Jvm.ClassFile.FieldType.boolean)) ∈ lw_all := lw_g (lw_at lw_m8 28 rfl) rfl
theorem q1762 : (Jvm.Cond.instanceMethod ({ cls := "ReversalCourtModel", name := "reduces", desc := "(II)I" } : Jvm.MethodName)) ∈ lw_all := lw_g (lw_at lw_m8 30 rfl) rfl
theorem q1763 : (Jvm.Cond.selects "ReversalCourtModel" ({ cls := "ReversalCourtModel", name := "reduces", desc := "(II)I" } : Jvm.MethodName) ({ cls := "ReversalCourtModel", name := "reduces", desc := "(II)I" } : Jvm.MethodName)) ∈ lw_all := lw_g (lw_at lw_m8 31 rfl) rfl
theorem q1764 : (Jvm.Cond.code ({ cls := "ReversalCourtModel", name := "reduces", desc := "(II)I" } : Jvm.MethodName) prog_17_method_58_code (3 : Nat) (Option.some Jvm.ClassFile.FieldType.int)) ∈ lw_all := lw_g (lw_at lw_m8 32 rfl) rfl
theorem q1765 : (Jvm.Cond.methodLink "ReversalCourtModel" (227 : Nat) ({ cls := "ReversalCourtModel", name := "codeOf", desc := "(II)I" } : Jvm.MethodName)) ∈ lw_all := lw_g (lw_at lw_m8 33 rfl) rfl
theorem q1766 : (Jvm.Cond.privateMethod ({ cls := "ReversalCourtModel", name := "codeOf", desc := "(II)I" } : Jvm.MethodName)) ∈ lw_tbl := lw_at lw_m8 34 rfl
theorem q1767 : (Jvm.Cond.instanceMethod ({ cls := "ReversalCourtModel", name := "codeOf", desc := "(II)I" } : Jvm.MethodName)) ∈ lw_all := lw_g (lw_at lw_m8 35 rfl) rfl
theorem q1768 : (Jvm.Cond.code ({ cls := "ReversalCourtModel", name := "codeOf", desc := "(II)I" } : Jvm.MethodName) prog_17_method_57_code (7 : Nat) (Option.some Jvm.ClassFile.FieldType.int)) ∈ lw_all := lw_g (lw_at lw_m8 36 rfl) rfl
theorem q1769 : (Jvm.Cond.methodLink "ReversalCourtModel" (223 : Nat) ({ cls := "ReversalCourtModel", name := "served", desc := "(IIII)I" } : Jvm.MethodName)) ∈ lw_all := lw_g (lw_at lw_m8 37 rfl) rfl
theorem q1770 : (Jvm.Cond.privateMethod ({ cls := "ReversalCourtModel", name := "served", desc := "(IIII)I" } : Jvm.MethodName)) ∈ lw_tbl := lw_at lw_m8 38 rfl
theorem q1771 : (Jvm.Cond.instanceMethod ({ cls := "ReversalCourtModel", name := "served", desc := "(IIII)I" } : Jvm.MethodName)) ∈ lw_all := lw_g (lw_at lw_m8 39 rfl) rfl
theorem q1772 : (Jvm.Cond.code ({ cls := "ReversalCourtModel", name := "served", desc := "(IIII)I" } : Jvm.MethodName) prog_17_method_56_code (9 : Nat) (Option.some Jvm.ClassFile.FieldType.int)) ∈ lw_all := lw_g (lw_at lw_m8 40 rfl) rfl
theorem q1773 : (Jvm.Cond.methodLink "ReversalCourtModel" (220 : Nat) ({ cls := "ReversalCourtModel", name := "given", desc := "(III)I" } : Jvm.MethodName)) ∈ lw_all := lw_g (lw_at lw_m8 41 rfl) rfl
theorem q1774 : (Jvm.Cond.static ({ cls := "ReversalCourtModel", name := "given", desc := "(III)I" } : Jvm.MethodName)) ∈ lw_all := lw_g (lw_at lw_m8 42 rfl) rfl
theorem q1775 : (Jvm.Cond.code ({ cls := "ReversalCourtModel", name := "given", desc := "(III)I" } : Jvm.MethodName) prog_17_method_55_code (5 : Nat) (Option.some Jvm.ClassFile.FieldType.int)) ∈ lw_all := lw_g (lw_at lw_m8 43 rfl) rfl
theorem q1777 : (Jvm.Cond.instanceMethod ({ cls := "ReversalCourtModel", name := "reducesAnew", desc := "(II)I" } : Jvm.MethodName)) ∈ lw_all := lw_g (lw_at lw_m8 45 rfl) rfl
theorem q1778 : (Jvm.Cond.selects "ReversalCourtModel" ({ cls := "ReversalCourtModel", name := "reducesAnew", desc := "(II)I" } : Jvm.MethodName) ({ cls := "ReversalCourtModel", name := "reducesAnew", desc := "(II)I" } : Jvm.MethodName)) ∈ lw_all := lw_g (lw_at lw_m8 46 rfl) rfl
theorem q1779 : (Jvm.Cond.code ({ cls := "ReversalCourtModel", name := "reducesAnew", desc := "(II)I" } : Jvm.MethodName) prog_17_method_59_code (3 : Nat) (Option.some Jvm.ClassFile.FieldType.int)) ∈ lw_all := lw_g (lw_at lw_m8 47 rfl) rfl
theorem q1781 : (Jvm.Cond.instanceMethod ({ cls := "ReversalCourtModel", name := "forth", desc := "(III)I" } : Jvm.MethodName)) ∈ lw_all := lw_g (lw_at lw_m8 49 rfl) rfl
theorem q1782 : (Jvm.Cond.selects "ReversalCourtModel" ({ cls := "ReversalCourtModel", name := "forth", desc := "(III)I" } : Jvm.MethodName) ({ cls := "ReversalCourtModel", name := "forth", desc := "(III)I" } : Jvm.MethodName)) ∈ lw_all := lw_g (lw_at lw_m8 50 rfl) rfl
theorem q1783 : (Jvm.Cond.code ({ cls := "ReversalCourtModel", name := "forth", desc := "(III)I" } : Jvm.MethodName) prog_17_method_60_code (6 : Nat) (Option.some Jvm.ClassFile.FieldType.int)) ∈ lw_all := lw_g (lw_at lw_m8 51 rfl) rfl
theorem q1785 : (Jvm.Cond.instanceMethod ({ cls := "ReversalCourtModel", name := "ofProblem", desc := "(II)I" } : Jvm.MethodName)) ∈ lw_all := lw_g (lw_at lw_m8 53 rfl) rfl
theorem q1786 : (Jvm.Cond.selects "ReversalCourtModel" ({ cls := "ReversalCourtModel", name := "ofProblem", desc := "(II)I" } : Jvm.MethodName) ({ cls := "ReversalCourtModel", name := "ofProblem", desc := "(II)I" } : Jvm.MethodName)) ∈ lw_all := lw_g (lw_at lw_m8 54 rfl) rfl
theorem q1787 : (Jvm.Cond.code ({ cls := "ReversalCourtModel", name := "ofProblem", desc := "(II)I" } : Jvm.MethodName) prog_17_method_61_code (4 : Nat) (Option.some Jvm.ClassFile.FieldType.int)) ∈ lw_all := lw_g (lw_at lw_m8 55 rfl) rfl
theorem q1789 : (Jvm.Cond.instanceMethod ({ cls := "ReversalCourtModel", name := "has", desc := "(II)Z" } : Jvm.MethodName)) ∈ lw_all := lw_g (lw_at lw_m8 57 rfl) rfl
theorem q1790 : (Jvm.Cond.selects "ReversalCourtModel" ({ cls := "ReversalCourtModel", name := "has", desc := "(II)Z" } : Jvm.MethodName) ({ cls := "ReversalCourtModel", name := "has", desc := "(II)Z" } : Jvm.MethodName)) ∈ lw_all := lw_g (lw_at lw_m8 58 rfl) rfl
theorem q1791 : (Jvm.Cond.code ({ cls := "ReversalCourtModel", name := "has", desc := "(II)Z" } : Jvm.MethodName) prog_17_method_64_code (3 : Nat) (Option.some Jvm.ClassFile.FieldType.boolean)) ∈ lw_all := lw_g (lw_at lw_m8 59 rfl) rfl
theorem q1792 : (Jvm.Cond.methodLink "ReversalCourtModel" (234 : Nat) ({ cls := "ReversalCourtModel", name := "ask", desc := "(II)Z" } : Jvm.MethodName)) ∈ lw_all := lw_g (lw_at lw_m8 60 rfl) rfl
theorem q1793 : (Jvm.Cond.privateMethod ({ cls := "ReversalCourtModel", name := "ask", desc := "(II)Z" } : Jvm.MethodName)) ∈ lw_tbl := lw_at lw_m8 61 rfl
theorem q1794 : (Jvm.Cond.instanceMethod ({ cls := "ReversalCourtModel", name := "ask", desc := "(II)Z" } : Jvm.MethodName)) ∈ lw_all := lw_g (lw_at lw_m8 62 rfl) rfl
theorem q1795 : (Jvm.Cond.code ({ cls := "ReversalCourtModel", name := "ask", desc := "(II)Z" } : Jvm.MethodName) prog_17_method_63_code (4 : Nat) (Option.some Jvm.ClassFile.FieldType.boolean)) ∈ lw_all := lw_g (lw_at lw_m8 63 rfl) rfl
theorem q1796 : (Jvm.Cond.methodLink "ReversalCourtModel" (230 : Nat) ({ cls := "ReversalCourtModel", name := "isHad", desc := "(II)Z" } : Jvm.MethodName)) ∈ lw_all := lw_g (lw_at lw_m8 64 rfl) rfl
theorem q1797 : (Jvm.Cond.privateMethod ({ cls := "ReversalCourtModel", name := "isHad", desc := "(II)Z" } : Jvm.MethodName)) ∈ lw_tbl := lw_at lw_m8 65 rfl
theorem q1798 : (Jvm.Cond.instanceMethod ({ cls := "ReversalCourtModel", name := "isHad", desc := "(II)Z" } : Jvm.MethodName)) ∈ lw_all := lw_g (lw_at lw_m8 66 rfl) rfl
theorem q1799 : (Jvm.Cond.code ({ cls := "ReversalCourtModel", name := "isHad", desc := "(II)Z" } : Jvm.MethodName) prog_17_method_62_code (5 : Nat) (Option.some Jvm.ClassFile.FieldType.boolean)) ∈ lw_all := lw_g (lw_at lw_m8 67 rfl) rfl
theorem q1801 : (Jvm.Cond.instanceMethod ({ cls := "ReversalCourtModel", name := "hasAnew", desc := "(II)Z" } : Jvm.MethodName)) ∈ lw_all := lw_g (lw_at lw_m8 69 rfl) rfl
theorem q1802 : (Jvm.Cond.selects "ReversalCourtModel" ({ cls := "ReversalCourtModel", name := "hasAnew", desc := "(II)Z" } : Jvm.MethodName) ({ cls := "ReversalCourtModel", name := "hasAnew", desc := "(II)Z" } : Jvm.MethodName)) ∈ lw_all := lw_g (lw_at lw_m8 70 rfl) rfl
theorem q1803 : (Jvm.Cond.code ({ cls := "ReversalCourtModel", name := "hasAnew", desc := "(II)Z" } : Jvm.MethodName) prog_17_method_65_code (3 : Nat) (Option.some Jvm.ClassFile.FieldType.boolean)) ∈ lw_all := lw_g (lw_at lw_m8 71 rfl) rfl
theorem q1828 : (Jvm.Cond.castable "ReversalCourtModel" "java/lang/Object") ∈ lw_tbl := lw_at lw_m8 96 rfl
theorem in_X2 : ∀ w ∈ wsX20, w ∈ lw_all := lw_in wsX20 [1492, 1494, 1496, 1498, 1500, 1502, 1504, 1506, 1508, 1510, 1512, 1514, 1516, 1518, 1520, 1522, 1524, 1526, 1528, 1530, 1532, 1534, 1536, 1538, 1540, 1542, 1544, 1546, 1548, 1550, 1552, 1554] (by decide +kernel) (by decide +kernel)
