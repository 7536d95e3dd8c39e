/-! JoinLoomModel -/
set_option maxRecDepth 100000
def RX4 : String := "JoinLoomModel"
def TX4 : u_T := fun k => match k with
  | 0 => ("JoinLoomModel", "columns", "[I", true)
  | 1 => ("JoinLoomModel", "many", "[I", true)
  | 2 => ("JoinLoomModel", "table", "[I", true)
  | 3 => ("JoinLoomModel", "names", "I", false)
  | 4 => ("JoinLoomModel", "parts", "I", false)
  | 5 => ("JoinLoomModel", "kind", "[I", true)
  | 6 => ("JoinLoomModel", "of", "[I", true)
  | 7 => ("JoinLoomModel", "places", "[I", true)
  | 8 => ("JoinLoomModel", "placeName", "[I", true)
  | 9 => ("JoinLoomModel", "placeValue", "[I", true)
  | 10 => ("JoinLoomModel", "order", "[I", true)
  | 11 => ("JoinLoomModel", "rows", "[I", true)
  | 12 => ("JoinLoomModel", "next", "[I", true)
  | 13 => ("JoinLoomModel", "rowMany", "I", false)
  | 14 => ("JoinLoomModel", "metMany", "[I", true)
  | 15 => ("JoinLoomModel", "wovenNames", "I", false)
  | 16 => ("JoinLoomModel", "wovenMany", "I", false)
  | 17 => ("JoinLoomModel", "wovenParts", "I", false)
  | 18 => ("JoinLoomModel", "woven", "[I", true)
  | 19 => ("JoinLoomModel", "wovenMet", "[I", true)
  | 20 => ("JoinLoomModel", "wovenRow", "[I", true)
  | 21 => ("JoinLoomModel", "wovenHas", "[Z", true)
  | 22 => ("JoinLoomModel", "keptNames", "I", false)
  | 23 => ("JoinLoomModel", "keptMany", "I", false)
  | 24 => ("JoinLoomModel", "kept", "[I", true)
  | 25 => ("JoinLoomModel", "at", "[I", true)
  | 26 => ("JoinLoomModel", "share", "[I", true)
  | 27 => ("JoinLoomModel", "cover", "[I", true)
  | 28 => ("JoinLoomModel", "was", "[I", true)
  | 29 => ("JoinLoomModel", "bestOrder", "[I", true)
  | _ => ("JoinLoomModel", "found", "[I", true)
def tyX4 : Nat → FieldType := fun k => match k with
  | 0 => .array .int
  | 1 => .array .int
  | 2 => .array .int
  | 3 => .int
  | 4 => .int
  | 5 => .array .int
  | 6 => .array .int
  | 7 => .array .int
  | 8 => .array .int
  | 9 => .array .int
  | 10 => .array .int
  | 11 => .array .int
  | 12 => .array .int
  | 13 => .int
  | 14 => .array .int
  | 15 => .int
  | 16 => .int
  | 17 => .int
  | 18 => .array .int
  | 19 => .array .int
  | 20 => .array .int
  | 21 => .array .boolean
  | 22 => .int
  | 23 => .int
  | 24 => .array .int
  | 25 => .array .int
  | 26 => .array .int
  | 27 => .array .int
  | 28 => .array .int
  | 29 => .array .int
  | _ => .array .int
abbrev wsX40 : List Cond := u_ws RX4 TX4 31
set_option maxRecDepth 100000 in
theorem nmX4 : ∀ a, a < 31 → ∀ b, b < 31 → a ≠ b → (TX4 a).2.1 ≠ (TX4 b).2.1 := by decide +kernel
set_option maxRecDepth 100000 in
theorem tyX4_ok : ∀ k, k < 31 → parseFieldDescriptor (TX4 k).2.2.1 = some (tyX4 k) := by decide +kernel
abbrev cX4_init : ByteArray := prog_13_method_1_code
def yX4_init : MethodName := ⟨RX4, "<init>", "()V"⟩
def dkwX4_init_8 : List UInt8 := [188, 10, 181, 0, 81, 42, 6, 188, 10, 181, 0, 84, 177]
abbrev dktX4_init_8 : List UInt8 := dkwX4_init_8 ++ []
def dkwX4_init_7 : List UInt8 := [188, 10, 181, 0, 72, 42, 16, 10, 188, 10, 181, 0, 75, 42, 16, 6, 188, 10, 181, 0, 78, 42, 16, 6]
abbrev dktX4_init_7 : List UInt8 := dkwX4_init_7 ++ dktX4_init_8
def dkwX4_init_6 : List UInt8 := [181, 0, 63, 42, 17, 11, 190, 188, 10, 181, 0, 66, 42, 16, 6, 188, 10, 181, 0, 69, 42, 16, 10]
abbrev dktX4_init_6 : List UInt8 := dkwX4_init_6 ++ dktX4_init_7
def dkwX4_init_5 : List UInt8 := [188, 10, 181, 0, 53, 42, 17, 19, 146, 188, 10, 181, 0, 56, 42, 16, 10, 188, 4, 181, 0, 59, 42, 2]
abbrev dktX4_init_5 : List UInt8 := dkwX4_init_5 ++ dktX4_init_6
def dkwX4_init_4 : List UInt8 := [16, 6, 188, 10, 181, 0, 43, 42, 2, 181, 0, 46, 42, 17, 11, 190, 188, 10, 181, 0, 50, 42, 16, 6]
abbrev dktX4_init_4 : List UInt8 := dkwX4_init_4 ++ dktX4_init_5
def dkwX4_init_3 : List UInt8 := [188, 10, 181, 0, 34, 42, 17, 11, 190, 188, 10, 181, 0, 37, 42, 17, 11, 190, 188, 10, 181, 0, 40, 42]
abbrev dktX4_init_3 : List UInt8 := dkwX4_init_3 ++ dktX4_init_4
def dkwX4_init_2 : List UInt8 := [188, 10, 181, 0, 25, 42, 16, 30, 188, 10, 181, 0, 28, 42, 16, 30, 188, 10, 181, 0, 31, 42, 16, 6]
abbrev dktX4_init_2 : List UInt8 := dkwX4_init_2 ++ dktX4_init_3
def dkwX4_init_1 : List UInt8 := [188, 10, 181, 0, 16, 42, 16, 10, 188, 10, 181, 0, 19, 42, 16, 10, 188, 10, 181, 0, 22, 42, 16, 10]
abbrev dktX4_init_1 : List UInt8 := dkwX4_init_1 ++ dktX4_init_2
def dkwX4_init_0 : List UInt8 := [42, 183, 0, 1, 42, 16, 8, 188, 10, 181, 0, 7, 42, 16, 8, 188, 10, 181, 0, 13, 42, 17, 3, 192]
abbrev dktX4_init_0 : List UInt8 := dkwX4_init_0 ++ dktX4_init_1
theorem dksX4_init_0 : cX4_init.data.toList.drop 0 = dktX4_init_0 := by decide +kernel
theorem dksX4_init_1 : cX4_init.data.toList.drop 24 = dktX4_init_1 := dk_seg dksX4_init_0 24 rfl rfl
theorem dksX4_init_2 : cX4_init.data.toList.drop 48 = dktX4_init_2 := dk_seg dksX4_init_1 24 rfl rfl
theorem dksX4_init_3 : cX4_init.data.toList.drop 72 = dktX4_init_3 := dk_seg dksX4_init_2 24 rfl rfl
theorem dksX4_init_4 : cX4_init.data.toList.drop 96 = dktX4_init_4 := dk_seg dksX4_init_3 24 rfl rfl
theorem dksX4_init_5 : cX4_init.data.toList.drop 120 = dktX4_init_5 := dk_seg dksX4_init_4 24 rfl rfl
theorem dksX4_init_6 : cX4_init.data.toList.drop 144 = dktX4_init_6 := dk_seg dksX4_init_5 24 rfl rfl
theorem dksX4_init_7 : cX4_init.data.toList.drop 167 = dktX4_init_7 := dk_seg dksX4_init_6 23 rfl rfl
theorem dksX4_init_8 : cX4_init.data.toList.drop 191 = dktX4_init_8 := dk_seg dksX4_init_7 24 rfl rfl
theorem dX4_init_0 : decode cX4_init 0 = .ok (.aload_n 0, 1) := dk_42 (dk_at dksX4_init_0 0 rfl rfl)
theorem dX4_init_1 : decode cX4_init 1 = .ok (.invokespecial 1, 3) := dk_183 0 1 (dk_at dksX4_init_0 1 rfl rfl)
theorem dX4_init_4 : decode cX4_init 4 = .ok (.aload_n 0, 1) := dk_42 (dk_at dksX4_init_0 4 rfl rfl)
theorem dX4_init_5 : decode cX4_init 5 = .ok (.bipush 8, 2) := dk_16 8 (dk_at dksX4_init_0 5 rfl rfl)
theorem dX4_init_7 : decode cX4_init 7 = .ok (.newarray .int, 2) := dk_188_10 (dk_at dksX4_init_0 7 rfl rfl)
theorem dX4_init_9 : decode cX4_init 9 = .ok (.putfield 7, 3) := dk_181 0 7 (dk_at dksX4_init_0 9 rfl rfl)
theorem dX4_init_12 : decode cX4_init 12 = .ok (.aload_n 0, 1) := dk_42 (dk_at dksX4_init_0 12 rfl rfl)
theorem dX4_init_13 : decode cX4_init 13 = .ok (.bipush 8, 2) := dk_16 8 (dk_at dksX4_init_0 13 rfl rfl)
theorem dX4_init_15 : decode cX4_init 15 = .ok (.newarray .int, 2) := dk_188_10 (dk_at dksX4_init_0 15 rfl rfl)
theorem dX4_init_17 : decode cX4_init 17 = .ok (.putfield 13, 3) := dk_181 0 13 (dk_at dksX4_init_0 17 rfl rfl)
theorem dX4_init_20 : decode cX4_init 20 = .ok (.aload_n 0, 1) := dk_42 (dk_at dksX4_init_0 20 rfl rfl)
theorem dX4_init_21 : decode cX4_init 21 = .ok (.sipush 960, 3) := dk_17 3 192 (dk_at dksX4_init_0 21 rfl rfl)
theorem dX4_init_24 : decode cX4_init 24 = .ok (.newarray .int, 2) := dk_188_10 (dk_at dksX4_init_1 0 rfl rfl)
theorem dX4_init_26 : decode cX4_init 26 = .ok (.putfield 16, 3) := dk_181 0 16 (dk_at dksX4_init_1 2 rfl rfl)
theorem dX4_init_29 : decode cX4_init 29 = .ok (.aload_n 0, 1) := dk_42 (dk_at dksX4_init_1 5 rfl rfl)
theorem dX4_init_30 : decode cX4_init 30 = .ok (.bipush 10, 2) := dk_16 10 (dk_at dksX4_init_1 6 rfl rfl)
theorem dX4_init_32 : decode cX4_init 32 = .ok (.newarray .int, 2) := dk_188_10 (dk_at dksX4_init_1 8 rfl rfl)
theorem dX4_init_34 : decode cX4_init 34 = .ok (.putfield 19, 3) := dk_181 0 19 (dk_at dksX4_init_1 10 rfl rfl)
theorem dX4_init_37 : decode cX4_init 37 = .ok (.aload_n 0, 1) := dk_42 (dk_at dksX4_init_1 13 rfl rfl)
theorem dX4_init_38 : decode cX4_init 38 = .ok (.bipush 10, 2) := dk_16 10 (dk_at dksX4_init_1 14 rfl rfl)
theorem dX4_init_40 : decode cX4_init 40 = .ok (.newarray .int, 2) := dk_188_10 (dk_at dksX4_init_1 16 rfl rfl)
theorem dX4_init_42 : decode cX4_init 42 = .ok (.putfield 22, 3) := dk_181 0 22 (dk_at dksX4_init_1 18 rfl rfl)
theorem dX4_init_45 : decode cX4_init 45 = .ok (.aload_n 0, 1) := dk_42 (dk_at dksX4_init_1 21 rfl rfl)
theorem dX4_init_46 : decode cX4_init 46 = .ok (.bipush 10, 2) := dk_16 10 (dk_at dksX4_init_1 22 rfl rfl)
theorem dX4_init_48 : decode cX4_init 48 = .ok (.newarray .int, 2) := dk_188_10 (dk_at dksX4_init_2 0 rfl rfl)
theorem dX4_init_50 : decode cX4_init 50 = .ok (.putfield 25, 3) := dk_181 0 25 (dk_at dksX4_init_2 2 rfl rfl)
theorem dX4_init_53 : decode cX4_init 53 = .ok (.aload_n 0, 1) := dk_42 (dk_at dksX4_init_2 5 rfl rfl)
theorem dX4_init_54 : decode cX4_init 54 = .ok (.bipush 30, 2) := dk_16 30 (dk_at dksX4_init_2 6 rfl rfl)
theorem dX4_init_56 : decode cX4_init 56 = .ok (.newarray .int, 2) := dk_188_10 (dk_at dksX4_init_2 8 rfl rfl)
theorem dX4_init_58 : decode cX4_init 58 = .ok (.putfield 28, 3) := dk_181 0 28 (dk_at dksX4_init_2 10 rfl rfl)
theorem dX4_init_61 : decode cX4_init 61 = .ok (.aload_n 0, 1) := dk_42 (dk_at dksX4_init_2 13 rfl rfl)
theorem dX4_init_62 : decode cX4_init 62 = .ok (.bipush 30, 2) := dk_16 30 (dk_at dksX4_init_2 14 rfl rfl)
theorem dX4_init_64 : decode cX4_init 64 = .ok (.newarray .int, 2) := dk_188_10 (dk_at dksX4_init_2 16 rfl rfl)
theorem dX4_init_66 : decode cX4_init 66 = .ok (.putfield 31, 3) := dk_181 0 31 (dk_at dksX4_init_2 18 rfl rfl)
theorem dX4_init_69 : decode cX4_init 69 = .ok (.aload_n 0, 1) := dk_42 (dk_at dksX4_init_2 21 rfl rfl)
theorem dX4_init_70 : decode cX4_init 70 = .ok (.bipush 6, 2) := dk_16 6 (dk_at dksX4_init_2 22 rfl rfl)
theorem dX4_init_72 : decode cX4_init 72 = .ok (.newarray .int, 2) := dk_188_10 (dk_at dksX4_init_3 0 rfl rfl)
theorem dX4_init_74 : decode cX4_init 74 = .ok (.putfield 34, 3) := dk_181 0 34 (dk_at dksX4_init_3 2 rfl rfl)
theorem dX4_init_77 : decode cX4_init 77 = .ok (.aload_n 0, 1) := dk_42 (dk_at dksX4_init_3 5 rfl rfl)
theorem dX4_init_78 : decode cX4_init 78 = .ok (.sipush 3006, 3) := dk_17 11 190 (dk_at dksX4_init_3 6 rfl rfl)
theorem dX4_init_81 : decode cX4_init 81 = .ok (.newarray .int, 2) := dk_188_10 (dk_at dksX4_init_3 9 rfl rfl)
theorem dX4_init_83 : decode cX4_init 83 = .ok (.putfield 37, 3) := dk_181 0 37 (dk_at dksX4_init_3 11 rfl rfl)
theorem dX4_init_86 : decode cX4_init 86 = .ok (.aload_n 0, 1) := dk_42 (dk_at dksX4_init_3 14 rfl rfl)
theorem dX4_init_87 : decode cX4_init 87 = .ok (.sipush 3006, 3) := dk_17 11 190 (dk_at dksX4_init_3 15 rfl rfl)
theorem dX4_init_90 : decode cX4_init 90 = .ok (.newarray .int, 2) := dk_188_10 (dk_at dksX4_init_3 18 rfl rfl)
theorem dX4_init_92 : decode cX4_init 92 = .ok (.putfield 40, 3) := dk_181 0 40 (dk_at dksX4_init_3 20 rfl rfl)
theorem dX4_init_95 : decode cX4_init 95 = .ok (.aload_n 0, 1) := dk_42 (dk_at dksX4_init_3 23 rfl rfl)
theorem dX4_init_96 : decode cX4_init 96 = .ok (.bipush 6, 2) := dk_16 6 (dk_at dksX4_init_4 0 rfl rfl)
theorem dX4_init_98 : decode cX4_init 98 = .ok (.newarray .int, 2) := dk_188_10 (dk_at dksX4_init_4 2 rfl rfl)
theorem dX4_init_100 : decode cX4_init 100 = .ok (.putfield 43, 3) := dk_181 0 43 (dk_at dksX4_init_4 4 rfl rfl)
theorem dX4_init_103 : decode cX4_init 103 = .ok (.aload_n 0, 1) := dk_42 (dk_at dksX4_init_4 7 rfl rfl)
theorem dX4_init_104 : decode cX4_init 104 = .ok (.iconst (-1), 1) := dk_2 (dk_at dksX4_init_4 8 rfl rfl)
theorem dX4_init_105 : decode cX4_init 105 = .ok (.putfield 46, 3) := dk_181 0 46 (dk_at dksX4_init_4 9 rfl rfl)
theorem dX4_init_108 : decode cX4_init 108 = .ok (.aload_n 0, 1) := dk_42 (dk_at dksX4_init_4 12 rfl rfl)
theorem dX4_init_109 : decode cX4_init 109 = .ok (.sipush 3006, 3) := dk_17 11 190 (dk_at dksX4_init_4 13 rfl rfl)
theorem dX4_init_112 : decode cX4_init 112 = .ok (.newarray .int, 2) := dk_188_10 (dk_at dksX4_init_4 16 rfl rfl)
theorem dX4_init_114 : decode cX4_init 114 = .ok (.putfield 50, 3) := dk_181 0 50 (dk_at dksX4_init_4 18 rfl rfl)
theorem dX4_init_117 : decode cX4_init 117 = .ok (.aload_n 0, 1) := dk_42 (dk_at dksX4_init_4 21 rfl rfl)
theorem dX4_init_118 : decode cX4_init 118 = .ok (.bipush 6, 2) := dk_16 6 (dk_at dksX4_init_4 22 rfl rfl)
theorem dX4_init_120 : decode cX4_init 120 = .ok (.newarray .int, 2) := dk_188_10 (dk_at dksX4_init_5 0 rfl rfl)
theorem dX4_init_122 : decode cX4_init 122 = .ok (.putfield 53, 3) := dk_181 0 53 (dk_at dksX4_init_5 2 rfl rfl)
theorem dX4_init_125 : decode cX4_init 125 = .ok (.aload_n 0, 1) := dk_42 (dk_at dksX4_init_5 5 rfl rfl)
theorem dX4_init_126 : decode cX4_init 126 = .ok (.sipush 5010, 3) := dk_17 19 146 (dk_at dksX4_init_5 6 rfl rfl)
theorem dX4_init_129 : decode cX4_init 129 = .ok (.newarray .int, 2) := dk_188_10 (dk_at dksX4_init_5 9 rfl rfl)
theorem dX4_init_131 : decode cX4_init 131 = .ok (.putfield 56, 3) := dk_181 0 56 (dk_at dksX4_init_5 11 rfl rfl)
theorem dX4_init_134 : decode cX4_init 134 = .ok (.aload_n 0, 1) := dk_42 (dk_at dksX4_init_5 14 rfl rfl)
theorem dX4_init_135 : decode cX4_init 135 = .ok (.bipush 10, 2) := dk_16 10 (dk_at dksX4_init_5 15 rfl rfl)
theorem dX4_init_137 : decode cX4_init 137 = .ok (.newarray .boolean, 2) := dk_188_4 (dk_at dksX4_init_5 17 rfl rfl)
theorem dX4_init_139 : decode cX4_init 139 = .ok (.putfield 59, 3) := dk_181 0 59 (dk_at dksX4_init_5 19 rfl rfl)
theorem dX4_init_142 : decode cX4_init 142 = .ok (.aload_n 0, 1) := dk_42 (dk_at dksX4_init_5 22 rfl rfl)
theorem dX4_init_143 : decode cX4_init 143 = .ok (.iconst (-1), 1) := dk_2 (dk_at dksX4_init_5 23 rfl rfl)
theorem dX4_init_144 : decode cX4_init 144 = .ok (.putfield 63, 3) := dk_181 0 63 (dk_at dksX4_init_6 0 rfl rfl)
theorem dX4_init_147 : decode cX4_init 147 = .ok (.aload_n 0, 1) := dk_42 (dk_at dksX4_init_6 3 rfl rfl)
theorem dX4_init_148 : decode cX4_init 148 = .ok (.sipush 3006, 3) := dk_17 11 190 (dk_at dksX4_init_6 4 rfl rfl)
theorem dX4_init_151 : decode cX4_init 151 = .ok (.newarray .int, 2) := dk_188_10 (dk_at dksX4_init_6 7 rfl rfl)
theorem dX4_init_153 : decode cX4_init 153 = .ok (.putfield 66, 3) := dk_181 0 66 (dk_at dksX4_init_6 9 rfl rfl)
theorem dX4_init_156 : decode cX4_init 156 = .ok (.aload_n 0, 1) := dk_42 (dk_at dksX4_init_6 12 rfl rfl)
theorem dX4_init_157 : decode cX4_init 157 = .ok (.bipush 6, 2) := dk_16 6 (dk_at dksX4_init_6 13 rfl rfl)
theorem dX4_init_159 : decode cX4_init 159 = .ok (.newarray .int, 2) := dk_188_10 (dk_at dksX4_init_6 15 rfl rfl)
theorem dX4_init_161 : decode cX4_init 161 = .ok (.putfield 69, 3) := dk_181 0 69 (dk_at dksX4_init_6 17 rfl rfl)
theorem dX4_init_164 : decode cX4_init 164 = .ok (.aload_n 0, 1) := dk_42 (dk_at dksX4_init_6 20 rfl rfl)
theorem dX4_init_165 : decode cX4_init 165 = .ok (.bipush 10, 2) := dk_16 10 (dk_at dksX4_init_6 21 rfl rfl)
theorem dX4_init_167 : decode cX4_init 167 = .ok (.newarray .int, 2) := dk_188_10 (dk_at dksX4_init_7 0 rfl rfl)
theorem dX4_init_169 : decode cX4_init 169 = .ok (.putfield 72, 3) := dk_181 0 72 (dk_at dksX4_init_7 2 rfl rfl)
theorem dX4_init_172 : decode cX4_init 172 = .ok (.aload_n 0, 1) := dk_42 (dk_at dksX4_init_7 5 rfl rfl)
theorem dX4_init_173 : decode cX4_init 173 = .ok (.bipush 10, 2) := dk_16 10 (dk_at dksX4_init_7 6 rfl rfl)
theorem dX4_init_175 : decode cX4_init 175 = .ok (.newarray .int, 2) := dk_188_10 (dk_at dksX4_init_7 8 rfl rfl)
theorem dX4_init_177 : decode cX4_init 177 = .ok (.putfield 75, 3) := dk_181 0 75 (dk_at dksX4_init_7 10 rfl rfl)
theorem dX4_init_180 : decode cX4_init 180 = .ok (.aload_n 0, 1) := dk_42 (dk_at dksX4_init_7 13 rfl rfl)
theorem dX4_init_181 : decode cX4_init 181 = .ok (.bipush 6, 2) := dk_16 6 (dk_at dksX4_init_7 14 rfl rfl)
theorem dX4_init_183 : decode cX4_init 183 = .ok (.newarray .int, 2) := dk_188_10 (dk_at dksX4_init_7 16 rfl rfl)
theorem dX4_init_185 : decode cX4_init 185 = .ok (.putfield 78, 3) := dk_181 0 78 (dk_at dksX4_init_7 18 rfl rfl)
theorem dX4_init_188 : decode cX4_init 188 = .ok (.aload_n 0, 1) := dk_42 (dk_at dksX4_init_7 21 rfl rfl)
theorem dX4_init_189 : decode cX4_init 189 = .ok (.bipush 6, 2) := dk_16 6 (dk_at dksX4_init_7 22 rfl rfl)
theorem dX4_init_191 : decode cX4_init 191 = .ok (.newarray .int, 2) := dk_188_10 (dk_at dksX4_init_8 0 rfl rfl)
theorem dX4_init_193 : decode cX4_init 193 = .ok (.putfield 81, 3) := dk_181 0 81 (dk_at dksX4_init_8 2 rfl rfl)
theorem dX4_init_196 : decode cX4_init 196 = .ok (.aload_n 0, 1) := dk_42 (dk_at dksX4_init_8 5 rfl rfl)
theorem dX4_init_197 : decode cX4_init 197 = .ok (.iconst 3, 1) := dk_6 (dk_at dksX4_init_8 6 rfl rfl)
theorem dX4_init_198 : decode cX4_init 198 = .ok (.newarray .int, 2) := dk_188_10 (dk_at dksX4_init_8 7 rfl rfl)
theorem dX4_init_200 : decode cX4_init 200 = .ok (.putfield 84, 3) := dk_181 0 84 (dk_at dksX4_init_8 9 rfl rfl)
theorem dX4_init_203 : decode cX4_init 203 = .ok (.return_, 1) := dk_177 (dk_at dksX4_init_8 12 rfl rfl)
abbrev cX4_table : ByteArray := prog_13_method_5_code
def yX4_table : MethodName := ⟨RX4, "table", "(II)Z"⟩
def dkwX4_table_3 : List UInt8 := [79, 4, 172]
abbrev dktX4_table_3 : List UInt8 := dkwX4_table_3 ++ []
def dkwX4_table_2 : List UInt8 := [160, 0, 5, 3, 172, 132, 3, 1, 167, 255, 223, 42, 180, 0, 7, 27, 28, 79, 42, 180, 0, 13, 27, 3]
abbrev dktX4_table_2 : List UInt8 := dkwX4_table_2 ++ dktX4_table_3
def dkwX4_table_1 : List UInt8 := [42, 180, 0, 92, 162, 0, 31, 42, 180, 0, 19, 29, 46, 4, 163, 0, 15, 42, 180, 0, 22, 29, 46, 27]
abbrev dktX4_table_1 : List UInt8 := dkwX4_table_1 ++ dktX4_table_2
def dkwX4_table_0 : List UInt8 := [27, 3, 16, 7, 184, 0, 88, 153, 0, 12, 28, 4, 6, 184, 0, 88, 154, 0, 5, 3, 172, 3, 62, 29]
abbrev dktX4_table_0 : List UInt8 := dkwX4_table_0 ++ dktX4_table_1
theorem dksX4_table_0 : cX4_table.data.toList.drop 0 = dktX4_table_0 := by decide +kernel
theorem dksX4_table_1 : cX4_table.data.toList.drop 24 = dktX4_table_1 := dk_seg dksX4_table_0 24 rfl rfl
theorem dksX4_table_2 : cX4_table.data.toList.drop 48 = dktX4_table_2 := dk_seg dksX4_table_1 24 rfl rfl
theorem dksX4_table_3 : cX4_table.data.toList.drop 72 = dktX4_table_3 := dk_seg dksX4_table_2 24 rfl rfl
theorem dX4_table_0 : decode cX4_table 0 = .ok (.iload_n 1, 1) := dk_27 (dk_at dksX4_table_0 0 rfl rfl)
theorem dX4_table_1 : decode cX4_table 1 = .ok (.iconst 0, 1) := dk_3 (dk_at dksX4_table_0 1 rfl rfl)
theorem dX4_table_2 : decode cX4_table 2 = .ok (.bipush 7, 2) := dk_16 7 (dk_at dksX4_table_0 2 rfl rfl)
theorem dX4_table_4 : decode cX4_table 4 = .ok (.invokestatic 88, 3) := dk_184 0 88 (dk_at dksX4_table_0 4 rfl rfl)
theorem dX4_table_7 : decode cX4_table 7 = .ok (.ifCond .eq 12, 3) := dk_153 0 12 (dk_at dksX4_table_0 7 rfl rfl)
theorem dX4_table_10 : decode cX4_table 10 = .ok (.iload_n 2, 1) := dk_28 (dk_at dksX4_table_0 10 rfl rfl)
theorem dX4_table_11 : decode cX4_table 11 = .ok (.iconst 1, 1) := dk_4 (dk_at dksX4_table_0 11 rfl rfl)
theorem dX4_table_12 : decode cX4_table 12 = .ok (.iconst 3, 1) := dk_6 (dk_at dksX4_table_0 12 rfl rfl)
theorem dX4_table_13 : decode cX4_table 13 = .ok (.invokestatic 88, 3) := dk_184 0 88 (dk_at dksX4_table_0 13 rfl rfl)
theorem dX4_table_16 : decode cX4_table 16 = .ok (.ifCond .ne 5, 3) := dk_154 0 5 (dk_at dksX4_table_0 16 rfl rfl)
theorem dX4_table_19 : decode cX4_table 19 = .ok (.iconst 0, 1) := dk_3 (dk_at dksX4_table_0 19 rfl rfl)
theorem dX4_table_20 : decode cX4_table 20 = .ok (.ireturn, 1) := dk_172 (dk_at dksX4_table_0 20 rfl rfl)
theorem dX4_table_21 : decode cX4_table 21 = .ok (.iconst 0, 1) := dk_3 (dk_at dksX4_table_0 21 rfl rfl)
theorem dX4_table_22 : decode cX4_table 22 = .ok (.istore_n 3, 1) := dk_62 (dk_at dksX4_table_0 22 rfl rfl)
theorem dX4_table_23 : decode cX4_table 23 = .ok (.iload_n 3, 1) := dk_29 (dk_at dksX4_table_0 23 rfl rfl)
theorem dX4_table_24 : decode cX4_table 24 = .ok (.aload_n 0, 1) := dk_42 (dk_at dksX4_table_1 0 rfl rfl)
theorem dX4_table_25 : decode cX4_table 25 = .ok (.getfield 92, 3) := dk_180 0 92 (dk_at dksX4_table_1 1 rfl rfl)
theorem dX4_table_28 : decode cX4_table 28 = .ok (.if_icmp .ge 31, 3) := dk_162 0 31 (dk_at dksX4_table_1 4 rfl rfl)
theorem dX4_table_31 : decode cX4_table 31 = .ok (.aload_n 0, 1) := dk_42 (dk_at dksX4_table_1 7 rfl rfl)
theorem dX4_table_32 : decode cX4_table 32 = .ok (.getfield 19, 3) := dk_180 0 19 (dk_at dksX4_table_1 8 rfl rfl)
theorem dX4_table_35 : decode cX4_table 35 = .ok (.iload_n 3, 1) := dk_29 (dk_at dksX4_table_1 11 rfl rfl)
theorem dX4_table_36 : decode cX4_table 36 = .ok (.iaload, 1) := dk_46 (dk_at dksX4_table_1 12 rfl rfl)
theorem dX4_table_37 : decode cX4_table 37 = .ok (.iconst 1, 1) := dk_4 (dk_at dksX4_table_1 13 rfl rfl)
theorem dX4_table_38 : decode cX4_table 38 = .ok (.if_icmp .gt 15, 3) := dk_163 0 15 (dk_at dksX4_table_1 14 rfl rfl)
theorem dX4_table_41 : decode cX4_table 41 = .ok (.aload_n 0, 1) := dk_42 (dk_at dksX4_table_1 17 rfl rfl)
theorem dX4_table_42 : decode cX4_table 42 = .ok (.getfield 22, 3) := dk_180 0 22 (dk_at dksX4_table_1 18 rfl rfl)
theorem dX4_table_45 : decode cX4_table 45 = .ok (.iload_n 3, 1) := dk_29 (dk_at dksX4_table_1 21 rfl rfl)
theorem dX4_table_46 : decode cX4_table 46 = .ok (.iaload, 1) := dk_46 (dk_at dksX4_table_1 22 rfl rfl)
theorem dX4_table_47 : decode cX4_table 47 = .ok (.iload_n 1, 1) := dk_27 (dk_at dksX4_table_1 23 rfl rfl)
theorem dX4_table_48 : decode cX4_table 48 = .ok (.if_icmp .ne 5, 3) := dk_160 0 5 (dk_at dksX4_table_2 0 rfl rfl)
theorem dX4_table_51 : decode cX4_table 51 = .ok (.iconst 0, 1) := dk_3 (dk_at dksX4_table_2 3 rfl rfl)
theorem dX4_table_52 : decode cX4_table 52 = .ok (.ireturn, 1) := dk_172 (dk_at dksX4_table_2 4 rfl rfl)
theorem dX4_table_53 : decode cX4_table 53 = .ok (.iinc 3 1, 3) := dk_132 3 1 (dk_at dksX4_table_2 5 rfl rfl)
theorem dX4_table_56 : decode cX4_table 56 = .ok (.goto (-33), 3) := dk_167 255 223 (dk_at dksX4_table_2 8 rfl rfl)
theorem dX4_table_59 : decode cX4_table 59 = .ok (.aload_n 0, 1) := dk_42 (dk_at dksX4_table_2 11 rfl rfl)
theorem dX4_table_60 : decode cX4_table 60 = .ok (.getfield 7, 3) := dk_180 0 7 (dk_at dksX4_table_2 12 rfl rfl)
theorem dX4_table_63 : decode cX4_table 63 = .ok (.iload_n 1, 1) := dk_27 (dk_at dksX4_table_2 15 rfl rfl)
theorem dX4_table_64 : decode cX4_table 64 = .ok (.iload_n 2, 1) := dk_28 (dk_at dksX4_table_2 16 rfl rfl)
theorem dX4_table_65 : decode cX4_table 65 = .ok (.iastore, 1) := dk_79 (dk_at dksX4_table_2 17 rfl rfl)
theorem dX4_table_66 : decode cX4_table 66 = .ok (.aload_n 0, 1) := dk_42 (dk_at dksX4_table_2 18 rfl rfl)
theorem dX4_table_67 : decode cX4_table 67 = .ok (.getfield 13, 3) := dk_180 0 13 (dk_at dksX4_table_2 19 rfl rfl)
theorem dX4_table_70 : decode cX4_table 70 = .ok (.iload_n 1, 1) := dk_27 (dk_at dksX4_table_2 22 rfl rfl)
theorem dX4_table_71 : decode cX4_table 71 = .ok (.iconst 0, 1) := dk_3 (dk_at dksX4_table_2 23 rfl rfl)
theorem dX4_table_72 : decode cX4_table 72 = .ok (.iastore, 1) := dk_79 (dk_at dksX4_table_3 0 rfl rfl)
theorem dX4_table_73 : decode cX4_table 73 = .ok (.iconst 1, 1) := dk_4 (dk_at dksX4_table_3 1 rfl rfl)
theorem dX4_table_74 : decode cX4_table 74 = .ok (.ireturn, 1) := dk_172 (dk_at dksX4_table_3 2 rfl rfl)
abbrev cX4_lies : ByteArray := prog_13_method_2_code
def yX4_lies : MethodName := ⟨RX4, "lies", "(III)Z"⟩
def dkwX4_lies_0 : List UInt8 := [26, 27, 161, 0, 12, 26, 28, 163, 0, 7, 4, 167, 0, 4, 3, 172]
abbrev dktX4_lies_0 : List UInt8 := dkwX4_lies_0 ++ []
theorem dksX4_lies_0 : cX4_lies.data.toList.drop 0 = dktX4_lies_0 := by decide +kernel
theorem dX4_lies_0 : decode cX4_lies 0 = .ok (.iload_n 0, 1) := dk_26 (dk_at dksX4_lies_0 0 rfl rfl)
theorem dX4_lies_1 : decode cX4_lies 1 = .ok (.iload_n 1, 1) := dk_27 (dk_at dksX4_lies_0 1 rfl rfl)
theorem dX4_lies_2 : decode cX4_lies 2 = .ok (.if_icmp .lt 12, 3) := dk_161 0 12 (dk_at dksX4_lies_0 2 rfl rfl)
theorem dX4_lies_5 : decode cX4_lies 5 = .ok (.iload_n 0, 1) := dk_26 (dk_at dksX4_lies_0 5 rfl rfl)
theorem dX4_lies_6 : decode cX4_lies 6 = .ok (.iload_n 2, 1) := dk_28 (dk_at dksX4_lies_0 6 rfl rfl)
theorem dX4_lies_7 : decode cX4_lies 7 = .ok (.if_icmp .gt 7, 3) := dk_163 0 7 (dk_at dksX4_lies_0 7 rfl rfl)
theorem dX4_lies_10 : decode cX4_lies 10 = .ok (.iconst 1, 1) := dk_4 (dk_at dksX4_lies_0 10 rfl rfl)
theorem dX4_lies_11 : decode cX4_lies 11 = .ok (.goto 4, 3) := dk_167 0 4 (dk_at dksX4_lies_0 11 rfl rfl)
theorem dX4_lies_14 : decode cX4_lies 14 = .ok (.iconst 0, 1) := dk_3 (dk_at dksX4_lies_0 14 rfl rfl)
theorem dX4_lies_15 : decode cX4_lies 15 = .ok (.ireturn, 1) := dk_172 (dk_at dksX4_lies_0 15 rfl rfl)
abbrev cX4_put : ByteArray := prog_13_method_10_code
def yX4_put : MethodName := ⟨RX4, "put", "(IIII)I"⟩
def dkwX4_put_6 : List UInt8 := [4, 172]
abbrev dktX4_put_6 : List UInt8 := dkwX4_put_6 ++ []
def dkwX4_put_5 : List UInt8 := [16, 120, 27, 104, 6, 21, 5, 104, 96, 5, 96, 21, 4, 79, 42, 180, 0, 13, 27, 92, 46, 4, 96, 79]
abbrev dktX4_put_5 : List UInt8 := dkwX4_put_5 ++ dktX4_put_6
def dkwX4_put_4 : List UInt8 := [96, 28, 79, 42, 180, 0, 16, 16, 120, 27, 104, 6, 21, 5, 104, 96, 4, 96, 29, 79, 42, 180, 0, 16]
abbrev dktX4_put_4 : List UInt8 := dkwX4_put_4 ++ dktX4_put_5
def dkwX4_put_3 : List UInt8 := [100, 21, 5, 182, 0, 115, 132, 5, 255, 167, 255, 221, 42, 180, 0, 16, 16, 120, 27, 104, 6, 21, 5, 104]
abbrev dktX4_put_3 : List UInt8 := dkwX4_put_3 ++ dktX4_put_4
def dkwX4_put_2 : List UInt8 := [158, 0, 36, 42, 27, 21, 5, 4, 100, 28, 29, 21, 4, 182, 0, 103, 158, 0, 20, 42, 27, 21, 5, 4]
abbrev dktX4_put_2 : List UInt8 := dkwX4_put_2 ++ dktX4_put_3
def dkwX4_put_1 : List UInt8 := [172, 42, 180, 0, 13, 27, 46, 16, 40, 160, 0, 5, 2, 172, 42, 180, 0, 13, 27, 46, 54, 5, 21, 5]
abbrev dktX4_put_1 : List UInt8 := dkwX4_put_1 ++ dktX4_put_2
def dkwX4_put_0 : List UInt8 := [42, 27, 182, 0, 107, 154, 0, 5, 2, 172, 42, 27, 28, 29, 21, 4, 182, 0, 111, 2, 159, 0, 5, 3]
abbrev dktX4_put_0 : List UInt8 := dkwX4_put_0 ++ dktX4_put_1
theorem dksX4_put_0 : cX4_put.data.toList.drop 0 = dktX4_put_0 := by decide +kernel
theorem dksX4_put_1 : cX4_put.data.toList.drop 24 = dktX4_put_1 := dk_seg dksX4_put_0 24 rfl rfl
theorem dksX4_put_2 : cX4_put.data.toList.drop 48 = dktX4_put_2 := dk_seg dksX4_put_1 24 rfl rfl
theorem dksX4_put_3 : cX4_put.data.toList.drop 72 = dktX4_put_3 := dk_seg dksX4_put_2 24 rfl rfl
theorem dksX4_put_4 : cX4_put.data.toList.drop 96 = dktX4_put_4 := dk_seg dksX4_put_3 24 rfl rfl
theorem dksX4_put_5 : cX4_put.data.toList.drop 120 = dktX4_put_5 := dk_seg dksX4_put_4 24 rfl rfl
theorem dksX4_put_6 : cX4_put.data.toList.drop 144 = dktX4_put_6 := dk_seg dksX4_put_5 24 rfl rfl
theorem dX4_put_0 : decode cX4_put 0 = .ok (.aload_n 0, 1) := dk_42 (dk_at dksX4_put_0 0 rfl rfl)
theorem dX4_put_1 : decode cX4_put 1 = .ok (.iload_n 1, 1) := dk_27 (dk_at dksX4_put_0 1 rfl rfl)
theorem dX4_put_2 : decode cX4_put 2 = .ok (.invokevirtual 107, 3) := dk_182 0 107 (dk_at dksX4_put_0 2 rfl rfl)
theorem dX4_put_5 : decode cX4_put 5 = .ok (.ifCond .ne 5, 3) := dk_154 0 5 (dk_at dksX4_put_0 5 rfl rfl)
theorem dX4_put_8 : decode cX4_put 8 = .ok (.iconst (-1), 1) := dk_2 (dk_at dksX4_put_0 8 rfl rfl)
theorem dX4_put_9 : decode cX4_put 9 = .ok (.ireturn, 1) := dk_172 (dk_at dksX4_put_0 9 rfl rfl)
theorem dX4_put_10 : decode cX4_put 10 = .ok (.aload_n 0, 1) := dk_42 (dk_at dksX4_put_0 10 rfl rfl)
theorem dX4_put_11 : decode cX4_put 11 = .ok (.iload_n 1, 1) := dk_27 (dk_at dksX4_put_0 11 rfl rfl)
theorem dX4_put_12 : decode cX4_put 12 = .ok (.iload_n 2, 1) := dk_28 (dk_at dksX4_put_0 12 rfl rfl)
theorem dX4_put_13 : decode cX4_put 13 = .ok (.iload_n 3, 1) := dk_29 (dk_at dksX4_put_0 13 rfl rfl)
theorem dX4_put_14 : decode cX4_put 14 = .ok (.iload 4, 2) := dk_21 4 (dk_at dksX4_put_0 14 rfl rfl)
theorem dX4_put_16 : decode cX4_put 16 = .ok (.invokevirtual 111, 3) := dk_182 0 111 (dk_at dksX4_put_0 16 rfl rfl)
theorem dX4_put_19 : decode cX4_put 19 = .ok (.iconst (-1), 1) := dk_2 (dk_at dksX4_put_0 19 rfl rfl)
theorem dX4_put_20 : decode cX4_put 20 = .ok (.if_icmp .eq 5, 3) := dk_159 0 5 (dk_at dksX4_put_0 20 rfl rfl)
theorem dX4_put_23 : decode cX4_put 23 = .ok (.iconst 0, 1) := dk_3 (dk_at dksX4_put_0 23 rfl rfl)
theorem dX4_put_24 : decode cX4_put 24 = .ok (.ireturn, 1) := dk_172 (dk_at dksX4_put_1 0 rfl rfl)
theorem dX4_put_25 : decode cX4_put 25 = .ok (.aload_n 0, 1) := dk_42 (dk_at dksX4_put_1 1 rfl rfl)
theorem dX4_put_26 : decode cX4_put 26 = .ok (.getfield 13, 3) := dk_180 0 13 (dk_at dksX4_put_1 2 rfl rfl)
theorem dX4_put_29 : decode cX4_put 29 = .ok (.iload_n 1, 1) := dk_27 (dk_at dksX4_put_1 5 rfl rfl)
theorem dX4_put_30 : decode cX4_put 30 = .ok (.iaload, 1) := dk_46 (dk_at dksX4_put_1 6 rfl rfl)
theorem dX4_put_31 : decode cX4_put 31 = .ok (.bipush 40, 2) := dk_16 40 (dk_at dksX4_put_1 7 rfl rfl)
theorem dX4_put_33 : decode cX4_put 33 = .ok (.if_icmp .ne 5, 3) := dk_160 0 5 (dk_at dksX4_put_1 9 rfl rfl)
theorem dX4_put_36 : decode cX4_put 36 = .ok (.iconst (-1), 1) := dk_2 (dk_at dksX4_put_1 12 rfl rfl)
theorem dX4_put_37 : decode cX4_put 37 = .ok (.ireturn, 1) := dk_172 (dk_at dksX4_put_1 13 rfl rfl)
theorem dX4_put_38 : decode cX4_put 38 = .ok (.aload_n 0, 1) := dk_42 (dk_at dksX4_put_1 14 rfl rfl)
theorem dX4_put_39 : decode cX4_put 39 = .ok (.getfield 13, 3) := dk_180 0 13 (dk_at dksX4_put_1 15 rfl rfl)
theorem dX4_put_42 : decode cX4_put 42 = .ok (.iload_n 1, 1) := dk_27 (dk_at dksX4_put_1 18 rfl rfl)
theorem dX4_put_43 : decode cX4_put 43 = .ok (.iaload, 1) := dk_46 (dk_at dksX4_put_1 19 rfl rfl)
theorem dX4_put_44 : decode cX4_put 44 = .ok (.istore 5, 2) := dk_54 5 (dk_at dksX4_put_1 20 rfl rfl)
theorem dX4_put_46 : decode cX4_put 46 = .ok (.iload 5, 2) := dk_21 5 (dk_at dksX4_put_1 22 rfl rfl)
theorem dX4_put_48 : decode cX4_put 48 = .ok (.ifCond .le 36, 3) := dk_158 0 36 (dk_at dksX4_put_2 0 rfl rfl)
theorem dX4_put_51 : decode cX4_put 51 = .ok (.aload_n 0, 1) := dk_42 (dk_at dksX4_put_2 3 rfl rfl)
theorem dX4_put_52 : decode cX4_put 52 = .ok (.iload_n 1, 1) := dk_27 (dk_at dksX4_put_2 4 rfl rfl)
theorem dX4_put_53 : decode cX4_put 53 = .ok (.iload 5, 2) := dk_21 5 (dk_at dksX4_put_2 5 rfl rfl)
theorem dX4_put_55 : decode cX4_put 55 = .ok (.iconst 1, 1) := dk_4 (dk_at dksX4_put_2 7 rfl rfl)
theorem dX4_put_56 : decode cX4_put 56 = .ok (.isub, 1) := dk_100 (dk_at dksX4_put_2 8 rfl rfl)
theorem dX4_put_57 : decode cX4_put 57 = .ok (.iload_n 2, 1) := dk_28 (dk_at dksX4_put_2 9 rfl rfl)
theorem dX4_put_58 : decode cX4_put 58 = .ok (.iload_n 3, 1) := dk_29 (dk_at dksX4_put_2 10 rfl rfl)
theorem dX4_put_59 : decode cX4_put 59 = .ok (.iload 4, 2) := dk_21 4 (dk_at dksX4_put_2 11 rfl rfl)
theorem dX4_put_61 : decode cX4_put 61 = .ok (.invokevirtual 103, 3) := dk_182 0 103 (dk_at dksX4_put_2 13 rfl rfl)
theorem dX4_put_64 : decode cX4_put 64 = .ok (.ifCond .le 20, 3) := dk_158 0 20 (dk_at dksX4_put_2 16 rfl rfl)
theorem dX4_put_67 : decode cX4_put 67 = .ok (.aload_n 0, 1) := dk_42 (dk_at dksX4_put_2 19 rfl rfl)
theorem dX4_put_68 : decode cX4_put 68 = .ok (.iload_n 1, 1) := dk_27 (dk_at dksX4_put_2 20 rfl rfl)
theorem dX4_put_69 : decode cX4_put 69 = .ok (.iload 5, 2) := dk_21 5 (dk_at dksX4_put_2 21 rfl rfl)
theorem dX4_put_71 : decode cX4_put 71 = .ok (.iconst 1, 1) := dk_4 (dk_at dksX4_put_2 23 rfl rfl)
theorem dX4_put_72 : decode cX4_put 72 = .ok (.isub, 1) := dk_100 (dk_at dksX4_put_3 0 rfl rfl)
theorem dX4_put_73 : decode cX4_put 73 = .ok (.iload 5, 2) := dk_21 5 (dk_at dksX4_put_3 1 rfl rfl)
theorem dX4_put_75 : decode cX4_put 75 = .ok (.invokevirtual 115, 3) := dk_182 0 115 (dk_at dksX4_put_3 3 rfl rfl)
theorem dX4_put_78 : decode cX4_put 78 = .ok (.iinc 5 (-1), 3) := dk_132 5 255 (dk_at dksX4_put_3 6 rfl rfl)
theorem dX4_put_81 : decode cX4_put 81 = .ok (.goto (-35), 3) := dk_167 255 221 (dk_at dksX4_put_3 9 rfl rfl)
theorem dX4_put_84 : decode cX4_put 84 = .ok (.aload_n 0, 1) := dk_42 (dk_at dksX4_put_3 12 rfl rfl)
theorem dX4_put_85 : decode cX4_put 85 = .ok (.getfield 16, 3) := dk_180 0 16 (dk_at dksX4_put_3 13 rfl rfl)
theorem dX4_put_88 : decode cX4_put 88 = .ok (.bipush 120, 2) := dk_16 120 (dk_at dksX4_put_3 16 rfl rfl)
theorem dX4_put_90 : decode cX4_put 90 = .ok (.iload_n 1, 1) := dk_27 (dk_at dksX4_put_3 18 rfl rfl)
theorem dX4_put_91 : decode cX4_put 91 = .ok (.imul, 1) := dk_104 (dk_at dksX4_put_3 19 rfl rfl)
theorem dX4_put_92 : decode cX4_put 92 = .ok (.iconst 3, 1) := dk_6 (dk_at dksX4_put_3 20 rfl rfl)
theorem dX4_put_93 : decode cX4_put 93 = .ok (.iload 5, 2) := dk_21 5 (dk_at dksX4_put_3 21 rfl rfl)
theorem dX4_put_95 : decode cX4_put 95 = .ok (.imul, 1) := dk_104 (dk_at dksX4_put_3 23 rfl rfl)
theorem dX4_put_96 : decode cX4_put 96 = .ok (.iadd, 1) := dk_96 (dk_at dksX4_put_4 0 rfl rfl)
theorem dX4_put_97 : decode cX4_put 97 = .ok (.iload_n 2, 1) := dk_28 (dk_at dksX4_put_4 1 rfl rfl)
theorem dX4_put_98 : decode cX4_put 98 = .ok (.iastore, 1) := dk_79 (dk_at dksX4_put_4 2 rfl rfl)
theorem dX4_put_99 : decode cX4_put 99 = .ok (.aload_n 0, 1) := dk_42 (dk_at dksX4_put_4 3 rfl rfl)
theorem dX4_put_100 : decode cX4_put 100 = .ok (.getfield 16, 3) := dk_180 0 16 (dk_at dksX4_put_4 4 rfl rfl)
theorem dX4_put_103 : decode cX4_put 103 = .ok (.bipush 120, 2) := dk_16 120 (dk_at dksX4_put_4 7 rfl rfl)
theorem dX4_put_105 : decode cX4_put 105 = .ok (.iload_n 1, 1) := dk_27 (dk_at dksX4_put_4 9 rfl rfl)
theorem dX4_put_106 : decode cX4_put 106 = .ok (.imul, 1) := dk_104 (dk_at dksX4_put_4 10 rfl rfl)
theorem dX4_put_107 : decode cX4_put 107 = .ok (.iconst 3, 1) := dk_6 (dk_at dksX4_put_4 11 rfl rfl)
theorem dX4_put_108 : decode cX4_put 108 = .ok (.iload 5, 2) := dk_21 5 (dk_at dksX4_put_4 12 rfl rfl)
theorem dX4_put_110 : decode cX4_put 110 = .ok (.imul, 1) := dk_104 (dk_at dksX4_put_4 14 rfl rfl)
theorem dX4_put_111 : decode cX4_put 111 = .ok (.iadd, 1) := dk_96 (dk_at dksX4_put_4 15 rfl rfl)
theorem dX4_put_112 : decode cX4_put 112 = .ok (.iconst 1, 1) := dk_4 (dk_at dksX4_put_4 16 rfl rfl)
theorem dX4_put_113 : decode cX4_put 113 = .ok (.iadd, 1) := dk_96 (dk_at dksX4_put_4 17 rfl rfl)
theorem dX4_put_114 : decode cX4_put 114 = .ok (.iload_n 3, 1) := dk_29 (dk_at dksX4_put_4 18 rfl rfl)
theorem dX4_put_115 : decode cX4_put 115 = .ok (.iastore, 1) := dk_79 (dk_at dksX4_put_4 19 rfl rfl)
theorem dX4_put_116 : decode cX4_put 116 = .ok (.aload_n 0, 1) := dk_42 (dk_at dksX4_put_4 20 rfl rfl)
theorem dX4_put_117 : decode cX4_put 117 = .ok (.getfield 16, 3) := dk_180 0 16 (dk_at dksX4_put_4 21 rfl rfl)
theorem dX4_put_120 : decode cX4_put 120 = .ok (.bipush 120, 2) := dk_16 120 (dk_at dksX4_put_5 0 rfl rfl)
theorem dX4_put_122 : decode cX4_put 122 = .ok (.iload_n 1, 1) := dk_27 (dk_at dksX4_put_5 2 rfl rfl)
theorem dX4_put_123 : decode cX4_put 123 = .ok (.imul, 1) := dk_104 (dk_at dksX4_put_5 3 rfl rfl)
theorem dX4_put_124 : decode cX4_put 124 = .ok (.iconst 3, 1) := dk_6 (dk_at dksX4_put_5 4 rfl rfl)
theorem dX4_put_125 : decode cX4_put 125 = .ok (.iload 5, 2) := dk_21 5 (dk_at dksX4_put_5 5 rfl rfl)
theorem dX4_put_127 : decode cX4_put 127 = .ok (.imul, 1) := dk_104 (dk_at dksX4_put_5 7 rfl rfl)
theorem dX4_put_128 : decode cX4_put 128 = .ok (.iadd, 1) := dk_96 (dk_at dksX4_put_5 8 rfl rfl)
theorem dX4_put_129 : decode cX4_put 129 = .ok (.iconst 2, 1) := dk_5 (dk_at dksX4_put_5 9 rfl rfl)
theorem dX4_put_130 : decode cX4_put 130 = .ok (.iadd, 1) := dk_96 (dk_at dksX4_put_5 10 rfl rfl)
theorem dX4_put_131 : decode cX4_put 131 = .ok (.iload 4, 2) := dk_21 4 (dk_at dksX4_put_5 11 rfl rfl)
theorem dX4_put_133 : decode cX4_put 133 = .ok (.iastore, 1) := dk_79 (dk_at dksX4_put_5 13 rfl rfl)
theorem dX4_put_134 : decode cX4_put 134 = .ok (.aload_n 0, 1) := dk_42 (dk_at dksX4_put_5 14 rfl rfl)
theorem dX4_put_135 : decode cX4_put 135 = .ok (.getfield 13, 3) := dk_180 0 13 (dk_at dksX4_put_5 15 rfl rfl)
theorem dX4_put_138 : decode cX4_put 138 = .ok (.iload_n 1, 1) := dk_27 (dk_at dksX4_put_5 18 rfl rfl)
theorem dX4_put_139 : decode cX4_put 139 = .ok (.dup2, 1) := dk_92 (dk_at dksX4_put_5 19 rfl rfl)
theorem dX4_put_140 : decode cX4_put 140 = .ok (.iaload, 1) := dk_46 (dk_at dksX4_put_5 20 rfl rfl)
theorem dX4_put_141 : decode cX4_put 141 = .ok (.iconst 1, 1) := dk_4 (dk_at dksX4_put_5 21 rfl rfl)
theorem dX4_put_142 : decode cX4_put 142 = .ok (.iadd, 1) := dk_96 (dk_at dksX4_put_5 22 rfl rfl)
theorem dX4_put_143 : decode cX4_put 143 = .ok (.iastore, 1) := dk_79 (dk_at dksX4_put_5 23 rfl rfl)
theorem dX4_put_144 : decode cX4_put 144 = .ok (.iconst 1, 1) := dk_4 (dk_at dksX4_put_6 0 rfl rfl)
theorem dX4_put_145 : decode cX4_put 145 = .ok (.ireturn, 1) := dk_172 (dk_at dksX4_put_6 1 rfl rfl)
abbrev cX4_isTable : ByteArray := prog_13_method_4_code
def yX4_isTable : MethodName := ⟨RX4, "isTable", "(I)Z"⟩
def dkwX4_isTable_1 : List UInt8 := [172]
abbrev dktX4_isTable_1 : List UInt8 := dkwX4_isTable_1 ++ []
def dkwX4_isTable_0 : List UInt8 := [27, 3, 16, 7, 184, 0, 88, 153, 0, 16, 42, 180, 0, 7, 27, 46, 158, 0, 7, 4, 167, 0, 4, 3]
abbrev dktX4_isTable_0 : List UInt8 := dkwX4_isTable_0 ++ dktX4_isTable_1
theorem dksX4_isTable_0 : cX4_isTable.data.toList.drop 0 = dktX4_isTable_0 := by decide +kernel
theorem dksX4_isTable_1 : cX4_isTable.data.toList.drop 24 = dktX4_isTable_1 := dk_seg dksX4_isTable_0 24 rfl rfl
theorem dX4_isTable_0 : decode cX4_isTable 0 = .ok (.iload_n 1, 1) := dk_27 (dk_at dksX4_isTable_0 0 rfl rfl)
theorem dX4_isTable_1 : decode cX4_isTable 1 = .ok (.iconst 0, 1) := dk_3 (dk_at dksX4_isTable_0 1 rfl rfl)
theorem dX4_isTable_2 : decode cX4_isTable 2 = .ok (.bipush 7, 2) := dk_16 7 (dk_at dksX4_isTable_0 2 rfl rfl)
theorem dX4_isTable_4 : decode cX4_isTable 4 = .ok (.invokestatic 88, 3) := dk_184 0 88 (dk_at dksX4_isTable_0 4 rfl rfl)
theorem dX4_isTable_7 : decode cX4_isTable 7 = .ok (.ifCond .eq 16, 3) := dk_153 0 16 (dk_at dksX4_isTable_0 7 rfl rfl)
theorem dX4_isTable_10 : decode cX4_isTable 10 = .ok (.aload_n 0, 1) := dk_42 (dk_at dksX4_isTable_0 10 rfl rfl)
theorem dX4_isTable_11 : decode cX4_isTable 11 = .ok (.getfield 7, 3) := dk_180 0 7 (dk_at dksX4_isTable_0 11 rfl rfl)
theorem dX4_isTable_14 : decode cX4_isTable 14 = .ok (.iload_n 1, 1) := dk_27 (dk_at dksX4_isTable_0 14 rfl rfl)
theorem dX4_isTable_15 : decode cX4_isTable 15 = .ok (.iaload, 1) := dk_46 (dk_at dksX4_isTable_0 15 rfl rfl)
theorem dX4_isTable_16 : decode cX4_isTable 16 = .ok (.ifCond .le 7, 3) := dk_158 0 7 (dk_at dksX4_isTable_0 16 rfl rfl)
theorem dX4_isTable_19 : decode cX4_isTable 19 = .ok (.iconst 1, 1) := dk_4 (dk_at dksX4_isTable_0 19 rfl rfl)
theorem dX4_isTable_20 : decode cX4_isTable 20 = .ok (.goto 4, 3) := dk_167 0 4 (dk_at dksX4_isTable_0 20 rfl rfl)
theorem dX4_isTable_23 : decode cX4_isTable 23 = .ok (.iconst 0, 1) := dk_3 (dk_at dksX4_isTable_0 23 rfl rfl)
theorem dX4_isTable_24 : decode cX4_isTable 24 = .ok (.ireturn, 1) := dk_172 (dk_at dksX4_isTable_1 0 rfl rfl)
abbrev cX4_find : ByteArray := prog_13_method_8_code
def yX4_find : MethodName := ⟨RX4, "find", "(IIII)I"⟩
def dkwX4_find_1 : List UInt8 := [182, 0, 103, 154, 0, 6, 21, 5, 172, 132, 5, 1, 167, 255, 225, 2, 172]
abbrev dktX4_find_1 : List UInt8 := dkwX4_find_1 ++ []
def dkwX4_find_0 : List UInt8 := [3, 54, 5, 21, 5, 42, 180, 0, 13, 27, 46, 162, 0, 26, 42, 27, 21, 5, 28, 29, 21, 4]
abbrev dktX4_find_0 : List UInt8 := dkwX4_find_0 ++ dktX4_find_1
theorem dksX4_find_0 : cX4_find.data.toList.drop 0 = dktX4_find_0 := by decide +kernel
theorem dksX4_find_1 : cX4_find.data.toList.drop 22 = dktX4_find_1 := dk_seg dksX4_find_0 22 rfl rfl
theorem dX4_find_0 : decode cX4_find 0 = .ok (.iconst 0, 1) := dk_3 (dk_at dksX4_find_0 0 rfl rfl)
theorem dX4_find_1 : decode cX4_find 1 = .ok (.istore 5, 2) := dk_54 5 (dk_at dksX4_find_0 1 rfl rfl)
theorem dX4_find_3 : decode cX4_find 3 = .ok (.iload 5, 2) := dk_21 5 (dk_at dksX4_find_0 3 rfl rfl)
theorem dX4_find_5 : decode cX4_find 5 = .ok (.aload_n 0, 1) := dk_42 (dk_at dksX4_find_0 5 rfl rfl)
theorem dX4_find_6 : decode cX4_find 6 = .ok (.getfield 13, 3) := dk_180 0 13 (dk_at dksX4_find_0 6 rfl rfl)
theorem dX4_find_9 : decode cX4_find 9 = .ok (.iload_n 1, 1) := dk_27 (dk_at dksX4_find_0 9 rfl rfl)
theorem dX4_find_10 : decode cX4_find 10 = .ok (.iaload, 1) := dk_46 (dk_at dksX4_find_0 10 rfl rfl)
theorem dX4_find_11 : decode cX4_find 11 = .ok (.if_icmp .ge 26, 3) := dk_162 0 26 (dk_at dksX4_find_0 11 rfl rfl)
theorem dX4_find_14 : decode cX4_find 14 = .ok (.aload_n 0, 1) := dk_42 (dk_at dksX4_find_0 14 rfl rfl)
theorem dX4_find_15 : decode cX4_find 15 = .ok (.iload_n 1, 1) := dk_27 (dk_at dksX4_find_0 15 rfl rfl)
theorem dX4_find_16 : decode cX4_find 16 = .ok (.iload 5, 2) := dk_21 5 (dk_at dksX4_find_0 16 rfl rfl)
theorem dX4_find_18 : decode cX4_find 18 = .ok (.iload_n 2, 1) := dk_28 (dk_at dksX4_find_0 18 rfl rfl)
theorem dX4_find_19 : decode cX4_find 19 = .ok (.iload_n 3, 1) := dk_29 (dk_at dksX4_find_0 19 rfl rfl)
theorem dX4_find_20 : decode cX4_find 20 = .ok (.iload 4, 2) := dk_21 4 (dk_at dksX4_find_0 20 rfl rfl)
theorem dX4_find_22 : decode cX4_find 22 = .ok (.invokevirtual 103, 3) := dk_182 0 103 (dk_at dksX4_find_1 0 rfl rfl)
theorem dX4_find_25 : decode cX4_find 25 = .ok (.ifCond .ne 6, 3) := dk_154 0 6 (dk_at dksX4_find_1 3 rfl rfl)
theorem dX4_find_28 : decode cX4_find 28 = .ok (.iload 5, 2) := dk_21 5 (dk_at dksX4_find_1 6 rfl rfl)
theorem dX4_find_30 : decode cX4_find 30 = .ok (.ireturn, 1) := dk_172 (dk_at dksX4_find_1 8 rfl rfl)
theorem dX4_find_31 : decode cX4_find 31 = .ok (.iinc 5 1, 3) := dk_132 5 1 (dk_at dksX4_find_1 9 rfl rfl)
theorem dX4_find_34 : decode cX4_find 34 = .ok (.goto (-31), 3) := dk_167 255 225 (dk_at dksX4_find_1 12 rfl rfl)
theorem dX4_find_37 : decode cX4_find 37 = .ok (.iconst (-1), 1) := dk_2 (dk_at dksX4_find_1 15 rfl rfl)
theorem dX4_find_38 : decode cX4_find 38 = .ok (.ireturn, 1) := dk_172 (dk_at dksX4_find_1 16 rfl rfl)
abbrev cX4_against : ByteArray := prog_13_method_7_code
def yX4_against : MethodName := ⟨RX4, "against", "(IIIII)I"⟩
def dkwX4_against_2 : List UInt8 := [54, 7, 21, 7, 153, 0, 6, 21, 7, 172, 132, 6, 1, 167, 255, 199, 3, 172]
abbrev dktX4_against_2 : List UInt8 := dkwX4_against_2 ++ []
def dkwX4_against_1 : List UInt8 := [154, 0, 7, 29, 167, 0, 16, 21, 6, 4, 160, 0, 8, 21, 4, 167, 0, 5, 21, 5, 184, 0, 99]
abbrev dktX4_against_1 : List UInt8 := dkwX4_against_1 ++ dktX4_against_2
def dkwX4_against_0 : List UInt8 := [3, 54, 6, 21, 6, 42, 180, 0, 7, 27, 46, 162, 0, 52, 42, 27, 28, 21, 6, 182, 0, 95, 21, 6]
abbrev dktX4_against_0 : List UInt8 := dkwX4_against_0 ++ dktX4_against_1
theorem dksX4_against_0 : cX4_against.data.toList.drop 0 = dktX4_against_0 := by decide +kernel
theorem dksX4_against_1 : cX4_against.data.toList.drop 24 = dktX4_against_1 := dk_seg dksX4_against_0 24 rfl rfl
theorem dksX4_against_2 : cX4_against.data.toList.drop 47 = dktX4_against_2 := dk_seg dksX4_against_1 23 rfl rfl
theorem dX4_against_0 : decode cX4_against 0 = .ok (.iconst 0, 1) := dk_3 (dk_at dksX4_against_0 0 rfl rfl)
theorem dX4_against_1 : decode cX4_against 1 = .ok (.istore 6, 2) := dk_54 6 (dk_at dksX4_against_0 1 rfl rfl)
theorem dX4_against_3 : decode cX4_against 3 = .ok (.iload 6, 2) := dk_21 6 (dk_at dksX4_against_0 3 rfl rfl)
theorem dX4_against_5 : decode cX4_against 5 = .ok (.aload_n 0, 1) := dk_42 (dk_at dksX4_against_0 5 rfl rfl)
theorem dX4_against_6 : decode cX4_against 6 = .ok (.getfield 7, 3) := dk_180 0 7 (dk_at dksX4_against_0 6 rfl rfl)
theorem dX4_against_9 : decode cX4_against 9 = .ok (.iload_n 1, 1) := dk_27 (dk_at dksX4_against_0 9 rfl rfl)
theorem dX4_against_10 : decode cX4_against 10 = .ok (.iaload, 1) := dk_46 (dk_at dksX4_against_0 10 rfl rfl)
theorem dX4_against_11 : decode cX4_against 11 = .ok (.if_icmp .ge 52, 3) := dk_162 0 52 (dk_at dksX4_against_0 11 rfl rfl)
theorem dX4_against_14 : decode cX4_against 14 = .ok (.aload_n 0, 1) := dk_42 (dk_at dksX4_against_0 14 rfl rfl)
theorem dX4_against_15 : decode cX4_against 15 = .ok (.iload_n 1, 1) := dk_27 (dk_at dksX4_against_0 15 rfl rfl)
theorem dX4_against_16 : decode cX4_against 16 = .ok (.iload_n 2, 1) := dk_28 (dk_at dksX4_against_0 16 rfl rfl)
theorem dX4_against_17 : decode cX4_against 17 = .ok (.iload 6, 2) := dk_21 6 (dk_at dksX4_against_0 17 rfl rfl)
theorem dX4_against_19 : decode cX4_against 19 = .ok (.invokevirtual 95, 3) := dk_182 0 95 (dk_at dksX4_against_0 19 rfl rfl)
theorem dX4_against_22 : decode cX4_against 22 = .ok (.iload 6, 2) := dk_21 6 (dk_at dksX4_against_0 22 rfl rfl)
theorem dX4_against_24 : decode cX4_against 24 = .ok (.ifCond .ne 7, 3) := dk_154 0 7 (dk_at dksX4_against_1 0 rfl rfl)
theorem dX4_against_27 : decode cX4_against 27 = .ok (.iload_n 3, 1) := dk_29 (dk_at dksX4_against_1 3 rfl rfl)
theorem dX4_against_28 : decode cX4_against 28 = .ok (.goto 16, 3) := dk_167 0 16 (dk_at dksX4_against_1 4 rfl rfl)
theorem dX4_against_31 : decode cX4_against 31 = .ok (.iload 6, 2) := dk_21 6 (dk_at dksX4_against_1 7 rfl rfl)
theorem dX4_against_33 : decode cX4_against 33 = .ok (.iconst 1, 1) := dk_4 (dk_at dksX4_against_1 9 rfl rfl)
theorem dX4_against_34 : decode cX4_against 34 = .ok (.if_icmp .ne 8, 3) := dk_160 0 8 (dk_at dksX4_against_1 10 rfl rfl)
theorem dX4_against_37 : decode cX4_against 37 = .ok (.iload 4, 2) := dk_21 4 (dk_at dksX4_against_1 13 rfl rfl)
theorem dX4_against_39 : decode cX4_against 39 = .ok (.goto 5, 3) := dk_167 0 5 (dk_at dksX4_against_1 15 rfl rfl)
theorem dX4_against_42 : decode cX4_against 42 = .ok (.iload 5, 2) := dk_21 5 (dk_at dksX4_against_1 18 rfl rfl)
theorem dX4_against_44 : decode cX4_against 44 = .ok (.invokestatic 99, 3) := dk_184 0 99 (dk_at dksX4_against_1 20 rfl rfl)
theorem dX4_against_47 : decode cX4_against 47 = .ok (.istore 7, 2) := dk_54 7 (dk_at dksX4_against_2 0 rfl rfl)
theorem dX4_against_49 : decode cX4_against 49 = .ok (.iload 7, 2) := dk_21 7 (dk_at dksX4_against_2 2 rfl rfl)
theorem dX4_against_51 : decode cX4_against 51 = .ok (.ifCond .eq 6, 3) := dk_153 0 6 (dk_at dksX4_against_2 4 rfl rfl)
theorem dX4_against_54 : decode cX4_against 54 = .ok (.iload 7, 2) := dk_21 7 (dk_at dksX4_against_2 7 rfl rfl)
theorem dX4_against_56 : decode cX4_against 56 = .ok (.ireturn, 1) := dk_172 (dk_at dksX4_against_2 9 rfl rfl)
theorem dX4_against_57 : decode cX4_against 57 = .ok (.iinc 6 1, 3) := dk_132 6 1 (dk_at dksX4_against_2 10 rfl rfl)
theorem dX4_against_60 : decode cX4_against 60 = .ok (.goto (-57), 3) := dk_167 255 199 (dk_at dksX4_against_2 13 rfl rfl)
theorem dX4_against_63 : decode cX4_against 63 = .ok (.iconst 0, 1) := dk_3 (dk_at dksX4_against_2 16 rfl rfl)
theorem dX4_against_64 : decode cX4_against 64 = .ok (.ireturn, 1) := dk_172 (dk_at dksX4_against_2 17 rfl rfl)
abbrev cX4_cell : ByteArray := prog_13_method_6_code
def yX4_cell : MethodName := ⟨RX4, "cell", "(III)I"⟩
def dkwX4_cell_0 : List UInt8 := [42, 180, 0, 16, 16, 120, 27, 104, 6, 28, 104, 96, 29, 96, 46, 172]
abbrev dktX4_cell_0 : List UInt8 := dkwX4_cell_0 ++ []
theorem dksX4_cell_0 : cX4_cell.data.toList.drop 0 = dktX4_cell_0 := by decide +kernel
theorem dX4_cell_0 : decode cX4_cell 0 = .ok (.aload_n 0, 1) := dk_42 (dk_at dksX4_cell_0 0 rfl rfl)
theorem dX4_cell_1 : decode cX4_cell 1 = .ok (.getfield 16, 3) := dk_180 0 16 (dk_at dksX4_cell_0 1 rfl rfl)
theorem dX4_cell_4 : decode cX4_cell 4 = .ok (.bipush 120, 2) := dk_16 120 (dk_at dksX4_cell_0 4 rfl rfl)
theorem dX4_cell_6 : decode cX4_cell 6 = .ok (.iload_n 1, 1) := dk_27 (dk_at dksX4_cell_0 6 rfl rfl)
theorem dX4_cell_7 : decode cX4_cell 7 = .ok (.imul, 1) := dk_104 (dk_at dksX4_cell_0 7 rfl rfl)
theorem dX4_cell_8 : decode cX4_cell 8 = .ok (.iconst 3, 1) := dk_6 (dk_at dksX4_cell_0 8 rfl rfl)
theorem dX4_cell_9 : decode cX4_cell 9 = .ok (.iload_n 2, 1) := dk_28 (dk_at dksX4_cell_0 9 rfl rfl)
theorem dX4_cell_10 : decode cX4_cell 10 = .ok (.imul, 1) := dk_104 (dk_at dksX4_cell_0 10 rfl rfl)
theorem dX4_cell_11 : decode cX4_cell 11 = .ok (.iadd, 1) := dk_96 (dk_at dksX4_cell_0 11 rfl rfl)
theorem dX4_cell_12 : decode cX4_cell 12 = .ok (.iload_n 3, 1) := dk_29 (dk_at dksX4_cell_0 12 rfl rfl)
theorem dX4_cell_13 : decode cX4_cell 13 = .ok (.iadd, 1) := dk_96 (dk_at dksX4_cell_0 13 rfl rfl)
theorem dX4_cell_14 : decode cX4_cell 14 = .ok (.iaload, 1) := dk_46 (dk_at dksX4_cell_0 14 rfl rfl)
theorem dX4_cell_15 : decode cX4_cell 15 = .ok (.ireturn, 1) := dk_172 (dk_at dksX4_cell_0 15 rfl rfl)
abbrev cX4_rank : ByteArray := prog_13_method_3_code
def yX4_rank : MethodName := ⟨RX4, "rank", "(II)I"⟩
def dkwX4_rank_1 : List UInt8 := [27, 162, 0, 7, 2, 167, 0, 4, 4, 172]
abbrev dktX4_rank_1 : List UInt8 := dkwX4_rank_1 ++ []
def dkwX4_rank_0 : List UInt8 := [26, 27, 160, 0, 5, 3, 172, 26, 18, 87, 160, 0, 5, 4, 172, 27, 18, 87, 160, 0, 5, 2, 172, 26]
abbrev dktX4_rank_0 : List UInt8 := dkwX4_rank_0 ++ dktX4_rank_1
theorem dksX4_rank_0 : cX4_rank.data.toList.drop 0 = dktX4_rank_0 := by decide +kernel
theorem dksX4_rank_1 : cX4_rank.data.toList.drop 24 = dktX4_rank_1 := dk_seg dksX4_rank_0 24 rfl rfl
theorem dX4_rank_0 : decode cX4_rank 0 = .ok (.iload_n 0, 1) := dk_26 (dk_at dksX4_rank_0 0 rfl rfl)
theorem dX4_rank_1 : decode cX4_rank 1 = .ok (.iload_n 1, 1) := dk_27 (dk_at dksX4_rank_0 1 rfl rfl)
theorem dX4_rank_2 : decode cX4_rank 2 = .ok (.if_icmp .ne 5, 3) := dk_160 0 5 (dk_at dksX4_rank_0 2 rfl rfl)
theorem dX4_rank_5 : decode cX4_rank 5 = .ok (.iconst 0, 1) := dk_3 (dk_at dksX4_rank_0 5 rfl rfl)
theorem dX4_rank_6 : decode cX4_rank 6 = .ok (.ireturn, 1) := dk_172 (dk_at dksX4_rank_0 6 rfl rfl)
theorem dX4_rank_7 : decode cX4_rank 7 = .ok (.iload_n 0, 1) := dk_26 (dk_at dksX4_rank_0 7 rfl rfl)
theorem dX4_rank_8 : decode cX4_rank 8 = .ok (.ldc 87, 2) := dk_18 87 (dk_at dksX4_rank_0 8 rfl rfl)
theorem dX4_rank_10 : decode cX4_rank 10 = .ok (.if_icmp .ne 5, 3) := dk_160 0 5 (dk_at dksX4_rank_0 10 rfl rfl)
theorem dX4_rank_13 : decode cX4_rank 13 = .ok (.iconst 1, 1) := dk_4 (dk_at dksX4_rank_0 13 rfl rfl)
theorem dX4_rank_14 : decode cX4_rank 14 = .ok (.ireturn, 1) := dk_172 (dk_at dksX4_rank_0 14 rfl rfl)
theorem dX4_rank_15 : decode cX4_rank 15 = .ok (.iload_n 1, 1) := dk_27 (dk_at dksX4_rank_0 15 rfl rfl)
theorem dX4_rank_16 : decode cX4_rank 16 = .ok (.ldc 87, 2) := dk_18 87 (dk_at dksX4_rank_0 16 rfl rfl)
theorem dX4_rank_18 : decode cX4_rank 18 = .ok (.if_icmp .ne 5, 3) := dk_160 0 5 (dk_at dksX4_rank_0 18 rfl rfl)
theorem dX4_rank_21 : decode cX4_rank 21 = .ok (.iconst (-1), 1) := dk_2 (dk_at dksX4_rank_0 21 rfl rfl)
theorem dX4_rank_22 : decode cX4_rank 22 = .ok (.ireturn, 1) := dk_172 (dk_at dksX4_rank_0 22 rfl rfl)
theorem dX4_rank_23 : decode cX4_rank 23 = .ok (.iload_n 0, 1) := dk_26 (dk_at dksX4_rank_0 23 rfl rfl)
theorem dX4_rank_24 : decode cX4_rank 24 = .ok (.iload_n 1, 1) := dk_27 (dk_at dksX4_rank_1 0 rfl rfl)
theorem dX4_rank_25 : decode cX4_rank 25 = .ok (.if_icmp .ge 7, 3) := dk_162 0 7 (dk_at dksX4_rank_1 1 rfl rfl)
theorem dX4_rank_28 : decode cX4_rank 28 = .ok (.iconst (-1), 1) := dk_2 (dk_at dksX4_rank_1 4 rfl rfl)
theorem dX4_rank_29 : decode cX4_rank 29 = .ok (.goto 4, 3) := dk_167 0 4 (dk_at dksX4_rank_1 5 rfl rfl)
theorem dX4_rank_32 : decode cX4_rank 32 = .ok (.iconst 1, 1) := dk_4 (dk_at dksX4_rank_1 8 rfl rfl)
theorem dX4_rank_33 : decode cX4_rank 33 = .ok (.ireturn, 1) := dk_172 (dk_at dksX4_rank_1 9 rfl rfl)
abbrev cX4_moves : ByteArray := prog_13_method_9_code
def yX4_moves : MethodName := ⟨RX4, "moves", "(III)V"⟩
def dkwX4_moves_1 : List UInt8 := [42, 180, 0, 16, 16, 120, 27, 104, 6, 28, 104, 96, 21, 4, 96, 46, 79, 132, 4, 1, 167, 255, 215, 177]
abbrev dktX4_moves_1 : List UInt8 := dkwX4_moves_1 ++ []
def dkwX4_moves_0 : List UInt8 := [3, 54, 4, 21, 4, 6, 162, 0, 41, 42, 180, 0, 16, 16, 120, 27, 104, 6, 29, 104, 96, 21, 4, 96]
abbrev dktX4_moves_0 : List UInt8 := dkwX4_moves_0 ++ dktX4_moves_1
theorem dksX4_moves_0 : cX4_moves.data.toList.drop 0 = dktX4_moves_0 := by decide +kernel
theorem dksX4_moves_1 : cX4_moves.data.toList.drop 24 = dktX4_moves_1 := dk_seg dksX4_moves_0 24 rfl rfl
theorem dX4_moves_0 : decode cX4_moves 0 = .ok (.iconst 0, 1) := dk_3 (dk_at dksX4_moves_0 0 rfl rfl)
theorem dX4_moves_1 : decode cX4_moves 1 = .ok (.istore 4, 2) := dk_54 4 (dk_at dksX4_moves_0 1 rfl rfl)
theorem dX4_moves_3 : decode cX4_moves 3 = .ok (.iload 4, 2) := dk_21 4 (dk_at dksX4_moves_0 3 rfl rfl)
theorem dX4_moves_5 : decode cX4_moves 5 = .ok (.iconst 3, 1) := dk_6 (dk_at dksX4_moves_0 5 rfl rfl)
theorem dX4_moves_6 : decode cX4_moves 6 = .ok (.if_icmp .ge 41, 3) := dk_162 0 41 (dk_at dksX4_moves_0 6 rfl rfl)
theorem dX4_moves_9 : decode cX4_moves 9 = .ok (.aload_n 0, 1) := dk_42 (dk_at dksX4_moves_0 9 rfl rfl)
theorem dX4_moves_10 : decode cX4_moves 10 = .ok (.getfield 16, 3) := dk_180 0 16 (dk_at dksX4_moves_0 10 rfl rfl)
theorem dX4_moves_13 : decode cX4_moves 13 = .ok (.bipush 120, 2) := dk_16 120 (dk_at dksX4_moves_0 13 rfl rfl)
theorem dX4_moves_15 : decode cX4_moves 15 = .ok (.iload_n 1, 1) := dk_27 (dk_at dksX4_moves_0 15 rfl rfl)
theorem dX4_moves_16 : decode cX4_moves 16 = .ok (.imul, 1) := dk_104 (dk_at dksX4_moves_0 16 rfl rfl)
theorem dX4_moves_17 : decode cX4_moves 17 = .ok (.iconst 3, 1) := dk_6 (dk_at dksX4_moves_0 17 rfl rfl)
theorem dX4_moves_18 : decode cX4_moves 18 = .ok (.iload_n 3, 1) := dk_29 (dk_at dksX4_moves_0 18 rfl rfl)
theorem dX4_moves_19 : decode cX4_moves 19 = .ok (.imul, 1) := dk_104 (dk_at dksX4_moves_0 19 rfl rfl)
theorem dX4_moves_20 : decode cX4_moves 20 = .ok (.iadd, 1) := dk_96 (dk_at dksX4_moves_0 20 rfl rfl)
theorem dX4_moves_21 : decode cX4_moves 21 = .ok (.iload 4, 2) := dk_21 4 (dk_at dksX4_moves_0 21 rfl rfl)
theorem dX4_moves_23 : decode cX4_moves 23 = .ok (.iadd, 1) := dk_96 (dk_at dksX4_moves_0 23 rfl rfl)
theorem dX4_moves_24 : decode cX4_moves 24 = .ok (.aload_n 0, 1) := dk_42 (dk_at dksX4_moves_1 0 rfl rfl)
theorem dX4_moves_25 : decode cX4_moves 25 = .ok (.getfield 16, 3) := dk_180 0 16 (dk_at dksX4_moves_1 1 rfl rfl)
theorem dX4_moves_28 : decode cX4_moves 28 = .ok (.bipush 120, 2) := dk_16 120 (dk_at dksX4_moves_1 4 rfl rfl)
theorem dX4_moves_30 : decode cX4_moves 30 = .ok (.iload_n 1, 1) := dk_27 (dk_at dksX4_moves_1 6 rfl rfl)
theorem dX4_moves_31 : decode cX4_moves 31 = .ok (.imul, 1) := dk_104 (dk_at dksX4_moves_1 7 rfl rfl)
theorem dX4_moves_32 : decode cX4_moves 32 = .ok (.iconst 3, 1) := dk_6 (dk_at dksX4_moves_1 8 rfl rfl)
theorem dX4_moves_33 : decode cX4_moves 33 = .ok (.iload_n 2, 1) := dk_28 (dk_at dksX4_moves_1 9 rfl rfl)
theorem dX4_moves_34 : decode cX4_moves 34 = .ok (.imul, 1) := dk_104 (dk_at dksX4_moves_1 10 rfl rfl)
theorem dX4_moves_35 : decode cX4_moves 35 = .ok (.iadd, 1) := dk_96 (dk_at dksX4_moves_1 11 rfl rfl)
theorem dX4_moves_36 : decode cX4_moves 36 = .ok (.iload 4, 2) := dk_21 4 (dk_at dksX4_moves_1 12 rfl rfl)
theorem dX4_moves_38 : decode cX4_moves 38 = .ok (.iadd, 1) := dk_96 (dk_at dksX4_moves_1 14 rfl rfl)
theorem dX4_moves_39 : decode cX4_moves 39 = .ok (.iaload, 1) := dk_46 (dk_at dksX4_moves_1 15 rfl rfl)
theorem dX4_moves_40 : decode cX4_moves 40 = .ok (.iastore, 1) := dk_79 (dk_at dksX4_moves_1 16 rfl rfl)
theorem dX4_moves_41 : decode cX4_moves 41 = .ok (.iinc 4 1, 3) := dk_132 4 1 (dk_at dksX4_moves_1 17 rfl rfl)
theorem dX4_moves_44 : decode cX4_moves 44 = .ok (.goto (-41), 3) := dk_167 255 215 (dk_at dksX4_moves_1 20 rfl rfl)
theorem dX4_moves_47 : decode cX4_moves 47 = .ok (.return_, 1) := dk_177 (dk_at dksX4_moves_1 23 rfl rfl)
abbrev cX4_drop : ByteArray := prog_13_method_11_code
def yX4_drop : MethodName := ⟨RX4, "drop", "(IIII)Z"⟩
def dkwX4_drop_3 : List UInt8 := [167, 255, 231, 4, 172]
abbrev dktX4_drop_3 : List UInt8 := dkwX4_drop_3 ++ []
def dkwX4_drop_2 : List UInt8 := [42, 180, 0, 13, 27, 46, 162, 0, 20, 42, 27, 21, 6, 4, 96, 21, 6, 182, 0, 115, 132, 6, 1]
abbrev dktX4_drop_2 : List UInt8 := dkwX4_drop_2 ++ dktX4_drop_3
def dkwX4_drop_1 : List UInt8 := [21, 5, 2, 160, 0, 5, 3, 172, 42, 180, 0, 13, 27, 92, 46, 4, 100, 79, 21, 5, 54, 6, 21, 6]
abbrev dktX4_drop_1 : List UInt8 := dkwX4_drop_1 ++ dktX4_drop_2
def dkwX4_drop_0 : List UInt8 := [42, 27, 182, 0, 107, 153, 0, 15, 42, 27, 28, 29, 21, 4, 182, 0, 111, 167, 0, 4, 2, 54, 5]
abbrev dktX4_drop_0 : List UInt8 := dkwX4_drop_0 ++ dktX4_drop_1
theorem dksX4_drop_0 : cX4_drop.data.toList.drop 0 = dktX4_drop_0 := by decide +kernel
theorem dksX4_drop_1 : cX4_drop.data.toList.drop 23 = dktX4_drop_1 := dk_seg dksX4_drop_0 23 rfl rfl
theorem dksX4_drop_2 : cX4_drop.data.toList.drop 47 = dktX4_drop_2 := dk_seg dksX4_drop_1 24 rfl rfl
theorem dksX4_drop_3 : cX4_drop.data.toList.drop 70 = dktX4_drop_3 := dk_seg dksX4_drop_2 23 rfl rfl
theorem dX4_drop_0 : decode cX4_drop 0 = .ok (.aload_n 0, 1) := dk_42 (dk_at dksX4_drop_0 0 rfl rfl)
theorem dX4_drop_1 : decode cX4_drop 1 = .ok (.iload_n 1, 1) := dk_27 (dk_at dksX4_drop_0 1 rfl rfl)
theorem dX4_drop_2 : decode cX4_drop 2 = .ok (.invokevirtual 107, 3) := dk_182 0 107 (dk_at dksX4_drop_0 2 rfl rfl)
theorem dX4_drop_5 : decode cX4_drop 5 = .ok (.ifCond .eq 15, 3) := dk_153 0 15 (dk_at dksX4_drop_0 5 rfl rfl)
theorem dX4_drop_8 : decode cX4_drop 8 = .ok (.aload_n 0, 1) := dk_42 (dk_at dksX4_drop_0 8 rfl rfl)
theorem dX4_drop_9 : decode cX4_drop 9 = .ok (.iload_n 1, 1) := dk_27 (dk_at dksX4_drop_0 9 rfl rfl)
theorem dX4_drop_10 : decode cX4_drop 10 = .ok (.iload_n 2, 1) := dk_28 (dk_at dksX4_drop_0 10 rfl rfl)
theorem dX4_drop_11 : decode cX4_drop 11 = .ok (.iload_n 3, 1) := dk_29 (dk_at dksX4_drop_0 11 rfl rfl)
theorem dX4_drop_12 : decode cX4_drop 12 = .ok (.iload 4, 2) := dk_21 4 (dk_at dksX4_drop_0 12 rfl rfl)
theorem dX4_drop_14 : decode cX4_drop 14 = .ok (.invokevirtual 111, 3) := dk_182 0 111 (dk_at dksX4_drop_0 14 rfl rfl)
theorem dX4_drop_17 : decode cX4_drop 17 = .ok (.goto 4, 3) := dk_167 0 4 (dk_at dksX4_drop_0 17 rfl rfl)
theorem dX4_drop_20 : decode cX4_drop 20 = .ok (.iconst (-1), 1) := dk_2 (dk_at dksX4_drop_0 20 rfl rfl)
theorem dX4_drop_21 : decode cX4_drop 21 = .ok (.istore 5, 2) := dk_54 5 (dk_at dksX4_drop_0 21 rfl rfl)
theorem dX4_drop_23 : decode cX4_drop 23 = .ok (.iload 5, 2) := dk_21 5 (dk_at dksX4_drop_1 0 rfl rfl)
theorem dX4_drop_25 : decode cX4_drop 25 = .ok (.iconst (-1), 1) := dk_2 (dk_at dksX4_drop_1 2 rfl rfl)
theorem dX4_drop_26 : decode cX4_drop 26 = .ok (.if_icmp .ne 5, 3) := dk_160 0 5 (dk_at dksX4_drop_1 3 rfl rfl)
theorem dX4_drop_29 : decode cX4_drop 29 = .ok (.iconst 0, 1) := dk_3 (dk_at dksX4_drop_1 6 rfl rfl)
theorem dX4_drop_30 : decode cX4_drop 30 = .ok (.ireturn, 1) := dk_172 (dk_at dksX4_drop_1 7 rfl rfl)
theorem dX4_drop_31 : decode cX4_drop 31 = .ok (.aload_n 0, 1) := dk_42 (dk_at dksX4_drop_1 8 rfl rfl)
theorem dX4_drop_32 : decode cX4_drop 32 = .ok (.getfield 13, 3) := dk_180 0 13 (dk_at dksX4_drop_1 9 rfl rfl)
theorem dX4_drop_35 : decode cX4_drop 35 = .ok (.iload_n 1, 1) := dk_27 (dk_at dksX4_drop_1 12 rfl rfl)
theorem dX4_drop_36 : decode cX4_drop 36 = .ok (.dup2, 1) := dk_92 (dk_at dksX4_drop_1 13 rfl rfl)
theorem dX4_drop_37 : decode cX4_drop 37 = .ok (.iaload, 1) := dk_46 (dk_at dksX4_drop_1 14 rfl rfl)
theorem dX4_drop_38 : decode cX4_drop 38 = .ok (.iconst 1, 1) := dk_4 (dk_at dksX4_drop_1 15 rfl rfl)
theorem dX4_drop_39 : decode cX4_drop 39 = .ok (.isub, 1) := dk_100 (dk_at dksX4_drop_1 16 rfl rfl)
theorem dX4_drop_40 : decode cX4_drop 40 = .ok (.iastore, 1) := dk_79 (dk_at dksX4_drop_1 17 rfl rfl)
theorem dX4_drop_41 : decode cX4_drop 41 = .ok (.iload 5, 2) := dk_21 5 (dk_at dksX4_drop_1 18 rfl rfl)
theorem dX4_drop_43 : decode cX4_drop 43 = .ok (.istore 6, 2) := dk_54 6 (dk_at dksX4_drop_1 20 rfl rfl)
theorem dX4_drop_45 : decode cX4_drop 45 = .ok (.iload 6, 2) := dk_21 6 (dk_at dksX4_drop_1 22 rfl rfl)
theorem dX4_drop_47 : decode cX4_drop 47 = .ok (.aload_n 0, 1) := dk_42 (dk_at dksX4_drop_2 0 rfl rfl)
theorem dX4_drop_48 : decode cX4_drop 48 = .ok (.getfield 13, 3) := dk_180 0 13 (dk_at dksX4_drop_2 1 rfl rfl)
theorem dX4_drop_51 : decode cX4_drop 51 = .ok (.iload_n 1, 1) := dk_27 (dk_at dksX4_drop_2 4 rfl rfl)
theorem dX4_drop_52 : decode cX4_drop 52 = .ok (.iaload, 1) := dk_46 (dk_at dksX4_drop_2 5 rfl rfl)
theorem dX4_drop_53 : decode cX4_drop 53 = .ok (.if_icmp .ge 20, 3) := dk_162 0 20 (dk_at dksX4_drop_2 6 rfl rfl)
theorem dX4_drop_56 : decode cX4_drop 56 = .ok (.aload_n 0, 1) := dk_42 (dk_at dksX4_drop_2 9 rfl rfl)
theorem dX4_drop_57 : decode cX4_drop 57 = .ok (.iload_n 1, 1) := dk_27 (dk_at dksX4_drop_2 10 rfl rfl)
theorem dX4_drop_58 : decode cX4_drop 58 = .ok (.iload 6, 2) := dk_21 6 (dk_at dksX4_drop_2 11 rfl rfl)
theorem dX4_drop_60 : decode cX4_drop 60 = .ok (.iconst 1, 1) := dk_4 (dk_at dksX4_drop_2 13 rfl rfl)
theorem dX4_drop_61 : decode cX4_drop 61 = .ok (.iadd, 1) := dk_96 (dk_at dksX4_drop_2 14 rfl rfl)
theorem dX4_drop_62 : decode cX4_drop 62 = .ok (.iload 6, 2) := dk_21 6 (dk_at dksX4_drop_2 15 rfl rfl)
theorem dX4_drop_64 : decode cX4_drop 64 = .ok (.invokevirtual 115, 3) := dk_182 0 115 (dk_at dksX4_drop_2 17 rfl rfl)
theorem dX4_drop_67 : decode cX4_drop 67 = .ok (.iinc 6 1, 3) := dk_132 6 1 (dk_at dksX4_drop_2 20 rfl rfl)
theorem dX4_drop_70 : decode cX4_drop 70 = .ok (.goto (-25), 3) := dk_167 255 231 (dk_at dksX4_drop_3 0 rfl rfl)
theorem dX4_drop_73 : decode cX4_drop 73 = .ok (.iconst 1, 1) := dk_4 (dk_at dksX4_drop_3 3 rfl rfl)
theorem dX4_drop_74 : decode cX4_drop 74 = .ok (.ireturn, 1) := dk_172 (dk_at dksX4_drop_3 4 rfl rfl)
abbrev cX4_rows : ByteArray := prog_13_method_12_code
def yX4_rows : MethodName := ⟨RX4, "rows", "(I)I"⟩
def dkwX4_rows_0 : List UInt8 := [42, 27, 182, 0, 107, 153, 0, 12, 42, 180, 0, 13, 27, 46, 167, 0, 4, 2, 172]
abbrev dktX4_rows_0 : List UInt8 := dkwX4_rows_0 ++ []
theorem dksX4_rows_0 : cX4_rows.data.toList.drop 0 = dktX4_rows_0 := by decide +kernel
theorem dX4_rows_0 : decode cX4_rows 0 = .ok (.aload_n 0, 1) := dk_42 (dk_at dksX4_rows_0 0 rfl rfl)
theorem dX4_rows_1 : decode cX4_rows 1 = .ok (.iload_n 1, 1) := dk_27 (dk_at dksX4_rows_0 1 rfl rfl)
theorem dX4_rows_2 : decode cX4_rows 2 = .ok (.invokevirtual 107, 3) := dk_182 0 107 (dk_at dksX4_rows_0 2 rfl rfl)
theorem dX4_rows_5 : decode cX4_rows 5 = .ok (.ifCond .eq 12, 3) := dk_153 0 12 (dk_at dksX4_rows_0 5 rfl rfl)
theorem dX4_rows_8 : decode cX4_rows 8 = .ok (.aload_n 0, 1) := dk_42 (dk_at dksX4_rows_0 8 rfl rfl)
theorem dX4_rows_9 : decode cX4_rows 9 = .ok (.getfield 13, 3) := dk_180 0 13 (dk_at dksX4_rows_0 9 rfl rfl)
theorem dX4_rows_12 : decode cX4_rows 12 = .ok (.iload_n 1, 1) := dk_27 (dk_at dksX4_rows_0 12 rfl rfl)
theorem dX4_rows_13 : decode cX4_rows 13 = .ok (.iaload, 1) := dk_46 (dk_at dksX4_rows_0 13 rfl rfl)
theorem dX4_rows_14 : decode cX4_rows 14 = .ok (.goto 4, 3) := dk_167 0 4 (dk_at dksX4_rows_0 14 rfl rfl)
theorem dX4_rows_17 : decode cX4_rows 17 = .ok (.iconst (-1), 1) := dk_2 (dk_at dksX4_rows_0 17 rfl rfl)
theorem dX4_rows_18 : decode cX4_rows 18 = .ok (.ireturn, 1) := dk_172 (dk_at dksX4_rows_0 18 rfl rfl)
abbrev cX4_row : ByteArray := prog_13_method_13_code
def yX4_row : MethodName := ⟨RX4, "row", "(III)I"⟩
def dkwX4_row_2 : List UInt8 := [167, 0, 4, 3, 172]
abbrev dktX4_row_2 : List UInt8 := dkwX4_row_2 ++ []
def dkwX4_row_1 : List UInt8 := [29, 3, 42, 180, 0, 7, 27, 46, 4, 100, 184, 0, 88, 153, 0, 13, 42, 27, 28, 29, 182, 0, 95]
abbrev dktX4_row_1 : List UInt8 := dkwX4_row_1 ++ dktX4_row_2
def dkwX4_row_0 : List UInt8 := [42, 27, 182, 0, 107, 153, 0, 45, 28, 3, 42, 180, 0, 13, 27, 46, 4, 100, 184, 0, 88, 153, 0, 29]
abbrev dktX4_row_0 : List UInt8 := dkwX4_row_0 ++ dktX4_row_1
theorem dksX4_row_0 : cX4_row.data.toList.drop 0 = dktX4_row_0 := by decide +kernel
theorem dksX4_row_1 : cX4_row.data.toList.drop 24 = dktX4_row_1 := dk_seg dksX4_row_0 24 rfl rfl
theorem dksX4_row_2 : cX4_row.data.toList.drop 47 = dktX4_row_2 := dk_seg dksX4_row_1 23 rfl rfl
theorem dX4_row_0 : decode cX4_row 0 = .ok (.aload_n 0, 1) := dk_42 (dk_at dksX4_row_0 0 rfl rfl)
theorem dX4_row_1 : decode cX4_row 1 = .ok (.iload_n 1, 1) := dk_27 (dk_at dksX4_row_0 1 rfl rfl)
theorem dX4_row_2 : decode cX4_row 2 = .ok (.invokevirtual 107, 3) := dk_182 0 107 (dk_at dksX4_row_0 2 rfl rfl)
theorem dX4_row_5 : decode cX4_row 5 = .ok (.ifCond .eq 45, 3) := dk_153 0 45 (dk_at dksX4_row_0 5 rfl rfl)
theorem dX4_row_8 : decode cX4_row 8 = .ok (.iload_n 2, 1) := dk_28 (dk_at dksX4_row_0 8 rfl rfl)
theorem dX4_row_9 : decode cX4_row 9 = .ok (.iconst 0, 1) := dk_3 (dk_at dksX4_row_0 9 rfl rfl)
theorem dX4_row_10 : decode cX4_row 10 = .ok (.aload_n 0, 1) := dk_42 (dk_at dksX4_row_0 10 rfl rfl)
theorem dX4_row_11 : decode cX4_row 11 = .ok (.getfield 13, 3) := dk_180 0 13 (dk_at dksX4_row_0 11 rfl rfl)
theorem dX4_row_14 : decode cX4_row 14 = .ok (.iload_n 1, 1) := dk_27 (dk_at dksX4_row_0 14 rfl rfl)
theorem dX4_row_15 : decode cX4_row 15 = .ok (.iaload, 1) := dk_46 (dk_at dksX4_row_0 15 rfl rfl)
theorem dX4_row_16 : decode cX4_row 16 = .ok (.iconst 1, 1) := dk_4 (dk_at dksX4_row_0 16 rfl rfl)
theorem dX4_row_17 : decode cX4_row 17 = .ok (.isub, 1) := dk_100 (dk_at dksX4_row_0 17 rfl rfl)
theorem dX4_row_18 : decode cX4_row 18 = .ok (.invokestatic 88, 3) := dk_184 0 88 (dk_at dksX4_row_0 18 rfl rfl)
theorem dX4_row_21 : decode cX4_row 21 = .ok (.ifCond .eq 29, 3) := dk_153 0 29 (dk_at dksX4_row_0 21 rfl rfl)
theorem dX4_row_24 : decode cX4_row 24 = .ok (.iload_n 3, 1) := dk_29 (dk_at dksX4_row_1 0 rfl rfl)
theorem dX4_row_25 : decode cX4_row 25 = .ok (.iconst 0, 1) := dk_3 (dk_at dksX4_row_1 1 rfl rfl)
theorem dX4_row_26 : decode cX4_row 26 = .ok (.aload_n 0, 1) := dk_42 (dk_at dksX4_row_1 2 rfl rfl)
theorem dX4_row_27 : decode cX4_row 27 = .ok (.getfield 7, 3) := dk_180 0 7 (dk_at dksX4_row_1 3 rfl rfl)
theorem dX4_row_30 : decode cX4_row 30 = .ok (.iload_n 1, 1) := dk_27 (dk_at dksX4_row_1 6 rfl rfl)
theorem dX4_row_31 : decode cX4_row 31 = .ok (.iaload, 1) := dk_46 (dk_at dksX4_row_1 7 rfl rfl)
theorem dX4_row_32 : decode cX4_row 32 = .ok (.iconst 1, 1) := dk_4 (dk_at dksX4_row_1 8 rfl rfl)
theorem dX4_row_33 : decode cX4_row 33 = .ok (.isub, 1) := dk_100 (dk_at dksX4_row_1 9 rfl rfl)
theorem dX4_row_34 : decode cX4_row 34 = .ok (.invokestatic 88, 3) := dk_184 0 88 (dk_at dksX4_row_1 10 rfl rfl)
theorem dX4_row_37 : decode cX4_row 37 = .ok (.ifCond .eq 13, 3) := dk_153 0 13 (dk_at dksX4_row_1 13 rfl rfl)
theorem dX4_row_40 : decode cX4_row 40 = .ok (.aload_n 0, 1) := dk_42 (dk_at dksX4_row_1 16 rfl rfl)
theorem dX4_row_41 : decode cX4_row 41 = .ok (.iload_n 1, 1) := dk_27 (dk_at dksX4_row_1 17 rfl rfl)
theorem dX4_row_42 : decode cX4_row 42 = .ok (.iload_n 2, 1) := dk_28 (dk_at dksX4_row_1 18 rfl rfl)
theorem dX4_row_43 : decode cX4_row 43 = .ok (.iload_n 3, 1) := dk_29 (dk_at dksX4_row_1 19 rfl rfl)
theorem dX4_row_44 : decode cX4_row 44 = .ok (.invokevirtual 95, 3) := dk_182 0 95 (dk_at dksX4_row_1 20 rfl rfl)
theorem dX4_row_47 : decode cX4_row 47 = .ok (.goto 4, 3) := dk_167 0 4 (dk_at dksX4_row_2 0 rfl rfl)
theorem dX4_row_50 : decode cX4_row 50 = .ok (.iconst 0, 1) := dk_3 (dk_at dksX4_row_2 3 rfl rfl)
theorem dX4_row_51 : decode cX4_row 51 = .ok (.ireturn, 1) := dk_172 (dk_at dksX4_row_2 4 rfl rfl)
abbrev cX4_ask : ByteArray := prog_13_method_14_code
def yX4_ask : MethodName := ⟨RX4, "ask", "(I)Z"⟩
def dkwX4_ask_1 : List UInt8 := [28, 16, 6, 162, 0, 16, 42, 180, 0, 34, 28, 28, 79, 132, 2, 1, 167, 255, 240, 4, 172]
abbrev dktX4_ask_1 : List UInt8 := dkwX4_ask_1 ++ []
def dkwX4_ask_0 : List UInt8 := [27, 4, 16, 6, 184, 0, 88, 154, 0, 5, 3, 172, 42, 27, 181, 0, 119, 42, 3, 181, 0, 92, 3, 61]
abbrev dktX4_ask_0 : List UInt8 := dkwX4_ask_0 ++ dktX4_ask_1
theorem dksX4_ask_0 : cX4_ask.data.toList.drop 0 = dktX4_ask_0 := by decide +kernel
theorem dksX4_ask_1 : cX4_ask.data.toList.drop 24 = dktX4_ask_1 := dk_seg dksX4_ask_0 24 rfl rfl
theorem dX4_ask_0 : decode cX4_ask 0 = .ok (.iload_n 1, 1) := dk_27 (dk_at dksX4_ask_0 0 rfl rfl)
theorem dX4_ask_1 : decode cX4_ask 1 = .ok (.iconst 1, 1) := dk_4 (dk_at dksX4_ask_0 1 rfl rfl)
theorem dX4_ask_2 : decode cX4_ask 2 = .ok (.bipush 6, 2) := dk_16 6 (dk_at dksX4_ask_0 2 rfl rfl)
theorem dX4_ask_4 : decode cX4_ask 4 = .ok (.invokestatic 88, 3) := dk_184 0 88 (dk_at dksX4_ask_0 4 rfl rfl)
theorem dX4_ask_7 : decode cX4_ask 7 = .ok (.ifCond .ne 5, 3) := dk_154 0 5 (dk_at dksX4_ask_0 7 rfl rfl)
theorem dX4_ask_10 : decode cX4_ask 10 = .ok (.iconst 0, 1) := dk_3 (dk_at dksX4_ask_0 10 rfl rfl)
theorem dX4_ask_11 : decode cX4_ask 11 = .ok (.ireturn, 1) := dk_172 (dk_at dksX4_ask_0 11 rfl rfl)
theorem dX4_ask_12 : decode cX4_ask 12 = .ok (.aload_n 0, 1) := dk_42 (dk_at dksX4_ask_0 12 rfl rfl)
theorem dX4_ask_13 : decode cX4_ask 13 = .ok (.iload_n 1, 1) := dk_27 (dk_at dksX4_ask_0 13 rfl rfl)
theorem dX4_ask_14 : decode cX4_ask 14 = .ok (.putfield 119, 3) := dk_181 0 119 (dk_at dksX4_ask_0 14 rfl rfl)
theorem dX4_ask_17 : decode cX4_ask 17 = .ok (.aload_n 0, 1) := dk_42 (dk_at dksX4_ask_0 17 rfl rfl)
theorem dX4_ask_18 : decode cX4_ask 18 = .ok (.iconst 0, 1) := dk_3 (dk_at dksX4_ask_0 18 rfl rfl)
theorem dX4_ask_19 : decode cX4_ask 19 = .ok (.putfield 92, 3) := dk_181 0 92 (dk_at dksX4_ask_0 19 rfl rfl)
theorem dX4_ask_22 : decode cX4_ask 22 = .ok (.iconst 0, 1) := dk_3 (dk_at dksX4_ask_0 22 rfl rfl)
theorem dX4_ask_23 : decode cX4_ask 23 = .ok (.istore_n 2, 1) := dk_61 (dk_at dksX4_ask_0 23 rfl rfl)
theorem dX4_ask_24 : decode cX4_ask 24 = .ok (.iload_n 2, 1) := dk_28 (dk_at dksX4_ask_1 0 rfl rfl)
theorem dX4_ask_25 : decode cX4_ask 25 = .ok (.bipush 6, 2) := dk_16 6 (dk_at dksX4_ask_1 1 rfl rfl)
theorem dX4_ask_27 : decode cX4_ask 27 = .ok (.if_icmp .ge 16, 3) := dk_162 0 16 (dk_at dksX4_ask_1 3 rfl rfl)
theorem dX4_ask_30 : decode cX4_ask 30 = .ok (.aload_n 0, 1) := dk_42 (dk_at dksX4_ask_1 6 rfl rfl)
theorem dX4_ask_31 : decode cX4_ask 31 = .ok (.getfield 34, 3) := dk_180 0 34 (dk_at dksX4_ask_1 7 rfl rfl)
theorem dX4_ask_34 : decode cX4_ask 34 = .ok (.iload_n 2, 1) := dk_28 (dk_at dksX4_ask_1 10 rfl rfl)
theorem dX4_ask_35 : decode cX4_ask 35 = .ok (.iload_n 2, 1) := dk_28 (dk_at dksX4_ask_1 11 rfl rfl)
theorem dX4_ask_36 : decode cX4_ask 36 = .ok (.iastore, 1) := dk_79 (dk_at dksX4_ask_1 12 rfl rfl)
theorem dX4_ask_37 : decode cX4_ask 37 = .ok (.iinc 2 1, 3) := dk_132 2 1 (dk_at dksX4_ask_1 13 rfl rfl)
theorem dX4_ask_40 : decode cX4_ask 40 = .ok (.goto (-16), 3) := dk_167 255 240 (dk_at dksX4_ask_1 16 rfl rfl)
theorem dX4_ask_43 : decode cX4_ask 43 = .ok (.iconst 1, 1) := dk_4 (dk_at dksX4_ask_1 19 rfl rfl)
theorem dX4_ask_44 : decode cX4_ask 44 = .ok (.ireturn, 1) := dk_172 (dk_at dksX4_ask_1 20 rfl rfl)
abbrev cX4_part : ByteArray := prog_13_method_15_code
def yX4_part : MethodName := ⟨RX4, "part", "(II)I"⟩
def dkwX4_part_5 : List UInt8 := [180, 0, 92, 4, 96, 181, 0, 92, 42, 180, 0, 92, 4, 100, 172]
abbrev dktX4_part_5 : List UInt8 := dkwX4_part_5 ++ []
def dkwX4_part_4 : List UInt8 := [42, 180, 0, 22, 42, 180, 0, 92, 28, 79, 42, 180, 0, 25, 42, 180, 0, 92, 3, 79, 42, 89]
abbrev dktX4_part_4 : List UInt8 := dkwX4_part_4 ++ dktX4_part_5
def dkwX4_part_3 : List UInt8 := [167, 255, 226, 27, 154, 0, 10, 29, 8, 160, 0, 5, 2, 172, 42, 180, 0, 19, 42, 180, 0, 92, 27, 79]
abbrev dktX4_part_3 : List UInt8 := dkwX4_part_3 ++ dktX4_part_4
def dkwX4_part_2 : List UInt8 := [162, 0, 27, 29, 42, 180, 0, 19, 21, 4, 46, 154, 0, 7, 4, 167, 0, 4, 3, 96, 62, 132, 4, 1]
abbrev dktX4_part_2 : List UInt8 := dkwX4_part_2 ++ dktX4_part_3
def dkwX4_part_1 : List UInt8 := [42, 180, 0, 92, 16, 10, 160, 0, 5, 2, 172, 3, 62, 3, 54, 4, 21, 4, 42, 180, 0, 92]
abbrev dktX4_part_1 : List UInt8 := dkwX4_part_1 ++ dktX4_part_2
def dkwX4_part_0 : List UInt8 := [42, 180, 0, 119, 153, 0, 29, 27, 3, 4, 184, 0, 88, 153, 0, 20, 42, 28, 182, 0, 107, 153, 0, 12]
abbrev dktX4_part_0 : List UInt8 := dkwX4_part_0 ++ dktX4_part_1
theorem dksX4_part_0 : cX4_part.data.toList.drop 0 = dktX4_part_0 := by decide +kernel
theorem dksX4_part_1 : cX4_part.data.toList.drop 24 = dktX4_part_1 := dk_seg dksX4_part_0 24 rfl rfl
theorem dksX4_part_2 : cX4_part.data.toList.drop 46 = dktX4_part_2 := dk_seg dksX4_part_1 22 rfl rfl
theorem dksX4_part_3 : cX4_part.data.toList.drop 70 = dktX4_part_3 := dk_seg dksX4_part_2 24 rfl rfl
theorem dksX4_part_4 : cX4_part.data.toList.drop 94 = dktX4_part_4 := dk_seg dksX4_part_3 24 rfl rfl
theorem dksX4_part_5 : cX4_part.data.toList.drop 116 = dktX4_part_5 := dk_seg dksX4_part_4 22 rfl rfl
theorem dX4_part_0 : decode cX4_part 0 = .ok (.aload_n 0, 1) := dk_42 (dk_at dksX4_part_0 0 rfl rfl)
theorem dX4_part_1 : decode cX4_part 1 = .ok (.getfield 119, 3) := dk_180 0 119 (dk_at dksX4_part_0 1 rfl rfl)
theorem dX4_part_4 : decode cX4_part 4 = .ok (.ifCond .eq 29, 3) := dk_153 0 29 (dk_at dksX4_part_0 4 rfl rfl)
theorem dX4_part_7 : decode cX4_part 7 = .ok (.iload_n 1, 1) := dk_27 (dk_at dksX4_part_0 7 rfl rfl)
theorem dX4_part_8 : decode cX4_part 8 = .ok (.iconst 0, 1) := dk_3 (dk_at dksX4_part_0 8 rfl rfl)
theorem dX4_part_9 : decode cX4_part 9 = .ok (.iconst 1, 1) := dk_4 (dk_at dksX4_part_0 9 rfl rfl)
theorem dX4_part_10 : decode cX4_part 10 = .ok (.invokestatic 88, 3) := dk_184 0 88 (dk_at dksX4_part_0 10 rfl rfl)
theorem dX4_part_13 : decode cX4_part 13 = .ok (.ifCond .eq 20, 3) := dk_153 0 20 (dk_at dksX4_part_0 13 rfl rfl)
theorem dX4_part_16 : decode cX4_part 16 = .ok (.aload_n 0, 1) := dk_42 (dk_at dksX4_part_0 16 rfl rfl)
theorem dX4_part_17 : decode cX4_part 17 = .ok (.iload_n 2, 1) := dk_28 (dk_at dksX4_part_0 17 rfl rfl)
theorem dX4_part_18 : decode cX4_part 18 = .ok (.invokevirtual 107, 3) := dk_182 0 107 (dk_at dksX4_part_0 18 rfl rfl)
theorem dX4_part_21 : decode cX4_part 21 = .ok (.ifCond .eq 12, 3) := dk_153 0 12 (dk_at dksX4_part_0 21 rfl rfl)
theorem dX4_part_24 : decode cX4_part 24 = .ok (.aload_n 0, 1) := dk_42 (dk_at dksX4_part_1 0 rfl rfl)
theorem dX4_part_25 : decode cX4_part 25 = .ok (.getfield 92, 3) := dk_180 0 92 (dk_at dksX4_part_1 1 rfl rfl)
theorem dX4_part_28 : decode cX4_part 28 = .ok (.bipush 10, 2) := dk_16 10 (dk_at dksX4_part_1 4 rfl rfl)
theorem dX4_part_30 : decode cX4_part 30 = .ok (.if_icmp .ne 5, 3) := dk_160 0 5 (dk_at dksX4_part_1 6 rfl rfl)
theorem dX4_part_33 : decode cX4_part 33 = .ok (.iconst (-1), 1) := dk_2 (dk_at dksX4_part_1 9 rfl rfl)
theorem dX4_part_34 : decode cX4_part 34 = .ok (.ireturn, 1) := dk_172 (dk_at dksX4_part_1 10 rfl rfl)
theorem dX4_part_35 : decode cX4_part 35 = .ok (.iconst 0, 1) := dk_3 (dk_at dksX4_part_1 11 rfl rfl)
theorem dX4_part_36 : decode cX4_part 36 = .ok (.istore_n 3, 1) := dk_62 (dk_at dksX4_part_1 12 rfl rfl)
theorem dX4_part_37 : decode cX4_part 37 = .ok (.iconst 0, 1) := dk_3 (dk_at dksX4_part_1 13 rfl rfl)
theorem dX4_part_38 : decode cX4_part 38 = .ok (.istore 4, 2) := dk_54 4 (dk_at dksX4_part_1 14 rfl rfl)
theorem dX4_part_40 : decode cX4_part 40 = .ok (.iload 4, 2) := dk_21 4 (dk_at dksX4_part_1 16 rfl rfl)
theorem dX4_part_42 : decode cX4_part 42 = .ok (.aload_n 0, 1) := dk_42 (dk_at dksX4_part_1 18 rfl rfl)
theorem dX4_part_43 : decode cX4_part 43 = .ok (.getfield 92, 3) := dk_180 0 92 (dk_at dksX4_part_1 19 rfl rfl)
theorem dX4_part_46 : decode cX4_part 46 = .ok (.if_icmp .ge 27, 3) := dk_162 0 27 (dk_at dksX4_part_2 0 rfl rfl)
theorem dX4_part_49 : decode cX4_part 49 = .ok (.iload_n 3, 1) := dk_29 (dk_at dksX4_part_2 3 rfl rfl)
theorem dX4_part_50 : decode cX4_part 50 = .ok (.aload_n 0, 1) := dk_42 (dk_at dksX4_part_2 4 rfl rfl)
theorem dX4_part_51 : decode cX4_part 51 = .ok (.getfield 19, 3) := dk_180 0 19 (dk_at dksX4_part_2 5 rfl rfl)
theorem dX4_part_54 : decode cX4_part 54 = .ok (.iload 4, 2) := dk_21 4 (dk_at dksX4_part_2 8 rfl rfl)
theorem dX4_part_56 : decode cX4_part 56 = .ok (.iaload, 1) := dk_46 (dk_at dksX4_part_2 10 rfl rfl)
theorem dX4_part_57 : decode cX4_part 57 = .ok (.ifCond .ne 7, 3) := dk_154 0 7 (dk_at dksX4_part_2 11 rfl rfl)
theorem dX4_part_60 : decode cX4_part 60 = .ok (.iconst 1, 1) := dk_4 (dk_at dksX4_part_2 14 rfl rfl)
theorem dX4_part_61 : decode cX4_part 61 = .ok (.goto 4, 3) := dk_167 0 4 (dk_at dksX4_part_2 15 rfl rfl)
theorem dX4_part_64 : decode cX4_part 64 = .ok (.iconst 0, 1) := dk_3 (dk_at dksX4_part_2 18 rfl rfl)
theorem dX4_part_65 : decode cX4_part 65 = .ok (.iadd, 1) := dk_96 (dk_at dksX4_part_2 19 rfl rfl)
theorem dX4_part_66 : decode cX4_part 66 = .ok (.istore_n 3, 1) := dk_62 (dk_at dksX4_part_2 20 rfl rfl)
theorem dX4_part_67 : decode cX4_part 67 = .ok (.iinc 4 1, 3) := dk_132 4 1 (dk_at dksX4_part_2 21 rfl rfl)
theorem dX4_part_70 : decode cX4_part 70 = .ok (.goto (-30), 3) := dk_167 255 226 (dk_at dksX4_part_3 0 rfl rfl)
theorem dX4_part_73 : decode cX4_part 73 = .ok (.iload_n 1, 1) := dk_27 (dk_at dksX4_part_3 3 rfl rfl)
theorem dX4_part_74 : decode cX4_part 74 = .ok (.ifCond .ne 10, 3) := dk_154 0 10 (dk_at dksX4_part_3 4 rfl rfl)
theorem dX4_part_77 : decode cX4_part 77 = .ok (.iload_n 3, 1) := dk_29 (dk_at dksX4_part_3 7 rfl rfl)
theorem dX4_part_78 : decode cX4_part 78 = .ok (.iconst 5, 1) := dk_8 (dk_at dksX4_part_3 8 rfl rfl)
theorem dX4_part_79 : decode cX4_part 79 = .ok (.if_icmp .ne 5, 3) := dk_160 0 5 (dk_at dksX4_part_3 9 rfl rfl)
theorem dX4_part_82 : decode cX4_part 82 = .ok (.iconst (-1), 1) := dk_2 (dk_at dksX4_part_3 12 rfl rfl)
theorem dX4_part_83 : decode cX4_part 83 = .ok (.ireturn, 1) := dk_172 (dk_at dksX4_part_3 13 rfl rfl)
theorem dX4_part_84 : decode cX4_part 84 = .ok (.aload_n 0, 1) := dk_42 (dk_at dksX4_part_3 14 rfl rfl)
theorem dX4_part_85 : decode cX4_part 85 = .ok (.getfield 19, 3) := dk_180 0 19 (dk_at dksX4_part_3 15 rfl rfl)
theorem dX4_part_88 : decode cX4_part 88 = .ok (.aload_n 0, 1) := dk_42 (dk_at dksX4_part_3 18 rfl rfl)
theorem dX4_part_89 : decode cX4_part 89 = .ok (.getfield 92, 3) := dk_180 0 92 (dk_at dksX4_part_3 19 rfl rfl)
theorem dX4_part_92 : decode cX4_part 92 = .ok (.iload_n 1, 1) := dk_27 (dk_at dksX4_part_3 22 rfl rfl)
theorem dX4_part_93 : decode cX4_part 93 = .ok (.iastore, 1) := dk_79 (dk_at dksX4_part_3 23 rfl rfl)
theorem dX4_part_94 : decode cX4_part 94 = .ok (.aload_n 0, 1) := dk_42 (dk_at dksX4_part_4 0 rfl rfl)
theorem dX4_part_95 : decode cX4_part 95 = .ok (.getfield 22, 3) := dk_180 0 22 (dk_at dksX4_part_4 1 rfl rfl)
theorem dX4_part_98 : decode cX4_part 98 = .ok (.aload_n 0, 1) := dk_42 (dk_at dksX4_part_4 4 rfl rfl)
theorem dX4_part_99 : decode cX4_part 99 = .ok (.getfield 92, 3) := dk_180 0 92 (dk_at dksX4_part_4 5 rfl rfl)
theorem dX4_part_102 : decode cX4_part 102 = .ok (.iload_n 2, 1) := dk_28 (dk_at dksX4_part_4 8 rfl rfl)
theorem dX4_part_103 : decode cX4_part 103 = .ok (.iastore, 1) := dk_79 (dk_at dksX4_part_4 9 rfl rfl)
theorem dX4_part_104 : decode cX4_part 104 = .ok (.aload_n 0, 1) := dk_42 (dk_at dksX4_part_4 10 rfl rfl)
theorem dX4_part_105 : decode cX4_part 105 = .ok (.getfield 25, 3) := dk_180 0 25 (dk_at dksX4_part_4 11 rfl rfl)
theorem dX4_part_108 : decode cX4_part 108 = .ok (.aload_n 0, 1) := dk_42 (dk_at dksX4_part_4 14 rfl rfl)
theorem dX4_part_109 : decode cX4_part 109 = .ok (.getfield 92, 3) := dk_180 0 92 (dk_at dksX4_part_4 15 rfl rfl)
theorem dX4_part_112 : decode cX4_part 112 = .ok (.iconst 0, 1) := dk_3 (dk_at dksX4_part_4 18 rfl rfl)
theorem dX4_part_113 : decode cX4_part 113 = .ok (.iastore, 1) := dk_79 (dk_at dksX4_part_4 19 rfl rfl)
theorem dX4_part_114 : decode cX4_part 114 = .ok (.aload_n 0, 1) := dk_42 (dk_at dksX4_part_4 20 rfl rfl)
theorem dX4_part_115 : decode cX4_part 115 = .ok (.dup, 1) := dk_89 (dk_at dksX4_part_4 21 rfl rfl)
theorem dX4_part_116 : decode cX4_part 116 = .ok (.getfield 92, 3) := dk_180 0 92 (dk_at dksX4_part_5 0 rfl rfl)
theorem dX4_part_119 : decode cX4_part 119 = .ok (.iconst 1, 1) := dk_4 (dk_at dksX4_part_5 3 rfl rfl)
theorem dX4_part_120 : decode cX4_part 120 = .ok (.iadd, 1) := dk_96 (dk_at dksX4_part_5 4 rfl rfl)
theorem dX4_part_121 : decode cX4_part 121 = .ok (.putfield 92, 3) := dk_181 0 92 (dk_at dksX4_part_5 5 rfl rfl)
theorem dX4_part_124 : decode cX4_part 124 = .ok (.aload_n 0, 1) := dk_42 (dk_at dksX4_part_5 8 rfl rfl)
theorem dX4_part_125 : decode cX4_part 125 = .ok (.getfield 92, 3) := dk_180 0 92 (dk_at dksX4_part_5 9 rfl rfl)
theorem dX4_part_128 : decode cX4_part 128 = .ok (.iconst 1, 1) := dk_4 (dk_at dksX4_part_5 12 rfl rfl)
theorem dX4_part_129 : decode cX4_part 129 = .ok (.isub, 1) := dk_100 (dk_at dksX4_part_5 13 rfl rfl)
theorem dX4_part_130 : decode cX4_part 130 = .ok (.ireturn, 1) := dk_172 (dk_at dksX4_part_5 14 rfl rfl)
abbrev cX4_name : ByteArray := prog_13_method_17_code
def yX4_name : MethodName := ⟨RX4, "name", "(I)I"⟩
def dkwX4_name_1 : List UInt8 := [172]
abbrev dktX4_name_1 : List UInt8 := dkwX4_name_1 ++ []
def dkwX4_name_0 : List UInt8 := [27, 3, 42, 180, 0, 119, 4, 100, 184, 0, 88, 153, 0, 12, 42, 27, 3, 182, 0, 122, 167, 0, 4, 2]
abbrev dktX4_name_0 : List UInt8 := dkwX4_name_0 ++ dktX4_name_1
theorem dksX4_name_0 : cX4_name.data.toList.drop 0 = dktX4_name_0 := by decide +kernel
theorem dksX4_name_1 : cX4_name.data.toList.drop 24 = dktX4_name_1 := dk_seg dksX4_name_0 24 rfl rfl
theorem dX4_name_0 : decode cX4_name 0 = .ok (.iload_n 1, 1) := dk_27 (dk_at dksX4_name_0 0 rfl rfl)
theorem dX4_name_1 : decode cX4_name 1 = .ok (.iconst 0, 1) := dk_3 (dk_at dksX4_name_0 1 rfl rfl)
theorem dX4_name_2 : decode cX4_name 2 = .ok (.aload_n 0, 1) := dk_42 (dk_at dksX4_name_0 2 rfl rfl)
theorem dX4_name_3 : decode cX4_name 3 = .ok (.getfield 119, 3) := dk_180 0 119 (dk_at dksX4_name_0 3 rfl rfl)
theorem dX4_name_6 : decode cX4_name 6 = .ok (.iconst 1, 1) := dk_4 (dk_at dksX4_name_0 6 rfl rfl)
theorem dX4_name_7 : decode cX4_name 7 = .ok (.isub, 1) := dk_100 (dk_at dksX4_name_0 7 rfl rfl)
theorem dX4_name_8 : decode cX4_name 8 = .ok (.invokestatic 88, 3) := dk_184 0 88 (dk_at dksX4_name_0 8 rfl rfl)
theorem dX4_name_11 : decode cX4_name 11 = .ok (.ifCond .eq 12, 3) := dk_153 0 12 (dk_at dksX4_name_0 11 rfl rfl)
theorem dX4_name_14 : decode cX4_name 14 = .ok (.aload_n 0, 1) := dk_42 (dk_at dksX4_name_0 14 rfl rfl)
theorem dX4_name_15 : decode cX4_name 15 = .ok (.iload_n 1, 1) := dk_27 (dk_at dksX4_name_0 15 rfl rfl)
theorem dX4_name_16 : decode cX4_name 16 = .ok (.iconst 0, 1) := dk_3 (dk_at dksX4_name_0 16 rfl rfl)
theorem dX4_name_17 : decode cX4_name 17 = .ok (.invokevirtual 122, 3) := dk_182 0 122 (dk_at dksX4_name_0 17 rfl rfl)
theorem dX4_name_20 : decode cX4_name 20 = .ok (.goto 4, 3) := dk_167 0 4 (dk_at dksX4_name_0 20 rfl rfl)
theorem dX4_name_23 : decode cX4_name 23 = .ok (.iconst (-1), 1) := dk_2 (dk_at dksX4_name_0 23 rfl rfl)
theorem dX4_name_24 : decode cX4_name 24 = .ok (.ireturn, 1) := dk_172 (dk_at dksX4_name_1 0 rfl rfl)
abbrev cX4_place : ByteArray := prog_13_method_16_code
def yX4_place : MethodName := ⟨RX4, "place", "(II)I"⟩
def dkwX4_place_4 : List UInt8 := [172]
abbrev dktX4_place_4 : List UInt8 := dkwX4_place_4 ++ []
def dkwX4_place_3 : List UInt8 := [180, 0, 25, 29, 46, 96, 28, 79, 42, 180, 0, 25, 29, 92, 46, 4, 96, 79, 42, 180, 0, 25, 29, 46]
abbrev dktX4_place_3 : List UInt8 := dkwX4_place_3 ++ dktX4_place_4
def dkwX4_place_2 : List UInt8 := [180, 0, 28, 6, 29, 104, 42, 180, 0, 25, 29, 46, 96, 27, 79, 42, 180, 0, 31, 6, 29, 104, 42]
abbrev dktX4_place_2 : List UInt8 := dkwX4_place_2 ++ dktX4_place_3
def dkwX4_place_1 : List UInt8 := [180, 0, 25, 29, 46, 42, 180, 0, 7, 42, 180, 0, 22, 29, 46, 46, 160, 0, 5, 2, 172, 42]
abbrev dktX4_place_1 : List UInt8 := dkwX4_place_1 ++ dktX4_place_2
def dkwX4_place_0 : List UInt8 := [42, 180, 0, 92, 4, 100, 62, 29, 155, 0, 33, 42, 180, 0, 19, 29, 46, 4, 163, 0, 23, 42]
abbrev dktX4_place_0 : List UInt8 := dkwX4_place_0 ++ dktX4_place_1
theorem dksX4_place_0 : cX4_place.data.toList.drop 0 = dktX4_place_0 := by decide +kernel
theorem dksX4_place_1 : cX4_place.data.toList.drop 22 = dktX4_place_1 := dk_seg dksX4_place_0 22 rfl rfl
theorem dksX4_place_2 : cX4_place.data.toList.drop 44 = dktX4_place_2 := dk_seg dksX4_place_1 22 rfl rfl
theorem dksX4_place_3 : cX4_place.data.toList.drop 67 = dktX4_place_3 := dk_seg dksX4_place_2 23 rfl rfl
theorem dksX4_place_4 : cX4_place.data.toList.drop 91 = dktX4_place_4 := dk_seg dksX4_place_3 24 rfl rfl
theorem dX4_place_0 : decode cX4_place 0 = .ok (.aload_n 0, 1) := dk_42 (dk_at dksX4_place_0 0 rfl rfl)
theorem dX4_place_1 : decode cX4_place 1 = .ok (.getfield 92, 3) := dk_180 0 92 (dk_at dksX4_place_0 1 rfl rfl)
theorem dX4_place_4 : decode cX4_place 4 = .ok (.iconst 1, 1) := dk_4 (dk_at dksX4_place_0 4 rfl rfl)
theorem dX4_place_5 : decode cX4_place 5 = .ok (.isub, 1) := dk_100 (dk_at dksX4_place_0 5 rfl rfl)
theorem dX4_place_6 : decode cX4_place 6 = .ok (.istore_n 3, 1) := dk_62 (dk_at dksX4_place_0 6 rfl rfl)
theorem dX4_place_7 : decode cX4_place 7 = .ok (.iload_n 3, 1) := dk_29 (dk_at dksX4_place_0 7 rfl rfl)
theorem dX4_place_8 : decode cX4_place 8 = .ok (.ifCond .lt 33, 3) := dk_155 0 33 (dk_at dksX4_place_0 8 rfl rfl)
theorem dX4_place_11 : decode cX4_place 11 = .ok (.aload_n 0, 1) := dk_42 (dk_at dksX4_place_0 11 rfl rfl)
theorem dX4_place_12 : decode cX4_place 12 = .ok (.getfield 19, 3) := dk_180 0 19 (dk_at dksX4_place_0 12 rfl rfl)
theorem dX4_place_15 : decode cX4_place 15 = .ok (.iload_n 3, 1) := dk_29 (dk_at dksX4_place_0 15 rfl rfl)
theorem dX4_place_16 : decode cX4_place 16 = .ok (.iaload, 1) := dk_46 (dk_at dksX4_place_0 16 rfl rfl)
theorem dX4_place_17 : decode cX4_place 17 = .ok (.iconst 1, 1) := dk_4 (dk_at dksX4_place_0 17 rfl rfl)
theorem dX4_place_18 : decode cX4_place 18 = .ok (.if_icmp .gt 23, 3) := dk_163 0 23 (dk_at dksX4_place_0 18 rfl rfl)
theorem dX4_place_21 : decode cX4_place 21 = .ok (.aload_n 0, 1) := dk_42 (dk_at dksX4_place_0 21 rfl rfl)
theorem dX4_place_22 : decode cX4_place 22 = .ok (.getfield 25, 3) := dk_180 0 25 (dk_at dksX4_place_1 0 rfl rfl)
theorem dX4_place_25 : decode cX4_place 25 = .ok (.iload_n 3, 1) := dk_29 (dk_at dksX4_place_1 3 rfl rfl)
theorem dX4_place_26 : decode cX4_place 26 = .ok (.iaload, 1) := dk_46 (dk_at dksX4_place_1 4 rfl rfl)
theorem dX4_place_27 : decode cX4_place 27 = .ok (.aload_n 0, 1) := dk_42 (dk_at dksX4_place_1 5 rfl rfl)
theorem dX4_place_28 : decode cX4_place 28 = .ok (.getfield 7, 3) := dk_180 0 7 (dk_at dksX4_place_1 6 rfl rfl)
theorem dX4_place_31 : decode cX4_place 31 = .ok (.aload_n 0, 1) := dk_42 (dk_at dksX4_place_1 9 rfl rfl)
theorem dX4_place_32 : decode cX4_place 32 = .ok (.getfield 22, 3) := dk_180 0 22 (dk_at dksX4_place_1 10 rfl rfl)
theorem dX4_place_35 : decode cX4_place 35 = .ok (.iload_n 3, 1) := dk_29 (dk_at dksX4_place_1 13 rfl rfl)
theorem dX4_place_36 : decode cX4_place 36 = .ok (.iaload, 1) := dk_46 (dk_at dksX4_place_1 14 rfl rfl)
theorem dX4_place_37 : decode cX4_place 37 = .ok (.iaload, 1) := dk_46 (dk_at dksX4_place_1 15 rfl rfl)
theorem dX4_place_38 : decode cX4_place 38 = .ok (.if_icmp .ne 5, 3) := dk_160 0 5 (dk_at dksX4_place_1 16 rfl rfl)
theorem dX4_place_41 : decode cX4_place 41 = .ok (.iconst (-1), 1) := dk_2 (dk_at dksX4_place_1 19 rfl rfl)
theorem dX4_place_42 : decode cX4_place 42 = .ok (.ireturn, 1) := dk_172 (dk_at dksX4_place_1 20 rfl rfl)
theorem dX4_place_43 : decode cX4_place 43 = .ok (.aload_n 0, 1) := dk_42 (dk_at dksX4_place_1 21 rfl rfl)
theorem dX4_place_44 : decode cX4_place 44 = .ok (.getfield 28, 3) := dk_180 0 28 (dk_at dksX4_place_2 0 rfl rfl)
theorem dX4_place_47 : decode cX4_place 47 = .ok (.iconst 3, 1) := dk_6 (dk_at dksX4_place_2 3 rfl rfl)
theorem dX4_place_48 : decode cX4_place 48 = .ok (.iload_n 3, 1) := dk_29 (dk_at dksX4_place_2 4 rfl rfl)
theorem dX4_place_49 : decode cX4_place 49 = .ok (.imul, 1) := dk_104 (dk_at dksX4_place_2 5 rfl rfl)
theorem dX4_place_50 : decode cX4_place 50 = .ok (.aload_n 0, 1) := dk_42 (dk_at dksX4_place_2 6 rfl rfl)
theorem dX4_place_51 : decode cX4_place 51 = .ok (.getfield 25, 3) := dk_180 0 25 (dk_at dksX4_place_2 7 rfl rfl)
theorem dX4_place_54 : decode cX4_place 54 = .ok (.iload_n 3, 1) := dk_29 (dk_at dksX4_place_2 10 rfl rfl)
theorem dX4_place_55 : decode cX4_place 55 = .ok (.iaload, 1) := dk_46 (dk_at dksX4_place_2 11 rfl rfl)
theorem dX4_place_56 : decode cX4_place 56 = .ok (.iadd, 1) := dk_96 (dk_at dksX4_place_2 12 rfl rfl)
theorem dX4_place_57 : decode cX4_place 57 = .ok (.iload_n 1, 1) := dk_27 (dk_at dksX4_place_2 13 rfl rfl)
theorem dX4_place_58 : decode cX4_place 58 = .ok (.iastore, 1) := dk_79 (dk_at dksX4_place_2 14 rfl rfl)
theorem dX4_place_59 : decode cX4_place 59 = .ok (.aload_n 0, 1) := dk_42 (dk_at dksX4_place_2 15 rfl rfl)
theorem dX4_place_60 : decode cX4_place 60 = .ok (.getfield 31, 3) := dk_180 0 31 (dk_at dksX4_place_2 16 rfl rfl)
theorem dX4_place_63 : decode cX4_place 63 = .ok (.iconst 3, 1) := dk_6 (dk_at dksX4_place_2 19 rfl rfl)
theorem dX4_place_64 : decode cX4_place 64 = .ok (.iload_n 3, 1) := dk_29 (dk_at dksX4_place_2 20 rfl rfl)
theorem dX4_place_65 : decode cX4_place 65 = .ok (.imul, 1) := dk_104 (dk_at dksX4_place_2 21 rfl rfl)
theorem dX4_place_66 : decode cX4_place 66 = .ok (.aload_n 0, 1) := dk_42 (dk_at dksX4_place_2 22 rfl rfl)
theorem dX4_place_67 : decode cX4_place 67 = .ok (.getfield 25, 3) := dk_180 0 25 (dk_at dksX4_place_3 0 rfl rfl)
theorem dX4_place_70 : decode cX4_place 70 = .ok (.iload_n 3, 1) := dk_29 (dk_at dksX4_place_3 3 rfl rfl)
theorem dX4_place_71 : decode cX4_place 71 = .ok (.iaload, 1) := dk_46 (dk_at dksX4_place_3 4 rfl rfl)
theorem dX4_place_72 : decode cX4_place 72 = .ok (.iadd, 1) := dk_96 (dk_at dksX4_place_3 5 rfl rfl)
theorem dX4_place_73 : decode cX4_place 73 = .ok (.iload_n 2, 1) := dk_28 (dk_at dksX4_place_3 6 rfl rfl)
theorem dX4_place_74 : decode cX4_place 74 = .ok (.iastore, 1) := dk_79 (dk_at dksX4_place_3 7 rfl rfl)
theorem dX4_place_75 : decode cX4_place 75 = .ok (.aload_n 0, 1) := dk_42 (dk_at dksX4_place_3 8 rfl rfl)
theorem dX4_place_76 : decode cX4_place 76 = .ok (.getfield 25, 3) := dk_180 0 25 (dk_at dksX4_place_3 9 rfl rfl)
theorem dX4_place_79 : decode cX4_place 79 = .ok (.iload_n 3, 1) := dk_29 (dk_at dksX4_place_3 12 rfl rfl)
theorem dX4_place_80 : decode cX4_place 80 = .ok (.dup2, 1) := dk_92 (dk_at dksX4_place_3 13 rfl rfl)
theorem dX4_place_81 : decode cX4_place 81 = .ok (.iaload, 1) := dk_46 (dk_at dksX4_place_3 14 rfl rfl)
theorem dX4_place_82 : decode cX4_place 82 = .ok (.iconst 1, 1) := dk_4 (dk_at dksX4_place_3 15 rfl rfl)
theorem dX4_place_83 : decode cX4_place 83 = .ok (.iadd, 1) := dk_96 (dk_at dksX4_place_3 16 rfl rfl)
theorem dX4_place_84 : decode cX4_place 84 = .ok (.iastore, 1) := dk_79 (dk_at dksX4_place_3 17 rfl rfl)
theorem dX4_place_85 : decode cX4_place 85 = .ok (.aload_n 0, 1) := dk_42 (dk_at dksX4_place_3 18 rfl rfl)
theorem dX4_place_86 : decode cX4_place 86 = .ok (.getfield 25, 3) := dk_180 0 25 (dk_at dksX4_place_3 19 rfl rfl)
theorem dX4_place_89 : decode cX4_place 89 = .ok (.iload_n 3, 1) := dk_29 (dk_at dksX4_place_3 22 rfl rfl)
theorem dX4_place_90 : decode cX4_place 90 = .ok (.iaload, 1) := dk_46 (dk_at dksX4_place_3 23 rfl rfl)
theorem dX4_place_91 : decode cX4_place 91 = .ok (.ireturn, 1) := dk_172 (dk_at dksX4_place_4 0 rfl rfl)
abbrev cX4_value : ByteArray := prog_13_method_18_code
def yX4_value : MethodName := ⟨RX4, "value", "(I)I"⟩
def dkwX4_value_0 : List UInt8 := [42, 2, 27, 182, 0, 122, 172]
abbrev dktX4_value_0 : List UInt8 := dkwX4_value_0 ++ []
theorem dksX4_value_0 : cX4_value.data.toList.drop 0 = dktX4_value_0 := by decide +kernel
theorem dX4_value_0 : decode cX4_value 0 = .ok (.aload_n 0, 1) := dk_42 (dk_at dksX4_value_0 0 rfl rfl)
theorem dX4_value_1 : decode cX4_value 1 = .ok (.iconst (-1), 1) := dk_2 (dk_at dksX4_value_0 1 rfl rfl)
theorem dX4_value_2 : decode cX4_value 2 = .ok (.iload_n 1, 1) := dk_27 (dk_at dksX4_value_0 2 rfl rfl)
theorem dX4_value_3 : decode cX4_value 3 = .ok (.invokevirtual 122, 3) := dk_182 0 122 (dk_at dksX4_value_0 3 rfl rfl)
theorem dX4_value_6 : decode cX4_value 6 = .ok (.ireturn, 1) := dk_172 (dk_at dksX4_value_0 6 rfl rfl)
abbrev cX4_compare : ByteArray := prog_13_method_19_code
def yX4_compare : MethodName := ⟨RX4, "compare", "(IIZI)I"⟩
def dkwX4_compare_6 : List UInt8 := [42, 180, 0, 92, 4, 100, 172]
abbrev dktX4_compare_6 : List UInt8 := dkwX4_compare_6 ++ []
def dkwX4_compare_5 : List UInt8 := [180, 0, 31, 6, 42, 180, 0, 92, 104, 4, 96, 21, 4, 79, 42, 89, 180, 0, 92, 4, 96, 181, 0, 92]
abbrev dktX4_compare_5 : List UInt8 := dkwX4_compare_5 ++ dktX4_compare_6
def dkwX4_compare_4 : List UInt8 := [180, 0, 28, 6, 42, 180, 0, 92, 104, 4, 96, 29, 153, 0, 8, 21, 4, 167, 0, 4, 2, 79, 42]
abbrev dktX4_compare_4 : List UInt8 := dkwX4_compare_4 ++ dktX4_compare_5
def dkwX4_compare_3 : List UInt8 := [42, 180, 0, 25, 42, 180, 0, 92, 5, 79, 42, 180, 0, 28, 6, 42, 180, 0, 92, 104, 28, 79, 42]
abbrev dktX4_compare_3 : List UInt8 := dkwX4_compare_3 ++ dktX4_compare_4
def dkwX4_compare_2 : List UInt8 := [153, 0, 12, 42, 180, 0, 92, 16, 10, 160, 0, 5, 2, 172, 42, 180, 0, 19, 42, 180, 0, 92, 27, 79]
abbrev dktX4_compare_2 : List UInt8 := dkwX4_compare_2 ++ dktX4_compare_3
def dkwX4_compare_1 : List UInt8 := [184, 0, 88, 153, 0, 31, 29, 153, 0, 18, 21, 4, 3, 42, 180, 0, 119, 4, 100, 184, 0, 88]
abbrev dktX4_compare_1 : List UInt8 := dkwX4_compare_1 ++ dktX4_compare_2
def dkwX4_compare_0 : List UInt8 := [42, 180, 0, 119, 153, 0, 54, 27, 5, 6, 184, 0, 88, 153, 0, 45, 28, 3, 42, 180, 0, 119, 4, 100]
abbrev dktX4_compare_0 : List UInt8 := dkwX4_compare_0 ++ dktX4_compare_1
theorem dksX4_compare_0 : cX4_compare.data.toList.drop 0 = dktX4_compare_0 := by decide +kernel
theorem dksX4_compare_1 : cX4_compare.data.toList.drop 24 = dktX4_compare_1 := dk_seg dksX4_compare_0 24 rfl rfl
theorem dksX4_compare_2 : cX4_compare.data.toList.drop 46 = dktX4_compare_2 := dk_seg dksX4_compare_1 22 rfl rfl
theorem dksX4_compare_3 : cX4_compare.data.toList.drop 70 = dktX4_compare_3 := dk_seg dksX4_compare_2 24 rfl rfl
theorem dksX4_compare_4 : cX4_compare.data.toList.drop 93 = dktX4_compare_4 := dk_seg dksX4_compare_3 23 rfl rfl
theorem dksX4_compare_5 : cX4_compare.data.toList.drop 116 = dktX4_compare_5 := dk_seg dksX4_compare_4 23 rfl rfl
theorem dksX4_compare_6 : cX4_compare.data.toList.drop 140 = dktX4_compare_6 := dk_seg dksX4_compare_5 24 rfl rfl
theorem dX4_compare_0 : decode cX4_compare 0 = .ok (.aload_n 0, 1) := dk_42 (dk_at dksX4_compare_0 0 rfl rfl)
theorem dX4_compare_1 : decode cX4_compare 1 = .ok (.getfield 119, 3) := dk_180 0 119 (dk_at dksX4_compare_0 1 rfl rfl)
theorem dX4_compare_4 : decode cX4_compare 4 = .ok (.ifCond .eq 54, 3) := dk_153 0 54 (dk_at dksX4_compare_0 4 rfl rfl)
theorem dX4_compare_7 : decode cX4_compare 7 = .ok (.iload_n 1, 1) := dk_27 (dk_at dksX4_compare_0 7 rfl rfl)
theorem dX4_compare_8 : decode cX4_compare 8 = .ok (.iconst 2, 1) := dk_5 (dk_at dksX4_compare_0 8 rfl rfl)
theorem dX4_compare_9 : decode cX4_compare 9 = .ok (.iconst 3, 1) := dk_6 (dk_at dksX4_compare_0 9 rfl rfl)
theorem dX4_compare_10 : decode cX4_compare 10 = .ok (.invokestatic 88, 3) := dk_184 0 88 (dk_at dksX4_compare_0 10 rfl rfl)
theorem dX4_compare_13 : decode cX4_compare 13 = .ok (.ifCond .eq 45, 3) := dk_153 0 45 (dk_at dksX4_compare_0 13 rfl rfl)
theorem dX4_compare_16 : decode cX4_compare 16 = .ok (.iload_n 2, 1) := dk_28 (dk_at dksX4_compare_0 16 rfl rfl)
theorem dX4_compare_17 : decode cX4_compare 17 = .ok (.iconst 0, 1) := dk_3 (dk_at dksX4_compare_0 17 rfl rfl)
theorem dX4_compare_18 : decode cX4_compare 18 = .ok (.aload_n 0, 1) := dk_42 (dk_at dksX4_compare_0 18 rfl rfl)
theorem dX4_compare_19 : decode cX4_compare 19 = .ok (.getfield 119, 3) := dk_180 0 119 (dk_at dksX4_compare_0 19 rfl rfl)
theorem dX4_compare_22 : decode cX4_compare 22 = .ok (.iconst 1, 1) := dk_4 (dk_at dksX4_compare_0 22 rfl rfl)
theorem dX4_compare_23 : decode cX4_compare 23 = .ok (.isub, 1) := dk_100 (dk_at dksX4_compare_0 23 rfl rfl)
theorem dX4_compare_24 : decode cX4_compare 24 = .ok (.invokestatic 88, 3) := dk_184 0 88 (dk_at dksX4_compare_1 0 rfl rfl)
theorem dX4_compare_27 : decode cX4_compare 27 = .ok (.ifCond .eq 31, 3) := dk_153 0 31 (dk_at dksX4_compare_1 3 rfl rfl)
theorem dX4_compare_30 : decode cX4_compare 30 = .ok (.iload_n 3, 1) := dk_29 (dk_at dksX4_compare_1 6 rfl rfl)
theorem dX4_compare_31 : decode cX4_compare 31 = .ok (.ifCond .eq 18, 3) := dk_153 0 18 (dk_at dksX4_compare_1 7 rfl rfl)
theorem dX4_compare_34 : decode cX4_compare 34 = .ok (.iload 4, 2) := dk_21 4 (dk_at dksX4_compare_1 10 rfl rfl)
theorem dX4_compare_36 : decode cX4_compare 36 = .ok (.iconst 0, 1) := dk_3 (dk_at dksX4_compare_1 12 rfl rfl)
theorem dX4_compare_37 : decode cX4_compare 37 = .ok (.aload_n 0, 1) := dk_42 (dk_at dksX4_compare_1 13 rfl rfl)
theorem dX4_compare_38 : decode cX4_compare 38 = .ok (.getfield 119, 3) := dk_180 0 119 (dk_at dksX4_compare_1 14 rfl rfl)
theorem dX4_compare_41 : decode cX4_compare 41 = .ok (.iconst 1, 1) := dk_4 (dk_at dksX4_compare_1 17 rfl rfl)
theorem dX4_compare_42 : decode cX4_compare 42 = .ok (.isub, 1) := dk_100 (dk_at dksX4_compare_1 18 rfl rfl)
theorem dX4_compare_43 : decode cX4_compare 43 = .ok (.invokestatic 88, 3) := dk_184 0 88 (dk_at dksX4_compare_1 19 rfl rfl)
theorem dX4_compare_46 : decode cX4_compare 46 = .ok (.ifCond .eq 12, 3) := dk_153 0 12 (dk_at dksX4_compare_2 0 rfl rfl)
theorem dX4_compare_49 : decode cX4_compare 49 = .ok (.aload_n 0, 1) := dk_42 (dk_at dksX4_compare_2 3 rfl rfl)
theorem dX4_compare_50 : decode cX4_compare 50 = .ok (.getfield 92, 3) := dk_180 0 92 (dk_at dksX4_compare_2 4 rfl rfl)
theorem dX4_compare_53 : decode cX4_compare 53 = .ok (.bipush 10, 2) := dk_16 10 (dk_at dksX4_compare_2 7 rfl rfl)
theorem dX4_compare_55 : decode cX4_compare 55 = .ok (.if_icmp .ne 5, 3) := dk_160 0 5 (dk_at dksX4_compare_2 9 rfl rfl)
theorem dX4_compare_58 : decode cX4_compare 58 = .ok (.iconst (-1), 1) := dk_2 (dk_at dksX4_compare_2 12 rfl rfl)
theorem dX4_compare_59 : decode cX4_compare 59 = .ok (.ireturn, 1) := dk_172 (dk_at dksX4_compare_2 13 rfl rfl)
theorem dX4_compare_60 : decode cX4_compare 60 = .ok (.aload_n 0, 1) := dk_42 (dk_at dksX4_compare_2 14 rfl rfl)
theorem dX4_compare_61 : decode cX4_compare 61 = .ok (.getfield 19, 3) := dk_180 0 19 (dk_at dksX4_compare_2 15 rfl rfl)
theorem dX4_compare_64 : decode cX4_compare 64 = .ok (.aload_n 0, 1) := dk_42 (dk_at dksX4_compare_2 18 rfl rfl)
theorem dX4_compare_65 : decode cX4_compare 65 = .ok (.getfield 92, 3) := dk_180 0 92 (dk_at dksX4_compare_2 19 rfl rfl)
theorem dX4_compare_68 : decode cX4_compare 68 = .ok (.iload_n 1, 1) := dk_27 (dk_at dksX4_compare_2 22 rfl rfl)
theorem dX4_compare_69 : decode cX4_compare 69 = .ok (.iastore, 1) := dk_79 (dk_at dksX4_compare_2 23 rfl rfl)
theorem dX4_compare_70 : decode cX4_compare 70 = .ok (.aload_n 0, 1) := dk_42 (dk_at dksX4_compare_3 0 rfl rfl)
theorem dX4_compare_71 : decode cX4_compare 71 = .ok (.getfield 25, 3) := dk_180 0 25 (dk_at dksX4_compare_3 1 rfl rfl)
theorem dX4_compare_74 : decode cX4_compare 74 = .ok (.aload_n 0, 1) := dk_42 (dk_at dksX4_compare_3 4 rfl rfl)
theorem dX4_compare_75 : decode cX4_compare 75 = .ok (.getfield 92, 3) := dk_180 0 92 (dk_at dksX4_compare_3 5 rfl rfl)
theorem dX4_compare_78 : decode cX4_compare 78 = .ok (.iconst 2, 1) := dk_5 (dk_at dksX4_compare_3 8 rfl rfl)
theorem dX4_compare_79 : decode cX4_compare 79 = .ok (.iastore, 1) := dk_79 (dk_at dksX4_compare_3 9 rfl rfl)
theorem dX4_compare_80 : decode cX4_compare 80 = .ok (.aload_n 0, 1) := dk_42 (dk_at dksX4_compare_3 10 rfl rfl)
theorem dX4_compare_81 : decode cX4_compare 81 = .ok (.getfield 28, 3) := dk_180 0 28 (dk_at dksX4_compare_3 11 rfl rfl)
theorem dX4_compare_84 : decode cX4_compare 84 = .ok (.iconst 3, 1) := dk_6 (dk_at dksX4_compare_3 14 rfl rfl)
theorem dX4_compare_85 : decode cX4_compare 85 = .ok (.aload_n 0, 1) := dk_42 (dk_at dksX4_compare_3 15 rfl rfl)
theorem dX4_compare_86 : decode cX4_compare 86 = .ok (.getfield 92, 3) := dk_180 0 92 (dk_at dksX4_compare_3 16 rfl rfl)
theorem dX4_compare_89 : decode cX4_compare 89 = .ok (.imul, 1) := dk_104 (dk_at dksX4_compare_3 19 rfl rfl)
theorem dX4_compare_90 : decode cX4_compare 90 = .ok (.iload_n 2, 1) := dk_28 (dk_at dksX4_compare_3 20 rfl rfl)
theorem dX4_compare_91 : decode cX4_compare 91 = .ok (.iastore, 1) := dk_79 (dk_at dksX4_compare_3 21 rfl rfl)
theorem dX4_compare_92 : decode cX4_compare 92 = .ok (.aload_n 0, 1) := dk_42 (dk_at dksX4_compare_3 22 rfl rfl)
theorem dX4_compare_93 : decode cX4_compare 93 = .ok (.getfield 28, 3) := dk_180 0 28 (dk_at dksX4_compare_4 0 rfl rfl)
theorem dX4_compare_96 : decode cX4_compare 96 = .ok (.iconst 3, 1) := dk_6 (dk_at dksX4_compare_4 3 rfl rfl)
theorem dX4_compare_97 : decode cX4_compare 97 = .ok (.aload_n 0, 1) := dk_42 (dk_at dksX4_compare_4 4 rfl rfl)
theorem dX4_compare_98 : decode cX4_compare 98 = .ok (.getfield 92, 3) := dk_180 0 92 (dk_at dksX4_compare_4 5 rfl rfl)
theorem dX4_compare_101 : decode cX4_compare 101 = .ok (.imul, 1) := dk_104 (dk_at dksX4_compare_4 8 rfl rfl)
theorem dX4_compare_102 : decode cX4_compare 102 = .ok (.iconst 1, 1) := dk_4 (dk_at dksX4_compare_4 9 rfl rfl)
theorem dX4_compare_103 : decode cX4_compare 103 = .ok (.iadd, 1) := dk_96 (dk_at dksX4_compare_4 10 rfl rfl)
theorem dX4_compare_104 : decode cX4_compare 104 = .ok (.iload_n 3, 1) := dk_29 (dk_at dksX4_compare_4 11 rfl rfl)
theorem dX4_compare_105 : decode cX4_compare 105 = .ok (.ifCond .eq 8, 3) := dk_153 0 8 (dk_at dksX4_compare_4 12 rfl rfl)
theorem dX4_compare_108 : decode cX4_compare 108 = .ok (.iload 4, 2) := dk_21 4 (dk_at dksX4_compare_4 15 rfl rfl)
theorem dX4_compare_110 : decode cX4_compare 110 = .ok (.goto 4, 3) := dk_167 0 4 (dk_at dksX4_compare_4 17 rfl rfl)
theorem dX4_compare_113 : decode cX4_compare 113 = .ok (.iconst (-1), 1) := dk_2 (dk_at dksX4_compare_4 20 rfl rfl)
theorem dX4_compare_114 : decode cX4_compare 114 = .ok (.iastore, 1) := dk_79 (dk_at dksX4_compare_4 21 rfl rfl)
theorem dX4_compare_115 : decode cX4_compare 115 = .ok (.aload_n 0, 1) := dk_42 (dk_at dksX4_compare_4 22 rfl rfl)
theorem dX4_compare_116 : decode cX4_compare 116 = .ok (.getfield 31, 3) := dk_180 0 31 (dk_at dksX4_compare_5 0 rfl rfl)
theorem dX4_compare_119 : decode cX4_compare 119 = .ok (.iconst 3, 1) := dk_6 (dk_at dksX4_compare_5 3 rfl rfl)
theorem dX4_compare_120 : decode cX4_compare 120 = .ok (.aload_n 0, 1) := dk_42 (dk_at dksX4_compare_5 4 rfl rfl)
theorem dX4_compare_121 : decode cX4_compare 121 = .ok (.getfield 92, 3) := dk_180 0 92 (dk_at dksX4_compare_5 5 rfl rfl)
theorem dX4_compare_124 : decode cX4_compare 124 = .ok (.imul, 1) := dk_104 (dk_at dksX4_compare_5 8 rfl rfl)
theorem dX4_compare_125 : decode cX4_compare 125 = .ok (.iconst 1, 1) := dk_4 (dk_at dksX4_compare_5 9 rfl rfl)
theorem dX4_compare_126 : decode cX4_compare 126 = .ok (.iadd, 1) := dk_96 (dk_at dksX4_compare_5 10 rfl rfl)
theorem dX4_compare_127 : decode cX4_compare 127 = .ok (.iload 4, 2) := dk_21 4 (dk_at dksX4_compare_5 11 rfl rfl)
theorem dX4_compare_129 : decode cX4_compare 129 = .ok (.iastore, 1) := dk_79 (dk_at dksX4_compare_5 13 rfl rfl)
theorem dX4_compare_130 : decode cX4_compare 130 = .ok (.aload_n 0, 1) := dk_42 (dk_at dksX4_compare_5 14 rfl rfl)
theorem dX4_compare_131 : decode cX4_compare 131 = .ok (.dup, 1) := dk_89 (dk_at dksX4_compare_5 15 rfl rfl)
theorem dX4_compare_132 : decode cX4_compare 132 = .ok (.getfield 92, 3) := dk_180 0 92 (dk_at dksX4_compare_5 16 rfl rfl)
theorem dX4_compare_135 : decode cX4_compare 135 = .ok (.iconst 1, 1) := dk_4 (dk_at dksX4_compare_5 19 rfl rfl)
theorem dX4_compare_136 : decode cX4_compare 136 = .ok (.iadd, 1) := dk_96 (dk_at dksX4_compare_5 20 rfl rfl)
theorem dX4_compare_137 : decode cX4_compare 137 = .ok (.putfield 92, 3) := dk_181 0 92 (dk_at dksX4_compare_5 21 rfl rfl)
theorem dX4_compare_140 : decode cX4_compare 140 = .ok (.aload_n 0, 1) := dk_42 (dk_at dksX4_compare_6 0 rfl rfl)
theorem dX4_compare_141 : decode cX4_compare 141 = .ok (.getfield 92, 3) := dk_180 0 92 (dk_at dksX4_compare_6 1 rfl rfl)
theorem dX4_compare_144 : decode cX4_compare 144 = .ok (.iconst 1, 1) := dk_4 (dk_at dksX4_compare_6 4 rfl rfl)
theorem dX4_compare_145 : decode cX4_compare 145 = .ok (.isub, 1) := dk_100 (dk_at dksX4_compare_6 5 rfl rfl)
theorem dX4_compare_146 : decode cX4_compare 146 = .ok (.ireturn, 1) := dk_172 (dk_at dksX4_compare_6 6 rfl rfl)
abbrev cX4_weave : ByteArray := prog_13_method_35_code
def yX4_weave : MethodName := ⟨RX4, "weave", "()I"⟩
def dkwX4_weave_14 : List UInt8 := [132, 1, 1, 167, 255, 161, 42, 180, 0, 46, 172]
abbrev dktX4_weave_14 : List UInt8 := dkwX4_weave_14 ++ []
def dkwX4_weave_13 : List UInt8 := [4, 42, 180, 0, 119, 120, 4, 100, 182, 0, 144, 167, 0, 4, 2, 79, 132, 2, 1, 167, 255, 208]
abbrev dktX4_weave_13 : List UInt8 := dkwX4_weave_13 ++ dktX4_weave_14
def dkwX4_weave_12 : List UInt8 := [162, 0, 46, 42, 180, 0, 56, 16, 10, 27, 104, 28, 96, 42, 180, 0, 19, 28, 46, 154, 0, 19, 42, 28]
abbrev dktX4_weave_12 : List UInt8 := dkwX4_weave_12 ++ dktX4_weave_13
def dkwX4_weave_11 : List UInt8 := [180, 0, 50, 16, 6, 27, 104, 28, 96, 46, 79, 132, 2, 1, 167, 255, 230, 3, 61, 28, 42, 180, 0, 92]
abbrev dktX4_weave_11 : List UInt8 := dkwX4_weave_11 ++ dktX4_weave_12
def dkwX4_weave_10 : List UInt8 := [3, 60, 27, 42, 180, 0, 46, 162, 0, 93, 3, 61, 28, 16, 6, 162, 0, 26, 42, 180, 0, 69, 28, 42]
abbrev dktX4_weave_10 : List UInt8 := dkwX4_weave_10 ++ dktX4_weave_11
def dkwX4_weave_9 : List UInt8 := [162, 0, 16, 42, 180, 0, 19, 27, 46, 154, 0, 7, 4, 167, 0, 4, 3, 84, 132, 1, 1, 167, 255, 219]
abbrev dktX4_weave_9 : List UInt8 := dkwX4_weave_9 ++ dktX4_weave_10
def dkwX4_weave_8 : List UInt8 := [132, 1, 1, 167, 255, 136, 3, 60, 27, 16, 10, 162, 0, 37, 42, 180, 0, 59, 27, 27, 42, 180, 0, 92]
abbrev dktX4_weave_8 : List UInt8 := dkwX4_weave_8 ++ dktX4_weave_9
def dkwX4_weave_7 : List UInt8 := [16, 6, 28, 104, 29, 96, 42, 180, 0, 37, 16, 6, 27, 104, 29, 96, 46, 79, 132, 3, 1, 167, 255, 225]
abbrev dktX4_weave_7 : List UInt8 := dkwX4_weave_7 ++ dktX4_weave_8
def dkwX4_weave_6 : List UInt8 := [132, 3, 1, 167, 255, 222, 132, 2, 255, 167, 255, 188, 3, 62, 29, 16, 6, 162, 0, 31, 42, 180, 0, 50]
abbrev dktX4_weave_6 : List UInt8 := dkwX4_weave_6 ++ dktX4_weave_7
def dkwX4_weave_5 : List UInt8 := [180, 0, 50, 16, 6, 28, 104, 29, 96, 42, 180, 0, 50, 16, 6, 28, 104, 16, 6, 100, 29, 96, 46, 79]
abbrev dktX4_weave_5 : List UInt8 := dkwX4_weave_5 ++ dktX4_weave_6
def dkwX4_weave_4 : List UInt8 := [180, 0, 37, 27, 42, 180, 0, 119, 184, 0, 179, 158, 0, 48, 3, 62, 29, 16, 6, 162, 0, 34, 42]
abbrev dktX4_weave_4 : List UInt8 := dkwX4_weave_4 ++ dktX4_weave_5
def dkwX4_weave_3 : List UInt8 := [3, 60, 27, 42, 180, 0, 153, 162, 0, 118, 27, 61, 28, 158, 0, 70, 42, 180, 0, 50, 28, 4, 100, 42]
abbrev dktX4_weave_3 : List UInt8 := dkwX4_weave_3 ++ dktX4_weave_4
def dkwX4_weave_2 : List UInt8 := [180, 0, 119, 162, 0, 21, 42, 180, 0, 53, 27, 42, 180, 0, 43, 27, 46, 79, 132, 1, 1, 167, 255, 233]
abbrev dktX4_weave_2 : List UInt8 := dkwX4_weave_2 ++ dktX4_weave_3
def dkwX4_weave_1 : List UInt8 := [181, 0, 173, 42, 42, 180, 0, 153, 181, 0, 46, 42, 42, 180, 0, 92, 181, 0, 176, 3, 60, 27, 42]
abbrev dktX4_weave_1 : List UInt8 := dkwX4_weave_1 ++ dktX4_weave_2
def dkwX4_weave_0 : List UInt8 := [42, 182, 0, 166, 154, 0, 5, 2, 172, 42, 182, 0, 170, 154, 0, 6, 16, 254, 172, 42, 42, 180, 0, 119]
abbrev dktX4_weave_0 : List UInt8 := dkwX4_weave_0 ++ dktX4_weave_1
theorem dksX4_weave_0 : cX4_weave.data.toList.drop 0 = dktX4_weave_0 := by decide +kernel
theorem dksX4_weave_1 : cX4_weave.data.toList.drop 24 = dktX4_weave_1 := dk_seg dksX4_weave_0 24 rfl rfl
theorem dksX4_weave_2 : cX4_weave.data.toList.drop 47 = dktX4_weave_2 := dk_seg dksX4_weave_1 23 rfl rfl
theorem dksX4_weave_3 : cX4_weave.data.toList.drop 71 = dktX4_weave_3 := dk_seg dksX4_weave_2 24 rfl rfl
theorem dksX4_weave_4 : cX4_weave.data.toList.drop 95 = dktX4_weave_4 := dk_seg dksX4_weave_3 24 rfl rfl
theorem dksX4_weave_5 : cX4_weave.data.toList.drop 118 = dktX4_weave_5 := dk_seg dksX4_weave_4 23 rfl rfl
theorem dksX4_weave_6 : cX4_weave.data.toList.drop 142 = dktX4_weave_6 := dk_seg dksX4_weave_5 24 rfl rfl
theorem dksX4_weave_7 : cX4_weave.data.toList.drop 166 = dktX4_weave_7 := dk_seg dksX4_weave_6 24 rfl rfl
theorem dksX4_weave_8 : cX4_weave.data.toList.drop 190 = dktX4_weave_8 := dk_seg dksX4_weave_7 24 rfl rfl
theorem dksX4_weave_9 : cX4_weave.data.toList.drop 214 = dktX4_weave_9 := dk_seg dksX4_weave_8 24 rfl rfl
theorem dksX4_weave_10 : cX4_weave.data.toList.drop 238 = dktX4_weave_10 := dk_seg dksX4_weave_9 24 rfl rfl
theorem dksX4_weave_11 : cX4_weave.data.toList.drop 262 = dktX4_weave_11 := dk_seg dksX4_weave_10 24 rfl rfl
theorem dksX4_weave_12 : cX4_weave.data.toList.drop 286 = dktX4_weave_12 := dk_seg dksX4_weave_11 24 rfl rfl
theorem dksX4_weave_13 : cX4_weave.data.toList.drop 310 = dktX4_weave_13 := dk_seg dksX4_weave_12 24 rfl rfl
theorem dksX4_weave_14 : cX4_weave.data.toList.drop 332 = dktX4_weave_14 := dk_seg dksX4_weave_13 22 rfl rfl
theorem dX4_weave_0 : decode cX4_weave 0 = .ok (.aload_n 0, 1) := dk_42 (dk_at dksX4_weave_0 0 rfl rfl)
theorem dX4_weave_1 : decode cX4_weave 1 = .ok (.invokevirtual 166, 3) := dk_182 0 166 (dk_at dksX4_weave_0 1 rfl rfl)
theorem dX4_weave_4 : decode cX4_weave 4 = .ok (.ifCond .ne 5, 3) := dk_154 0 5 (dk_at dksX4_weave_0 4 rfl rfl)
theorem dX4_weave_7 : decode cX4_weave 7 = .ok (.iconst (-1), 1) := dk_2 (dk_at dksX4_weave_0 7 rfl rfl)
theorem dX4_weave_8 : decode cX4_weave 8 = .ok (.ireturn, 1) := dk_172 (dk_at dksX4_weave_0 8 rfl rfl)
theorem dX4_weave_9 : decode cX4_weave 9 = .ok (.aload_n 0, 1) := dk_42 (dk_at dksX4_weave_0 9 rfl rfl)
theorem dX4_weave_10 : decode cX4_weave 10 = .ok (.invokevirtual 170, 3) := dk_182 0 170 (dk_at dksX4_weave_0 10 rfl rfl)
theorem dX4_weave_13 : decode cX4_weave 13 = .ok (.ifCond .ne 6, 3) := dk_154 0 6 (dk_at dksX4_weave_0 13 rfl rfl)
theorem dX4_weave_16 : decode cX4_weave 16 = .ok (.bipush (-2), 2) := dk_16 254 (dk_at dksX4_weave_0 16 rfl rfl)
theorem dX4_weave_18 : decode cX4_weave 18 = .ok (.ireturn, 1) := dk_172 (dk_at dksX4_weave_0 18 rfl rfl)
theorem dX4_weave_19 : decode cX4_weave 19 = .ok (.aload_n 0, 1) := dk_42 (dk_at dksX4_weave_0 19 rfl rfl)
theorem dX4_weave_20 : decode cX4_weave 20 = .ok (.aload_n 0, 1) := dk_42 (dk_at dksX4_weave_0 20 rfl rfl)
theorem dX4_weave_21 : decode cX4_weave 21 = .ok (.getfield 119, 3) := dk_180 0 119 (dk_at dksX4_weave_0 21 rfl rfl)
theorem dX4_weave_24 : decode cX4_weave 24 = .ok (.putfield 173, 3) := dk_181 0 173 (dk_at dksX4_weave_1 0 rfl rfl)
theorem dX4_weave_27 : decode cX4_weave 27 = .ok (.aload_n 0, 1) := dk_42 (dk_at dksX4_weave_1 3 rfl rfl)
theorem dX4_weave_28 : decode cX4_weave 28 = .ok (.aload_n 0, 1) := dk_42 (dk_at dksX4_weave_1 4 rfl rfl)
theorem dX4_weave_29 : decode cX4_weave 29 = .ok (.getfield 153, 3) := dk_180 0 153 (dk_at dksX4_weave_1 5 rfl rfl)
theorem dX4_weave_32 : decode cX4_weave 32 = .ok (.putfield 46, 3) := dk_181 0 46 (dk_at dksX4_weave_1 8 rfl rfl)
theorem dX4_weave_35 : decode cX4_weave 35 = .ok (.aload_n 0, 1) := dk_42 (dk_at dksX4_weave_1 11 rfl rfl)
theorem dX4_weave_36 : decode cX4_weave 36 = .ok (.aload_n 0, 1) := dk_42 (dk_at dksX4_weave_1 12 rfl rfl)
theorem dX4_weave_37 : decode cX4_weave 37 = .ok (.getfield 92, 3) := dk_180 0 92 (dk_at dksX4_weave_1 13 rfl rfl)
theorem dX4_weave_40 : decode cX4_weave 40 = .ok (.putfield 176, 3) := dk_181 0 176 (dk_at dksX4_weave_1 16 rfl rfl)
theorem dX4_weave_43 : decode cX4_weave 43 = .ok (.iconst 0, 1) := dk_3 (dk_at dksX4_weave_1 19 rfl rfl)
theorem dX4_weave_44 : decode cX4_weave 44 = .ok (.istore_n 1, 1) := dk_60 (dk_at dksX4_weave_1 20 rfl rfl)
theorem dX4_weave_45 : decode cX4_weave 45 = .ok (.iload_n 1, 1) := dk_27 (dk_at dksX4_weave_1 21 rfl rfl)
theorem dX4_weave_46 : decode cX4_weave 46 = .ok (.aload_n 0, 1) := dk_42 (dk_at dksX4_weave_1 22 rfl rfl)
theorem dX4_weave_47 : decode cX4_weave 47 = .ok (.getfield 119, 3) := dk_180 0 119 (dk_at dksX4_weave_2 0 rfl rfl)
theorem dX4_weave_50 : decode cX4_weave 50 = .ok (.if_icmp .ge 21, 3) := dk_162 0 21 (dk_at dksX4_weave_2 3 rfl rfl)
theorem dX4_weave_53 : decode cX4_weave 53 = .ok (.aload_n 0, 1) := dk_42 (dk_at dksX4_weave_2 6 rfl rfl)
theorem dX4_weave_54 : decode cX4_weave 54 = .ok (.getfield 53, 3) := dk_180 0 53 (dk_at dksX4_weave_2 7 rfl rfl)
theorem dX4_weave_57 : decode cX4_weave 57 = .ok (.iload_n 1, 1) := dk_27 (dk_at dksX4_weave_2 10 rfl rfl)
theorem dX4_weave_58 : decode cX4_weave 58 = .ok (.aload_n 0, 1) := dk_42 (dk_at dksX4_weave_2 11 rfl rfl)
theorem dX4_weave_59 : decode cX4_weave 59 = .ok (.getfield 43, 3) := dk_180 0 43 (dk_at dksX4_weave_2 12 rfl rfl)
theorem dX4_weave_62 : decode cX4_weave 62 = .ok (.iload_n 1, 1) := dk_27 (dk_at dksX4_weave_2 15 rfl rfl)
theorem dX4_weave_63 : decode cX4_weave 63 = .ok (.iaload, 1) := dk_46 (dk_at dksX4_weave_2 16 rfl rfl)
theorem dX4_weave_64 : decode cX4_weave 64 = .ok (.iastore, 1) := dk_79 (dk_at dksX4_weave_2 17 rfl rfl)
theorem dX4_weave_65 : decode cX4_weave 65 = .ok (.iinc 1 1, 3) := dk_132 1 1 (dk_at dksX4_weave_2 18 rfl rfl)
theorem dX4_weave_68 : decode cX4_weave 68 = .ok (.goto (-23), 3) := dk_167 255 233 (dk_at dksX4_weave_2 21 rfl rfl)
theorem dX4_weave_71 : decode cX4_weave 71 = .ok (.iconst 0, 1) := dk_3 (dk_at dksX4_weave_3 0 rfl rfl)
theorem dX4_weave_72 : decode cX4_weave 72 = .ok (.istore_n 1, 1) := dk_60 (dk_at dksX4_weave_3 1 rfl rfl)
theorem dX4_weave_73 : decode cX4_weave 73 = .ok (.iload_n 1, 1) := dk_27 (dk_at dksX4_weave_3 2 rfl rfl)
theorem dX4_weave_74 : decode cX4_weave 74 = .ok (.aload_n 0, 1) := dk_42 (dk_at dksX4_weave_3 3 rfl rfl)
theorem dX4_weave_75 : decode cX4_weave 75 = .ok (.getfield 153, 3) := dk_180 0 153 (dk_at dksX4_weave_3 4 rfl rfl)
theorem dX4_weave_78 : decode cX4_weave 78 = .ok (.if_icmp .ge 118, 3) := dk_162 0 118 (dk_at dksX4_weave_3 7 rfl rfl)
theorem dX4_weave_81 : decode cX4_weave 81 = .ok (.iload_n 1, 1) := dk_27 (dk_at dksX4_weave_3 10 rfl rfl)
theorem dX4_weave_82 : decode cX4_weave 82 = .ok (.istore_n 2, 1) := dk_61 (dk_at dksX4_weave_3 11 rfl rfl)
theorem dX4_weave_83 : decode cX4_weave 83 = .ok (.iload_n 2, 1) := dk_28 (dk_at dksX4_weave_3 12 rfl rfl)
theorem dX4_weave_84 : decode cX4_weave 84 = .ok (.ifCond .le 70, 3) := dk_158 0 70 (dk_at dksX4_weave_3 13 rfl rfl)
theorem dX4_weave_87 : decode cX4_weave 87 = .ok (.aload_n 0, 1) := dk_42 (dk_at dksX4_weave_3 16 rfl rfl)
theorem dX4_weave_88 : decode cX4_weave 88 = .ok (.getfield 50, 3) := dk_180 0 50 (dk_at dksX4_weave_3 17 rfl rfl)
theorem dX4_weave_91 : decode cX4_weave 91 = .ok (.iload_n 2, 1) := dk_28 (dk_at dksX4_weave_3 20 rfl rfl)
theorem dX4_weave_92 : decode cX4_weave 92 = .ok (.iconst 1, 1) := dk_4 (dk_at dksX4_weave_3 21 rfl rfl)
theorem dX4_weave_93 : decode cX4_weave 93 = .ok (.isub, 1) := dk_100 (dk_at dksX4_weave_3 22 rfl rfl)
theorem dX4_weave_94 : decode cX4_weave 94 = .ok (.aload_n 0, 1) := dk_42 (dk_at dksX4_weave_3 23 rfl rfl)
theorem dX4_weave_95 : decode cX4_weave 95 = .ok (.getfield 37, 3) := dk_180 0 37 (dk_at dksX4_weave_4 0 rfl rfl)
theorem dX4_weave_98 : decode cX4_weave 98 = .ok (.iload_n 1, 1) := dk_27 (dk_at dksX4_weave_4 3 rfl rfl)
theorem dX4_weave_99 : decode cX4_weave 99 = .ok (.aload_n 0, 1) := dk_42 (dk_at dksX4_weave_4 4 rfl rfl)
theorem dX4_weave_100 : decode cX4_weave 100 = .ok (.getfield 119, 3) := dk_180 0 119 (dk_at dksX4_weave_4 5 rfl rfl)
theorem dX4_weave_103 : decode cX4_weave 103 = .ok (.invokestatic 179, 3) := dk_184 0 179 (dk_at dksX4_weave_4 8 rfl rfl)
theorem dX4_weave_106 : decode cX4_weave 106 = .ok (.ifCond .le 48, 3) := dk_158 0 48 (dk_at dksX4_weave_4 11 rfl rfl)
theorem dX4_weave_109 : decode cX4_weave 109 = .ok (.iconst 0, 1) := dk_3 (dk_at dksX4_weave_4 14 rfl rfl)
theorem dX4_weave_110 : decode cX4_weave 110 = .ok (.istore_n 3, 1) := dk_62 (dk_at dksX4_weave_4 15 rfl rfl)
theorem dX4_weave_111 : decode cX4_weave 111 = .ok (.iload_n 3, 1) := dk_29 (dk_at dksX4_weave_4 16 rfl rfl)
theorem dX4_weave_112 : decode cX4_weave 112 = .ok (.bipush 6, 2) := dk_16 6 (dk_at dksX4_weave_4 17 rfl rfl)
theorem dX4_weave_114 : decode cX4_weave 114 = .ok (.if_icmp .ge 34, 3) := dk_162 0 34 (dk_at dksX4_weave_4 19 rfl rfl)
theorem dX4_weave_117 : decode cX4_weave 117 = .ok (.aload_n 0, 1) := dk_42 (dk_at dksX4_weave_4 22 rfl rfl)
theorem dX4_weave_118 : decode cX4_weave 118 = .ok (.getfield 50, 3) := dk_180 0 50 (dk_at dksX4_weave_5 0 rfl rfl)
theorem dX4_weave_121 : decode cX4_weave 121 = .ok (.bipush 6, 2) := dk_16 6 (dk_at dksX4_weave_5 3 rfl rfl)
theorem dX4_weave_123 : decode cX4_weave 123 = .ok (.iload_n 2, 1) := dk_28 (dk_at dksX4_weave_5 5 rfl rfl)
theorem dX4_weave_124 : decode cX4_weave 124 = .ok (.imul, 1) := dk_104 (dk_at dksX4_weave_5 6 rfl rfl)
theorem dX4_weave_125 : decode cX4_weave 125 = .ok (.iload_n 3, 1) := dk_29 (dk_at dksX4_weave_5 7 rfl rfl)
theorem dX4_weave_126 : decode cX4_weave 126 = .ok (.iadd, 1) := dk_96 (dk_at dksX4_weave_5 8 rfl rfl)
theorem dX4_weave_127 : decode cX4_weave 127 = .ok (.aload_n 0, 1) := dk_42 (dk_at dksX4_weave_5 9 rfl rfl)
theorem dX4_weave_128 : decode cX4_weave 128 = .ok (.getfield 50, 3) := dk_180 0 50 (dk_at dksX4_weave_5 10 rfl rfl)
theorem dX4_weave_131 : decode cX4_weave 131 = .ok (.bipush 6, 2) := dk_16 6 (dk_at dksX4_weave_5 13 rfl rfl)
theorem dX4_weave_133 : decode cX4_weave 133 = .ok (.iload_n 2, 1) := dk_28 (dk_at dksX4_weave_5 15 rfl rfl)
theorem dX4_weave_134 : decode cX4_weave 134 = .ok (.imul, 1) := dk_104 (dk_at dksX4_weave_5 16 rfl rfl)
theorem dX4_weave_135 : decode cX4_weave 135 = .ok (.bipush 6, 2) := dk_16 6 (dk_at dksX4_weave_5 17 rfl rfl)
theorem dX4_weave_137 : decode cX4_weave 137 = .ok (.isub, 1) := dk_100 (dk_at dksX4_weave_5 19 rfl rfl)
theorem dX4_weave_138 : decode cX4_weave 138 = .ok (.iload_n 3, 1) := dk_29 (dk_at dksX4_weave_5 20 rfl rfl)
theorem dX4_weave_139 : decode cX4_weave 139 = .ok (.iadd, 1) := dk_96 (dk_at dksX4_weave_5 21 rfl rfl)
theorem dX4_weave_140 : decode cX4_weave 140 = .ok (.iaload, 1) := dk_46 (dk_at dksX4_weave_5 22 rfl rfl)
theorem dX4_weave_141 : decode cX4_weave 141 = .ok (.iastore, 1) := dk_79 (dk_at dksX4_weave_5 23 rfl rfl)
theorem dX4_weave_142 : decode cX4_weave 142 = .ok (.iinc 3 1, 3) := dk_132 3 1 (dk_at dksX4_weave_6 0 rfl rfl)
theorem dX4_weave_145 : decode cX4_weave 145 = .ok (.goto (-34), 3) := dk_167 255 222 (dk_at dksX4_weave_6 3 rfl rfl)
theorem dX4_weave_148 : decode cX4_weave 148 = .ok (.iinc 2 (-1), 3) := dk_132 2 255 (dk_at dksX4_weave_6 6 rfl rfl)
theorem dX4_weave_151 : decode cX4_weave 151 = .ok (.goto (-68), 3) := dk_167 255 188 (dk_at dksX4_weave_6 9 rfl rfl)
theorem dX4_weave_154 : decode cX4_weave 154 = .ok (.iconst 0, 1) := dk_3 (dk_at dksX4_weave_6 12 rfl rfl)
theorem dX4_weave_155 : decode cX4_weave 155 = .ok (.istore_n 3, 1) := dk_62 (dk_at dksX4_weave_6 13 rfl rfl)
theorem dX4_weave_156 : decode cX4_weave 156 = .ok (.iload_n 3, 1) := dk_29 (dk_at dksX4_weave_6 14 rfl rfl)
theorem dX4_weave_157 : decode cX4_weave 157 = .ok (.bipush 6, 2) := dk_16 6 (dk_at dksX4_weave_6 15 rfl rfl)
theorem dX4_weave_159 : decode cX4_weave 159 = .ok (.if_icmp .ge 31, 3) := dk_162 0 31 (dk_at dksX4_weave_6 17 rfl rfl)
theorem dX4_weave_162 : decode cX4_weave 162 = .ok (.aload_n 0, 1) := dk_42 (dk_at dksX4_weave_6 20 rfl rfl)
theorem dX4_weave_163 : decode cX4_weave 163 = .ok (.getfield 50, 3) := dk_180 0 50 (dk_at dksX4_weave_6 21 rfl rfl)
theorem dX4_weave_166 : decode cX4_weave 166 = .ok (.bipush 6, 2) := dk_16 6 (dk_at dksX4_weave_7 0 rfl rfl)
theorem dX4_weave_168 : decode cX4_weave 168 = .ok (.iload_n 2, 1) := dk_28 (dk_at dksX4_weave_7 2 rfl rfl)
theorem dX4_weave_169 : decode cX4_weave 169 = .ok (.imul, 1) := dk_104 (dk_at dksX4_weave_7 3 rfl rfl)
theorem dX4_weave_170 : decode cX4_weave 170 = .ok (.iload_n 3, 1) := dk_29 (dk_at dksX4_weave_7 4 rfl rfl)
theorem dX4_weave_171 : decode cX4_weave 171 = .ok (.iadd, 1) := dk_96 (dk_at dksX4_weave_7 5 rfl rfl)
theorem dX4_weave_172 : decode cX4_weave 172 = .ok (.aload_n 0, 1) := dk_42 (dk_at dksX4_weave_7 6 rfl rfl)
theorem dX4_weave_173 : decode cX4_weave 173 = .ok (.getfield 37, 3) := dk_180 0 37 (dk_at dksX4_weave_7 7 rfl rfl)
theorem dX4_weave_176 : decode cX4_weave 176 = .ok (.bipush 6, 2) := dk_16 6 (dk_at dksX4_weave_7 10 rfl rfl)
theorem dX4_weave_178 : decode cX4_weave 178 = .ok (.iload_n 1, 1) := dk_27 (dk_at dksX4_weave_7 12 rfl rfl)
theorem dX4_weave_179 : decode cX4_weave 179 = .ok (.imul, 1) := dk_104 (dk_at dksX4_weave_7 13 rfl rfl)
theorem dX4_weave_180 : decode cX4_weave 180 = .ok (.iload_n 3, 1) := dk_29 (dk_at dksX4_weave_7 14 rfl rfl)
theorem dX4_weave_181 : decode cX4_weave 181 = .ok (.iadd, 1) := dk_96 (dk_at dksX4_weave_7 15 rfl rfl)
theorem dX4_weave_182 : decode cX4_weave 182 = .ok (.iaload, 1) := dk_46 (dk_at dksX4_weave_7 16 rfl rfl)
theorem dX4_weave_183 : decode cX4_weave 183 = .ok (.iastore, 1) := dk_79 (dk_at dksX4_weave_7 17 rfl rfl)
theorem dX4_weave_184 : decode cX4_weave 184 = .ok (.iinc 3 1, 3) := dk_132 3 1 (dk_at dksX4_weave_7 18 rfl rfl)
theorem dX4_weave_187 : decode cX4_weave 187 = .ok (.goto (-31), 3) := dk_167 255 225 (dk_at dksX4_weave_7 21 rfl rfl)
theorem dX4_weave_190 : decode cX4_weave 190 = .ok (.iinc 1 1, 3) := dk_132 1 1 (dk_at dksX4_weave_8 0 rfl rfl)
theorem dX4_weave_193 : decode cX4_weave 193 = .ok (.goto (-120), 3) := dk_167 255 136 (dk_at dksX4_weave_8 3 rfl rfl)
theorem dX4_weave_196 : decode cX4_weave 196 = .ok (.iconst 0, 1) := dk_3 (dk_at dksX4_weave_8 6 rfl rfl)
theorem dX4_weave_197 : decode cX4_weave 197 = .ok (.istore_n 1, 1) := dk_60 (dk_at dksX4_weave_8 7 rfl rfl)
theorem dX4_weave_198 : decode cX4_weave 198 = .ok (.iload_n 1, 1) := dk_27 (dk_at dksX4_weave_8 8 rfl rfl)
theorem dX4_weave_199 : decode cX4_weave 199 = .ok (.bipush 10, 2) := dk_16 10 (dk_at dksX4_weave_8 9 rfl rfl)
theorem dX4_weave_201 : decode cX4_weave 201 = .ok (.if_icmp .ge 37, 3) := dk_162 0 37 (dk_at dksX4_weave_8 11 rfl rfl)
theorem dX4_weave_204 : decode cX4_weave 204 = .ok (.aload_n 0, 1) := dk_42 (dk_at dksX4_weave_8 14 rfl rfl)
theorem dX4_weave_205 : decode cX4_weave 205 = .ok (.getfield 59, 3) := dk_180 0 59 (dk_at dksX4_weave_8 15 rfl rfl)
theorem dX4_weave_208 : decode cX4_weave 208 = .ok (.iload_n 1, 1) := dk_27 (dk_at dksX4_weave_8 18 rfl rfl)
theorem dX4_weave_209 : decode cX4_weave 209 = .ok (.iload_n 1, 1) := dk_27 (dk_at dksX4_weave_8 19 rfl rfl)
theorem dX4_weave_210 : decode cX4_weave 210 = .ok (.aload_n 0, 1) := dk_42 (dk_at dksX4_weave_8 20 rfl rfl)
theorem dX4_weave_211 : decode cX4_weave 211 = .ok (.getfield 92, 3) := dk_180 0 92 (dk_at dksX4_weave_8 21 rfl rfl)
theorem dX4_weave_214 : decode cX4_weave 214 = .ok (.if_icmp .ge 16, 3) := dk_162 0 16 (dk_at dksX4_weave_9 0 rfl rfl)
theorem dX4_weave_217 : decode cX4_weave 217 = .ok (.aload_n 0, 1) := dk_42 (dk_at dksX4_weave_9 3 rfl rfl)
theorem dX4_weave_218 : decode cX4_weave 218 = .ok (.getfield 19, 3) := dk_180 0 19 (dk_at dksX4_weave_9 4 rfl rfl)
theorem dX4_weave_221 : decode cX4_weave 221 = .ok (.iload_n 1, 1) := dk_27 (dk_at dksX4_weave_9 7 rfl rfl)
theorem dX4_weave_222 : decode cX4_weave 222 = .ok (.iaload, 1) := dk_46 (dk_at dksX4_weave_9 8 rfl rfl)
theorem dX4_weave_223 : decode cX4_weave 223 = .ok (.ifCond .ne 7, 3) := dk_154 0 7 (dk_at dksX4_weave_9 9 rfl rfl)
theorem dX4_weave_226 : decode cX4_weave 226 = .ok (.iconst 1, 1) := dk_4 (dk_at dksX4_weave_9 12 rfl rfl)
theorem dX4_weave_227 : decode cX4_weave 227 = .ok (.goto 4, 3) := dk_167 0 4 (dk_at dksX4_weave_9 13 rfl rfl)
theorem dX4_weave_230 : decode cX4_weave 230 = .ok (.iconst 0, 1) := dk_3 (dk_at dksX4_weave_9 16 rfl rfl)
theorem dX4_weave_231 : decode cX4_weave 231 = .ok (.bastore, 1) := dk_84 (dk_at dksX4_weave_9 17 rfl rfl)
theorem dX4_weave_232 : decode cX4_weave 232 = .ok (.iinc 1 1, 3) := dk_132 1 1 (dk_at dksX4_weave_9 18 rfl rfl)
theorem dX4_weave_235 : decode cX4_weave 235 = .ok (.goto (-37), 3) := dk_167 255 219 (dk_at dksX4_weave_9 21 rfl rfl)
theorem dX4_weave_238 : decode cX4_weave 238 = .ok (.iconst 0, 1) := dk_3 (dk_at dksX4_weave_10 0 rfl rfl)
theorem dX4_weave_239 : decode cX4_weave 239 = .ok (.istore_n 1, 1) := dk_60 (dk_at dksX4_weave_10 1 rfl rfl)
theorem dX4_weave_240 : decode cX4_weave 240 = .ok (.iload_n 1, 1) := dk_27 (dk_at dksX4_weave_10 2 rfl rfl)
theorem dX4_weave_241 : decode cX4_weave 241 = .ok (.aload_n 0, 1) := dk_42 (dk_at dksX4_weave_10 3 rfl rfl)
theorem dX4_weave_242 : decode cX4_weave 242 = .ok (.getfield 46, 3) := dk_180 0 46 (dk_at dksX4_weave_10 4 rfl rfl)
theorem dX4_weave_245 : decode cX4_weave 245 = .ok (.if_icmp .ge 93, 3) := dk_162 0 93 (dk_at dksX4_weave_10 7 rfl rfl)
theorem dX4_weave_248 : decode cX4_weave 248 = .ok (.iconst 0, 1) := dk_3 (dk_at dksX4_weave_10 10 rfl rfl)
theorem dX4_weave_249 : decode cX4_weave 249 = .ok (.istore_n 2, 1) := dk_61 (dk_at dksX4_weave_10 11 rfl rfl)
theorem dX4_weave_250 : decode cX4_weave 250 = .ok (.iload_n 2, 1) := dk_28 (dk_at dksX4_weave_10 12 rfl rfl)
theorem dX4_weave_251 : decode cX4_weave 251 = .ok (.bipush 6, 2) := dk_16 6 (dk_at dksX4_weave_10 13 rfl rfl)
theorem dX4_weave_253 : decode cX4_weave 253 = .ok (.if_icmp .ge 26, 3) := dk_162 0 26 (dk_at dksX4_weave_10 15 rfl rfl)
theorem dX4_weave_256 : decode cX4_weave 256 = .ok (.aload_n 0, 1) := dk_42 (dk_at dksX4_weave_10 18 rfl rfl)
theorem dX4_weave_257 : decode cX4_weave 257 = .ok (.getfield 69, 3) := dk_180 0 69 (dk_at dksX4_weave_10 19 rfl rfl)
theorem dX4_weave_260 : decode cX4_weave 260 = .ok (.iload_n 2, 1) := dk_28 (dk_at dksX4_weave_10 22 rfl rfl)
theorem dX4_weave_261 : decode cX4_weave 261 = .ok (.aload_n 0, 1) := dk_42 (dk_at dksX4_weave_10 23 rfl rfl)
theorem dX4_weave_262 : decode cX4_weave 262 = .ok (.getfield 50, 3) := dk_180 0 50 (dk_at dksX4_weave_11 0 rfl rfl)
theorem dX4_weave_265 : decode cX4_weave 265 = .ok (.bipush 6, 2) := dk_16 6 (dk_at dksX4_weave_11 3 rfl rfl)
theorem dX4_weave_267 : decode cX4_weave 267 = .ok (.iload_n 1, 1) := dk_27 (dk_at dksX4_weave_11 5 rfl rfl)
theorem dX4_weave_268 : decode cX4_weave 268 = .ok (.imul, 1) := dk_104 (dk_at dksX4_weave_11 6 rfl rfl)
theorem dX4_weave_269 : decode cX4_weave 269 = .ok (.iload_n 2, 1) := dk_28 (dk_at dksX4_weave_11 7 rfl rfl)
theorem dX4_weave_270 : decode cX4_weave 270 = .ok (.iadd, 1) := dk_96 (dk_at dksX4_weave_11 8 rfl rfl)
theorem dX4_weave_271 : decode cX4_weave 271 = .ok (.iaload, 1) := dk_46 (dk_at dksX4_weave_11 9 rfl rfl)
theorem dX4_weave_272 : decode cX4_weave 272 = .ok (.iastore, 1) := dk_79 (dk_at dksX4_weave_11 10 rfl rfl)
theorem dX4_weave_273 : decode cX4_weave 273 = .ok (.iinc 2 1, 3) := dk_132 2 1 (dk_at dksX4_weave_11 11 rfl rfl)
theorem dX4_weave_276 : decode cX4_weave 276 = .ok (.goto (-26), 3) := dk_167 255 230 (dk_at dksX4_weave_11 14 rfl rfl)
theorem dX4_weave_279 : decode cX4_weave 279 = .ok (.iconst 0, 1) := dk_3 (dk_at dksX4_weave_11 17 rfl rfl)
theorem dX4_weave_280 : decode cX4_weave 280 = .ok (.istore_n 2, 1) := dk_61 (dk_at dksX4_weave_11 18 rfl rfl)
theorem dX4_weave_281 : decode cX4_weave 281 = .ok (.iload_n 2, 1) := dk_28 (dk_at dksX4_weave_11 19 rfl rfl)
theorem dX4_weave_282 : decode cX4_weave 282 = .ok (.aload_n 0, 1) := dk_42 (dk_at dksX4_weave_11 20 rfl rfl)
theorem dX4_weave_283 : decode cX4_weave 283 = .ok (.getfield 92, 3) := dk_180 0 92 (dk_at dksX4_weave_11 21 rfl rfl)
theorem dX4_weave_286 : decode cX4_weave 286 = .ok (.if_icmp .ge 46, 3) := dk_162 0 46 (dk_at dksX4_weave_12 0 rfl rfl)
theorem dX4_weave_289 : decode cX4_weave 289 = .ok (.aload_n 0, 1) := dk_42 (dk_at dksX4_weave_12 3 rfl rfl)
theorem dX4_weave_290 : decode cX4_weave 290 = .ok (.getfield 56, 3) := dk_180 0 56 (dk_at dksX4_weave_12 4 rfl rfl)
theorem dX4_weave_293 : decode cX4_weave 293 = .ok (.bipush 10, 2) := dk_16 10 (dk_at dksX4_weave_12 7 rfl rfl)
theorem dX4_weave_295 : decode cX4_weave 295 = .ok (.iload_n 1, 1) := dk_27 (dk_at dksX4_weave_12 9 rfl rfl)
theorem dX4_weave_296 : decode cX4_weave 296 = .ok (.imul, 1) := dk_104 (dk_at dksX4_weave_12 10 rfl rfl)
theorem dX4_weave_297 : decode cX4_weave 297 = .ok (.iload_n 2, 1) := dk_28 (dk_at dksX4_weave_12 11 rfl rfl)
theorem dX4_weave_298 : decode cX4_weave 298 = .ok (.iadd, 1) := dk_96 (dk_at dksX4_weave_12 12 rfl rfl)
theorem dX4_weave_299 : decode cX4_weave 299 = .ok (.aload_n 0, 1) := dk_42 (dk_at dksX4_weave_12 13 rfl rfl)
theorem dX4_weave_300 : decode cX4_weave 300 = .ok (.getfield 19, 3) := dk_180 0 19 (dk_at dksX4_weave_12 14 rfl rfl)
theorem dX4_weave_303 : decode cX4_weave 303 = .ok (.iload_n 2, 1) := dk_28 (dk_at dksX4_weave_12 17 rfl rfl)
theorem dX4_weave_304 : decode cX4_weave 304 = .ok (.iaload, 1) := dk_46 (dk_at dksX4_weave_12 18 rfl rfl)
theorem dX4_weave_305 : decode cX4_weave 305 = .ok (.ifCond .ne 19, 3) := dk_154 0 19 (dk_at dksX4_weave_12 19 rfl rfl)
theorem dX4_weave_308 : decode cX4_weave 308 = .ok (.aload_n 0, 1) := dk_42 (dk_at dksX4_weave_12 22 rfl rfl)
theorem dX4_weave_309 : decode cX4_weave 309 = .ok (.iload_n 2, 1) := dk_28 (dk_at dksX4_weave_12 23 rfl rfl)
theorem dX4_weave_310 : decode cX4_weave 310 = .ok (.iconst 1, 1) := dk_4 (dk_at dksX4_weave_13 0 rfl rfl)
theorem dX4_weave_311 : decode cX4_weave 311 = .ok (.aload_n 0, 1) := dk_42 (dk_at dksX4_weave_13 1 rfl rfl)
theorem dX4_weave_312 : decode cX4_weave 312 = .ok (.getfield 119, 3) := dk_180 0 119 (dk_at dksX4_weave_13 2 rfl rfl)
theorem dX4_weave_315 : decode cX4_weave 315 = .ok (.ishl, 1) := dk_120 (dk_at dksX4_weave_13 5 rfl rfl)
theorem dX4_weave_316 : decode cX4_weave 316 = .ok (.iconst 1, 1) := dk_4 (dk_at dksX4_weave_13 6 rfl rfl)
theorem dX4_weave_317 : decode cX4_weave 317 = .ok (.isub, 1) := dk_100 (dk_at dksX4_weave_13 7 rfl rfl)
theorem dX4_weave_318 : decode cX4_weave 318 = .ok (.invokevirtual 144, 3) := dk_182 0 144 (dk_at dksX4_weave_13 8 rfl rfl)
theorem dX4_weave_321 : decode cX4_weave 321 = .ok (.goto 4, 3) := dk_167 0 4 (dk_at dksX4_weave_13 11 rfl rfl)
theorem dX4_weave_324 : decode cX4_weave 324 = .ok (.iconst (-1), 1) := dk_2 (dk_at dksX4_weave_13 14 rfl rfl)
theorem dX4_weave_325 : decode cX4_weave 325 = .ok (.iastore, 1) := dk_79 (dk_at dksX4_weave_13 15 rfl rfl)
theorem dX4_weave_326 : decode cX4_weave 326 = .ok (.iinc 2 1, 3) := dk_132 2 1 (dk_at dksX4_weave_13 16 rfl rfl)
theorem dX4_weave_329 : decode cX4_weave 329 = .ok (.goto (-48), 3) := dk_167 255 208 (dk_at dksX4_weave_13 19 rfl rfl)
theorem dX4_weave_332 : decode cX4_weave 332 = .ok (.iinc 1 1, 3) := dk_132 1 1 (dk_at dksX4_weave_14 0 rfl rfl)
theorem dX4_weave_335 : decode cX4_weave 335 = .ok (.goto (-95), 3) := dk_167 255 161 (dk_at dksX4_weave_14 3 rfl rfl)
theorem dX4_weave_338 : decode cX4_weave 338 = .ok (.aload_n 0, 1) := dk_42 (dk_at dksX4_weave_14 6 rfl rfl)
theorem dX4_weave_339 : decode cX4_weave 339 = .ok (.getfield 46, 3) := dk_180 0 46 (dk_at dksX4_weave_14 7 rfl rfl)
theorem dX4_weave_342 : decode cX4_weave 342 = .ok (.ireturn, 1) := dk_172 (dk_at dksX4_weave_14 10 rfl rfl)
abbrev cX4_holds : ByteArray := prog_13_method_22_code
def yX4_holds : MethodName := ⟨RX4, "holds", "()Z"⟩
def dkwX4_holds_5 : List UInt8 := [172, 132, 1, 1, 167, 255, 193, 4, 172]
abbrev dktX4_holds_5 : List UInt8 := dkwX4_holds_5 ++ []
def dkwX4_holds_4 : List UInt8 := [27, 182, 0, 125, 153, 0, 7, 4, 167, 0, 4, 3, 61, 132, 3, 1, 167, 255, 217, 28, 154, 0, 5, 3]
abbrev dktX4_holds_4 : List UInt8 := dkwX4_holds_4 ++ dktX4_holds_5
def dkwX4_holds_3 : List UInt8 := [62, 29, 42, 180, 0, 92, 162, 0, 37, 28, 154, 0, 21, 42, 180, 0, 19, 29, 46, 154, 0, 16, 42, 29]
abbrev dktX4_holds_3 : List UInt8 := dkwX4_holds_3 ++ dktX4_holds_4
def dkwX4_holds_2 : List UInt8 := [162, 0, 5, 3, 172, 132, 1, 1, 167, 255, 213, 3, 60, 27, 42, 180, 0, 119, 162, 0, 61, 3, 61, 3]
abbrev dktX4_holds_2 : List UInt8 := dkwX4_holds_2 ++ dktX4_holds_3
def dkwX4_holds_1 : List UInt8 := [46, 4, 163, 0, 25, 42, 180, 0, 25, 27, 46, 42, 180, 0, 7, 42, 180, 0, 22, 27, 46, 46]
abbrev dktX4_holds_1 : List UInt8 := dkwX4_holds_1 ++ dktX4_holds_2
def dkwX4_holds_0 : List UInt8 := [42, 180, 0, 119, 154, 0, 5, 3, 172, 3, 60, 27, 42, 180, 0, 92, 162, 0, 41, 42, 180, 0, 19, 27]
abbrev dktX4_holds_0 : List UInt8 := dkwX4_holds_0 ++ dktX4_holds_1
theorem dksX4_holds_0 : cX4_holds.data.toList.drop 0 = dktX4_holds_0 := by decide +kernel
theorem dksX4_holds_1 : cX4_holds.data.toList.drop 24 = dktX4_holds_1 := dk_seg dksX4_holds_0 24 rfl rfl
theorem dksX4_holds_2 : cX4_holds.data.toList.drop 46 = dktX4_holds_2 := dk_seg dksX4_holds_1 22 rfl rfl
theorem dksX4_holds_3 : cX4_holds.data.toList.drop 70 = dktX4_holds_3 := dk_seg dksX4_holds_2 24 rfl rfl
theorem dksX4_holds_4 : cX4_holds.data.toList.drop 94 = dktX4_holds_4 := dk_seg dksX4_holds_3 24 rfl rfl
theorem dksX4_holds_5 : cX4_holds.data.toList.drop 118 = dktX4_holds_5 := dk_seg dksX4_holds_4 24 rfl rfl
theorem dX4_holds_0 : decode cX4_holds 0 = .ok (.aload_n 0, 1) := dk_42 (dk_at dksX4_holds_0 0 rfl rfl)
theorem dX4_holds_1 : decode cX4_holds 1 = .ok (.getfield 119, 3) := dk_180 0 119 (dk_at dksX4_holds_0 1 rfl rfl)
theorem dX4_holds_4 : decode cX4_holds 4 = .ok (.ifCond .ne 5, 3) := dk_154 0 5 (dk_at dksX4_holds_0 4 rfl rfl)
theorem dX4_holds_7 : decode cX4_holds 7 = .ok (.iconst 0, 1) := dk_3 (dk_at dksX4_holds_0 7 rfl rfl)
theorem dX4_holds_8 : decode cX4_holds 8 = .ok (.ireturn, 1) := dk_172 (dk_at dksX4_holds_0 8 rfl rfl)
theorem dX4_holds_9 : decode cX4_holds 9 = .ok (.iconst 0, 1) := dk_3 (dk_at dksX4_holds_0 9 rfl rfl)
theorem dX4_holds_10 : decode cX4_holds 10 = .ok (.istore_n 1, 1) := dk_60 (dk_at dksX4_holds_0 10 rfl rfl)
theorem dX4_holds_11 : decode cX4_holds 11 = .ok (.iload_n 1, 1) := dk_27 (dk_at dksX4_holds_0 11 rfl rfl)
theorem dX4_holds_12 : decode cX4_holds 12 = .ok (.aload_n 0, 1) := dk_42 (dk_at dksX4_holds_0 12 rfl rfl)
theorem dX4_holds_13 : decode cX4_holds 13 = .ok (.getfield 92, 3) := dk_180 0 92 (dk_at dksX4_holds_0 13 rfl rfl)
theorem dX4_holds_16 : decode cX4_holds 16 = .ok (.if_icmp .ge 41, 3) := dk_162 0 41 (dk_at dksX4_holds_0 16 rfl rfl)
theorem dX4_holds_19 : decode cX4_holds 19 = .ok (.aload_n 0, 1) := dk_42 (dk_at dksX4_holds_0 19 rfl rfl)
theorem dX4_holds_20 : decode cX4_holds 20 = .ok (.getfield 19, 3) := dk_180 0 19 (dk_at dksX4_holds_0 20 rfl rfl)
theorem dX4_holds_23 : decode cX4_holds 23 = .ok (.iload_n 1, 1) := dk_27 (dk_at dksX4_holds_0 23 rfl rfl)
theorem dX4_holds_24 : decode cX4_holds 24 = .ok (.iaload, 1) := dk_46 (dk_at dksX4_holds_1 0 rfl rfl)
theorem dX4_holds_25 : decode cX4_holds 25 = .ok (.iconst 1, 1) := dk_4 (dk_at dksX4_holds_1 1 rfl rfl)
theorem dX4_holds_26 : decode cX4_holds 26 = .ok (.if_icmp .gt 25, 3) := dk_163 0 25 (dk_at dksX4_holds_1 2 rfl rfl)
theorem dX4_holds_29 : decode cX4_holds 29 = .ok (.aload_n 0, 1) := dk_42 (dk_at dksX4_holds_1 5 rfl rfl)
theorem dX4_holds_30 : decode cX4_holds 30 = .ok (.getfield 25, 3) := dk_180 0 25 (dk_at dksX4_holds_1 6 rfl rfl)
theorem dX4_holds_33 : decode cX4_holds 33 = .ok (.iload_n 1, 1) := dk_27 (dk_at dksX4_holds_1 9 rfl rfl)
theorem dX4_holds_34 : decode cX4_holds 34 = .ok (.iaload, 1) := dk_46 (dk_at dksX4_holds_1 10 rfl rfl)
theorem dX4_holds_35 : decode cX4_holds 35 = .ok (.aload_n 0, 1) := dk_42 (dk_at dksX4_holds_1 11 rfl rfl)
theorem dX4_holds_36 : decode cX4_holds 36 = .ok (.getfield 7, 3) := dk_180 0 7 (dk_at dksX4_holds_1 12 rfl rfl)
theorem dX4_holds_39 : decode cX4_holds 39 = .ok (.aload_n 0, 1) := dk_42 (dk_at dksX4_holds_1 15 rfl rfl)
theorem dX4_holds_40 : decode cX4_holds 40 = .ok (.getfield 22, 3) := dk_180 0 22 (dk_at dksX4_holds_1 16 rfl rfl)
theorem dX4_holds_43 : decode cX4_holds 43 = .ok (.iload_n 1, 1) := dk_27 (dk_at dksX4_holds_1 19 rfl rfl)
theorem dX4_holds_44 : decode cX4_holds 44 = .ok (.iaload, 1) := dk_46 (dk_at dksX4_holds_1 20 rfl rfl)
theorem dX4_holds_45 : decode cX4_holds 45 = .ok (.iaload, 1) := dk_46 (dk_at dksX4_holds_1 21 rfl rfl)
theorem dX4_holds_46 : decode cX4_holds 46 = .ok (.if_icmp .ge 5, 3) := dk_162 0 5 (dk_at dksX4_holds_2 0 rfl rfl)
theorem dX4_holds_49 : decode cX4_holds 49 = .ok (.iconst 0, 1) := dk_3 (dk_at dksX4_holds_2 3 rfl rfl)
theorem dX4_holds_50 : decode cX4_holds 50 = .ok (.ireturn, 1) := dk_172 (dk_at dksX4_holds_2 4 rfl rfl)
theorem dX4_holds_51 : decode cX4_holds 51 = .ok (.iinc 1 1, 3) := dk_132 1 1 (dk_at dksX4_holds_2 5 rfl rfl)
theorem dX4_holds_54 : decode cX4_holds 54 = .ok (.goto (-43), 3) := dk_167 255 213 (dk_at dksX4_holds_2 8 rfl rfl)
theorem dX4_holds_57 : decode cX4_holds 57 = .ok (.iconst 0, 1) := dk_3 (dk_at dksX4_holds_2 11 rfl rfl)
theorem dX4_holds_58 : decode cX4_holds 58 = .ok (.istore_n 1, 1) := dk_60 (dk_at dksX4_holds_2 12 rfl rfl)
theorem dX4_holds_59 : decode cX4_holds 59 = .ok (.iload_n 1, 1) := dk_27 (dk_at dksX4_holds_2 13 rfl rfl)
theorem dX4_holds_60 : decode cX4_holds 60 = .ok (.aload_n 0, 1) := dk_42 (dk_at dksX4_holds_2 14 rfl rfl)
theorem dX4_holds_61 : decode cX4_holds 61 = .ok (.getfield 119, 3) := dk_180 0 119 (dk_at dksX4_holds_2 15 rfl rfl)
theorem dX4_holds_64 : decode cX4_holds 64 = .ok (.if_icmp .ge 61, 3) := dk_162 0 61 (dk_at dksX4_holds_2 18 rfl rfl)
theorem dX4_holds_67 : decode cX4_holds 67 = .ok (.iconst 0, 1) := dk_3 (dk_at dksX4_holds_2 21 rfl rfl)
theorem dX4_holds_68 : decode cX4_holds 68 = .ok (.istore_n 2, 1) := dk_61 (dk_at dksX4_holds_2 22 rfl rfl)
theorem dX4_holds_69 : decode cX4_holds 69 = .ok (.iconst 0, 1) := dk_3 (dk_at dksX4_holds_2 23 rfl rfl)
theorem dX4_holds_70 : decode cX4_holds 70 = .ok (.istore_n 3, 1) := dk_62 (dk_at dksX4_holds_3 0 rfl rfl)
theorem dX4_holds_71 : decode cX4_holds 71 = .ok (.iload_n 3, 1) := dk_29 (dk_at dksX4_holds_3 1 rfl rfl)
theorem dX4_holds_72 : decode cX4_holds 72 = .ok (.aload_n 0, 1) := dk_42 (dk_at dksX4_holds_3 2 rfl rfl)
theorem dX4_holds_73 : decode cX4_holds 73 = .ok (.getfield 92, 3) := dk_180 0 92 (dk_at dksX4_holds_3 3 rfl rfl)
theorem dX4_holds_76 : decode cX4_holds 76 = .ok (.if_icmp .ge 37, 3) := dk_162 0 37 (dk_at dksX4_holds_3 6 rfl rfl)
theorem dX4_holds_79 : decode cX4_holds 79 = .ok (.iload_n 2, 1) := dk_28 (dk_at dksX4_holds_3 9 rfl rfl)
theorem dX4_holds_80 : decode cX4_holds 80 = .ok (.ifCond .ne 21, 3) := dk_154 0 21 (dk_at dksX4_holds_3 10 rfl rfl)
theorem dX4_holds_83 : decode cX4_holds 83 = .ok (.aload_n 0, 1) := dk_42 (dk_at dksX4_holds_3 13 rfl rfl)
theorem dX4_holds_84 : decode cX4_holds 84 = .ok (.getfield 19, 3) := dk_180 0 19 (dk_at dksX4_holds_3 14 rfl rfl)
theorem dX4_holds_87 : decode cX4_holds 87 = .ok (.iload_n 3, 1) := dk_29 (dk_at dksX4_holds_3 17 rfl rfl)
theorem dX4_holds_88 : decode cX4_holds 88 = .ok (.iaload, 1) := dk_46 (dk_at dksX4_holds_3 18 rfl rfl)
theorem dX4_holds_89 : decode cX4_holds 89 = .ok (.ifCond .ne 16, 3) := dk_154 0 16 (dk_at dksX4_holds_3 19 rfl rfl)
theorem dX4_holds_92 : decode cX4_holds 92 = .ok (.aload_n 0, 1) := dk_42 (dk_at dksX4_holds_3 22 rfl rfl)
theorem dX4_holds_93 : decode cX4_holds 93 = .ok (.iload_n 3, 1) := dk_29 (dk_at dksX4_holds_3 23 rfl rfl)
theorem dX4_holds_94 : decode cX4_holds 94 = .ok (.iload_n 1, 1) := dk_27 (dk_at dksX4_holds_4 0 rfl rfl)
theorem dX4_holds_95 : decode cX4_holds 95 = .ok (.invokevirtual 125, 3) := dk_182 0 125 (dk_at dksX4_holds_4 1 rfl rfl)
theorem dX4_holds_98 : decode cX4_holds 98 = .ok (.ifCond .eq 7, 3) := dk_153 0 7 (dk_at dksX4_holds_4 4 rfl rfl)
theorem dX4_holds_101 : decode cX4_holds 101 = .ok (.iconst 1, 1) := dk_4 (dk_at dksX4_holds_4 7 rfl rfl)
theorem dX4_holds_102 : decode cX4_holds 102 = .ok (.goto 4, 3) := dk_167 0 4 (dk_at dksX4_holds_4 8 rfl rfl)
theorem dX4_holds_105 : decode cX4_holds 105 = .ok (.iconst 0, 1) := dk_3 (dk_at dksX4_holds_4 11 rfl rfl)
theorem dX4_holds_106 : decode cX4_holds 106 = .ok (.istore_n 2, 1) := dk_61 (dk_at dksX4_holds_4 12 rfl rfl)
theorem dX4_holds_107 : decode cX4_holds 107 = .ok (.iinc 3 1, 3) := dk_132 3 1 (dk_at dksX4_holds_4 13 rfl rfl)
theorem dX4_holds_110 : decode cX4_holds 110 = .ok (.goto (-39), 3) := dk_167 255 217 (dk_at dksX4_holds_4 16 rfl rfl)
theorem dX4_holds_113 : decode cX4_holds 113 = .ok (.iload_n 2, 1) := dk_28 (dk_at dksX4_holds_4 19 rfl rfl)
theorem dX4_holds_114 : decode cX4_holds 114 = .ok (.ifCond .ne 5, 3) := dk_154 0 5 (dk_at dksX4_holds_4 20 rfl rfl)
theorem dX4_holds_117 : decode cX4_holds 117 = .ok (.iconst 0, 1) := dk_3 (dk_at dksX4_holds_4 23 rfl rfl)
theorem dX4_holds_118 : decode cX4_holds 118 = .ok (.ireturn, 1) := dk_172 (dk_at dksX4_holds_5 0 rfl rfl)
theorem dX4_holds_119 : decode cX4_holds 119 = .ok (.iinc 1 1, 3) := dk_132 1 1 (dk_at dksX4_holds_5 1 rfl rfl)
theorem dX4_holds_122 : decode cX4_holds 122 = .ok (.goto (-63), 3) := dk_167 255 193 (dk_at dksX4_holds_5 4 rfl rfl)
theorem dX4_holds_125 : decode cX4_holds 125 = .ok (.iconst 1, 1) := dk_4 (dk_at dksX4_holds_5 7 rfl rfl)
theorem dX4_holds_126 : decode cX4_holds 126 = .ok (.ireturn, 1) := dk_172 (dk_at dksX4_holds_5 8 rfl rfl)
abbrev cX4_hasName : ByteArray := prog_13_method_20_code
def yX4_hasName : MethodName := ⟨RX4, "hasName", "(II)Z"⟩
def dkwX4_hasName_1 : List UInt8 := [160, 0, 5, 4, 172, 132, 3, 1, 167, 255, 227, 3, 172]
abbrev dktX4_hasName_1 : List UInt8 := dkwX4_hasName_1 ++ []
def dkwX4_hasName_0 : List UInt8 := [3, 62, 29, 42, 180, 0, 25, 27, 46, 162, 0, 25, 42, 180, 0, 28, 6, 27, 104, 29, 96, 46, 28]
abbrev dktX4_hasName_0 : List UInt8 := dkwX4_hasName_0 ++ dktX4_hasName_1
theorem dksX4_hasName_0 : cX4_hasName.data.toList.drop 0 = dktX4_hasName_0 := by decide +kernel
theorem dksX4_hasName_1 : cX4_hasName.data.toList.drop 23 = dktX4_hasName_1 := dk_seg dksX4_hasName_0 23 rfl rfl
theorem dX4_hasName_0 : decode cX4_hasName 0 = .ok (.iconst 0, 1) := dk_3 (dk_at dksX4_hasName_0 0 rfl rfl)
theorem dX4_hasName_1 : decode cX4_hasName 1 = .ok (.istore_n 3, 1) := dk_62 (dk_at dksX4_hasName_0 1 rfl rfl)
theorem dX4_hasName_2 : decode cX4_hasName 2 = .ok (.iload_n 3, 1) := dk_29 (dk_at dksX4_hasName_0 2 rfl rfl)
theorem dX4_hasName_3 : decode cX4_hasName 3 = .ok (.aload_n 0, 1) := dk_42 (dk_at dksX4_hasName_0 3 rfl rfl)
theorem dX4_hasName_4 : decode cX4_hasName 4 = .ok (.getfield 25, 3) := dk_180 0 25 (dk_at dksX4_hasName_0 4 rfl rfl)
theorem dX4_hasName_7 : decode cX4_hasName 7 = .ok (.iload_n 1, 1) := dk_27 (dk_at dksX4_hasName_0 7 rfl rfl)
theorem dX4_hasName_8 : decode cX4_hasName 8 = .ok (.iaload, 1) := dk_46 (dk_at dksX4_hasName_0 8 rfl rfl)
theorem dX4_hasName_9 : decode cX4_hasName 9 = .ok (.if_icmp .ge 25, 3) := dk_162 0 25 (dk_at dksX4_hasName_0 9 rfl rfl)
theorem dX4_hasName_12 : decode cX4_hasName 12 = .ok (.aload_n 0, 1) := dk_42 (dk_at dksX4_hasName_0 12 rfl rfl)
theorem dX4_hasName_13 : decode cX4_hasName 13 = .ok (.getfield 28, 3) := dk_180 0 28 (dk_at dksX4_hasName_0 13 rfl rfl)
theorem dX4_hasName_16 : decode cX4_hasName 16 = .ok (.iconst 3, 1) := dk_6 (dk_at dksX4_hasName_0 16 rfl rfl)
theorem dX4_hasName_17 : decode cX4_hasName 17 = .ok (.iload_n 1, 1) := dk_27 (dk_at dksX4_hasName_0 17 rfl rfl)
theorem dX4_hasName_18 : decode cX4_hasName 18 = .ok (.imul, 1) := dk_104 (dk_at dksX4_hasName_0 18 rfl rfl)
theorem dX4_hasName_19 : decode cX4_hasName 19 = .ok (.iload_n 3, 1) := dk_29 (dk_at dksX4_hasName_0 19 rfl rfl)
theorem dX4_hasName_20 : decode cX4_hasName 20 = .ok (.iadd, 1) := dk_96 (dk_at dksX4_hasName_0 20 rfl rfl)
theorem dX4_hasName_21 : decode cX4_hasName 21 = .ok (.iaload, 1) := dk_46 (dk_at dksX4_hasName_0 21 rfl rfl)
theorem dX4_hasName_22 : decode cX4_hasName 22 = .ok (.iload_n 2, 1) := dk_28 (dk_at dksX4_hasName_0 22 rfl rfl)
theorem dX4_hasName_23 : decode cX4_hasName 23 = .ok (.if_icmp .ne 5, 3) := dk_160 0 5 (dk_at dksX4_hasName_1 0 rfl rfl)
theorem dX4_hasName_26 : decode cX4_hasName 26 = .ok (.iconst 1, 1) := dk_4 (dk_at dksX4_hasName_1 3 rfl rfl)
theorem dX4_hasName_27 : decode cX4_hasName 27 = .ok (.ireturn, 1) := dk_172 (dk_at dksX4_hasName_1 4 rfl rfl)
theorem dX4_hasName_28 : decode cX4_hasName 28 = .ok (.iinc 3 1, 3) := dk_132 3 1 (dk_at dksX4_hasName_1 5 rfl rfl)
theorem dX4_hasName_31 : decode cX4_hasName 31 = .ok (.goto (-29), 3) := dk_167 255 227 (dk_at dksX4_hasName_1 8 rfl rfl)
theorem dX4_hasName_34 : decode cX4_hasName 34 = .ok (.iconst 0, 1) := dk_3 (dk_at dksX4_hasName_1 11 rfl rfl)
theorem dX4_hasName_35 : decode cX4_hasName 35 = .ok (.ireturn, 1) := dk_172 (dk_at dksX4_hasName_1 12 rfl rfl)
abbrev cX4_meets : ByteArray := prog_13_method_33_code
def yX4_meets : MethodName := ⟨RX4, "meets", "()Z"⟩
def dkwX4_meets_12 : List UInt8 := [181, 0, 153, 42, 180, 0, 43, 28, 21, 6, 79, 132, 2, 1, 167, 254, 249, 4, 172]
abbrev dktX4_meets_12 : List UInt8 := dkwX4_meets_12 ++ []
def dkwX4_meets_11 : List UInt8 := [180, 0, 37, 21, 7, 42, 180, 0, 40, 21, 7, 46, 79, 132, 7, 1, 167, 255, 229, 42, 21, 6]
abbrev dktX4_meets_11 : List UInt8 := dkwX4_meets_11 ++ dktX4_meets_12
def dkwX4_meets_10 : List UInt8 := [167, 255, 109, 132, 7, 1, 167, 255, 91, 3, 54, 7, 21, 7, 16, 6, 21, 6, 104, 162, 0, 23, 42]
abbrev dktX4_meets_10 : List UInt8 := dkwX4_meets_10 ++ dktX4_meets_11
def dkwX4_meets_9 : List UInt8 := [21, 9, 96, 42, 180, 0, 69, 21, 9, 46, 79, 132, 9, 1, 167, 255, 226, 132, 6, 1, 132, 8, 1]
abbrev dktX4_meets_9 : List UInt8 := dkwX4_meets_9 ++ dktX4_meets_10
def dkwX4_meets_8 : List UInt8 := [160, 0, 5, 3, 172, 3, 54, 9, 21, 9, 16, 6, 162, 0, 29, 42, 180, 0, 40, 16, 6, 21, 6, 104]
abbrev dktX4_meets_8 : List UInt8 := dkwX4_meets_8 ++ dktX4_meets_9
def dkwX4_meets_7 : List UInt8 := [6, 112, 182, 0, 95, 79, 42, 27, 182, 0, 163, 154, 0, 6, 167, 0, 52, 21, 6, 17, 1, 244]
abbrev dktX4_meets_7 : List UInt8 := dkwX4_meets_7 ++ dktX4_meets_8
def dkwX4_meets_6 : List UInt8 := [104, 21, 9, 96, 46, 79, 132, 9, 1, 167, 255, 226, 42, 180, 0, 69, 29, 42, 21, 5, 21, 8, 21, 4]
abbrev dktX4_meets_6 : List UInt8 := dkwX4_meets_6 ++ dktX4_meets_7
def dkwX4_meets_5 : List UInt8 := [3, 54, 9, 21, 9, 16, 6, 162, 0, 29, 42, 180, 0, 69, 21, 9, 42, 180, 0, 37, 16, 6, 21, 7]
abbrev dktX4_meets_5 : List UInt8 := dkwX4_meets_5 ++ dktX4_meets_6
def dkwX4_meets_4 : List UInt8 := [21, 5, 46, 162, 0, 141, 42, 21, 5, 21, 4, 6, 112, 21, 8, 182, 0, 160, 153, 0, 6, 167, 0, 117]
abbrev dktX4_meets_4 : List UInt8 := dkwX4_meets_4 ++ dktX4_meets_5
def dkwX4_meets_3 : List UInt8 := [54, 6, 3, 54, 7, 21, 7, 42, 180, 0, 153, 162, 0, 162, 3, 54, 8, 21, 8, 42, 180, 0, 13]
abbrev dktX4_meets_3 : List UInt8 := dkwX4_meets_3 ++ dktX4_meets_4
def dkwX4_meets_2 : List UInt8 := [29, 120, 128, 60, 42, 29, 182, 0, 156, 54, 4, 42, 180, 0, 22, 21, 4, 6, 108, 46, 54, 5, 3]
abbrev dktX4_meets_2 : List UInt8 := dkwX4_meets_2 ++ dktX4_meets_3
def dkwX4_meets_1 : List UInt8 := [167, 255, 240, 3, 60, 3, 61, 28, 42, 180, 0, 119, 162, 1, 5, 42, 180, 0, 34, 28, 46, 62, 27, 4]
abbrev dktX4_meets_1 : List UInt8 := dkwX4_meets_1 ++ dktX4_meets_2
def dkwX4_meets_0 : List UInt8 := [42, 4, 181, 0, 153, 3, 60, 27, 16, 6, 162, 0, 16, 42, 180, 0, 37, 27, 3, 79, 132, 1, 1]
abbrev dktX4_meets_0 : List UInt8 := dkwX4_meets_0 ++ dktX4_meets_1
theorem dksX4_meets_0 : cX4_meets.data.toList.drop 0 = dktX4_meets_0 := by decide +kernel
theorem dksX4_meets_1 : cX4_meets.data.toList.drop 23 = dktX4_meets_1 := dk_seg dksX4_meets_0 23 rfl rfl
theorem dksX4_meets_2 : cX4_meets.data.toList.drop 47 = dktX4_meets_2 := dk_seg dksX4_meets_1 24 rfl rfl
theorem dksX4_meets_3 : cX4_meets.data.toList.drop 70 = dktX4_meets_3 := dk_seg dksX4_meets_2 23 rfl rfl
theorem dksX4_meets_4 : cX4_meets.data.toList.drop 93 = dktX4_meets_4 := dk_seg dksX4_meets_3 23 rfl rfl
theorem dksX4_meets_5 : cX4_meets.data.toList.drop 117 = dktX4_meets_5 := dk_seg dksX4_meets_4 24 rfl rfl
theorem dksX4_meets_6 : cX4_meets.data.toList.drop 141 = dktX4_meets_6 := dk_seg dksX4_meets_5 24 rfl rfl
theorem dksX4_meets_7 : cX4_meets.data.toList.drop 165 = dktX4_meets_7 := dk_seg dksX4_meets_6 24 rfl rfl
theorem dksX4_meets_8 : cX4_meets.data.toList.drop 187 = dktX4_meets_8 := dk_seg dksX4_meets_7 22 rfl rfl
theorem dksX4_meets_9 : cX4_meets.data.toList.drop 211 = dktX4_meets_9 := dk_seg dksX4_meets_8 24 rfl rfl
theorem dksX4_meets_10 : cX4_meets.data.toList.drop 234 = dktX4_meets_10 := dk_seg dksX4_meets_9 23 rfl rfl
theorem dksX4_meets_11 : cX4_meets.data.toList.drop 257 = dktX4_meets_11 := dk_seg dksX4_meets_10 23 rfl rfl
theorem dksX4_meets_12 : cX4_meets.data.toList.drop 279 = dktX4_meets_12 := dk_seg dksX4_meets_11 22 rfl rfl
theorem dX4_meets_0 : decode cX4_meets 0 = .ok (.aload_n 0, 1) := dk_42 (dk_at dksX4_meets_0 0 rfl rfl)
theorem dX4_meets_1 : decode cX4_meets 1 = .ok (.iconst 1, 1) := dk_4 (dk_at dksX4_meets_0 1 rfl rfl)
theorem dX4_meets_2 : decode cX4_meets 2 = .ok (.putfield 153, 3) := dk_181 0 153 (dk_at dksX4_meets_0 2 rfl rfl)
theorem dX4_meets_5 : decode cX4_meets 5 = .ok (.iconst 0, 1) := dk_3 (dk_at dksX4_meets_0 5 rfl rfl)
theorem dX4_meets_6 : decode cX4_meets 6 = .ok (.istore_n 1, 1) := dk_60 (dk_at dksX4_meets_0 6 rfl rfl)
theorem dX4_meets_7 : decode cX4_meets 7 = .ok (.iload_n 1, 1) := dk_27 (dk_at dksX4_meets_0 7 rfl rfl)
theorem dX4_meets_8 : decode cX4_meets 8 = .ok (.bipush 6, 2) := dk_16 6 (dk_at dksX4_meets_0 8 rfl rfl)
theorem dX4_meets_10 : decode cX4_meets 10 = .ok (.if_icmp .ge 16, 3) := dk_162 0 16 (dk_at dksX4_meets_0 10 rfl rfl)
theorem dX4_meets_13 : decode cX4_meets 13 = .ok (.aload_n 0, 1) := dk_42 (dk_at dksX4_meets_0 13 rfl rfl)
theorem dX4_meets_14 : decode cX4_meets 14 = .ok (.getfield 37, 3) := dk_180 0 37 (dk_at dksX4_meets_0 14 rfl rfl)
theorem dX4_meets_17 : decode cX4_meets 17 = .ok (.iload_n 1, 1) := dk_27 (dk_at dksX4_meets_0 17 rfl rfl)
theorem dX4_meets_18 : decode cX4_meets 18 = .ok (.iconst 0, 1) := dk_3 (dk_at dksX4_meets_0 18 rfl rfl)
theorem dX4_meets_19 : decode cX4_meets 19 = .ok (.iastore, 1) := dk_79 (dk_at dksX4_meets_0 19 rfl rfl)
theorem dX4_meets_20 : decode cX4_meets 20 = .ok (.iinc 1 1, 3) := dk_132 1 1 (dk_at dksX4_meets_0 20 rfl rfl)
theorem dX4_meets_23 : decode cX4_meets 23 = .ok (.goto (-16), 3) := dk_167 255 240 (dk_at dksX4_meets_1 0 rfl rfl)
theorem dX4_meets_26 : decode cX4_meets 26 = .ok (.iconst 0, 1) := dk_3 (dk_at dksX4_meets_1 3 rfl rfl)
theorem dX4_meets_27 : decode cX4_meets 27 = .ok (.istore_n 1, 1) := dk_60 (dk_at dksX4_meets_1 4 rfl rfl)
theorem dX4_meets_28 : decode cX4_meets 28 = .ok (.iconst 0, 1) := dk_3 (dk_at dksX4_meets_1 5 rfl rfl)
theorem dX4_meets_29 : decode cX4_meets 29 = .ok (.istore_n 2, 1) := dk_61 (dk_at dksX4_meets_1 6 rfl rfl)
theorem dX4_meets_30 : decode cX4_meets 30 = .ok (.iload_n 2, 1) := dk_28 (dk_at dksX4_meets_1 7 rfl rfl)
theorem dX4_meets_31 : decode cX4_meets 31 = .ok (.aload_n 0, 1) := dk_42 (dk_at dksX4_meets_1 8 rfl rfl)
theorem dX4_meets_32 : decode cX4_meets 32 = .ok (.getfield 119, 3) := dk_180 0 119 (dk_at dksX4_meets_1 9 rfl rfl)
theorem dX4_meets_35 : decode cX4_meets 35 = .ok (.if_icmp .ge 261, 3) := dk_162 1 5 (dk_at dksX4_meets_1 12 rfl rfl)
theorem dX4_meets_38 : decode cX4_meets 38 = .ok (.aload_n 0, 1) := dk_42 (dk_at dksX4_meets_1 15 rfl rfl)
theorem dX4_meets_39 : decode cX4_meets 39 = .ok (.getfield 34, 3) := dk_180 0 34 (dk_at dksX4_meets_1 16 rfl rfl)
theorem dX4_meets_42 : decode cX4_meets 42 = .ok (.iload_n 2, 1) := dk_28 (dk_at dksX4_meets_1 19 rfl rfl)
theorem dX4_meets_43 : decode cX4_meets 43 = .ok (.iaload, 1) := dk_46 (dk_at dksX4_meets_1 20 rfl rfl)
theorem dX4_meets_44 : decode cX4_meets 44 = .ok (.istore_n 3, 1) := dk_62 (dk_at dksX4_meets_1 21 rfl rfl)
theorem dX4_meets_45 : decode cX4_meets 45 = .ok (.iload_n 1, 1) := dk_27 (dk_at dksX4_meets_1 22 rfl rfl)
theorem dX4_meets_46 : decode cX4_meets 46 = .ok (.iconst 1, 1) := dk_4 (dk_at dksX4_meets_1 23 rfl rfl)
theorem dX4_meets_47 : decode cX4_meets 47 = .ok (.iload_n 3, 1) := dk_29 (dk_at dksX4_meets_2 0 rfl rfl)
theorem dX4_meets_48 : decode cX4_meets 48 = .ok (.ishl, 1) := dk_120 (dk_at dksX4_meets_2 1 rfl rfl)
theorem dX4_meets_49 : decode cX4_meets 49 = .ok (.ior, 1) := dk_128 (dk_at dksX4_meets_2 2 rfl rfl)
theorem dX4_meets_50 : decode cX4_meets 50 = .ok (.istore_n 1, 1) := dk_60 (dk_at dksX4_meets_2 3 rfl rfl)
theorem dX4_meets_51 : decode cX4_meets 51 = .ok (.aload_n 0, 1) := dk_42 (dk_at dksX4_meets_2 4 rfl rfl)
theorem dX4_meets_52 : decode cX4_meets 52 = .ok (.iload_n 3, 1) := dk_29 (dk_at dksX4_meets_2 5 rfl rfl)
theorem dX4_meets_53 : decode cX4_meets 53 = .ok (.invokevirtual 156, 3) := dk_182 0 156 (dk_at dksX4_meets_2 6 rfl rfl)
theorem dX4_meets_56 : decode cX4_meets 56 = .ok (.istore 4, 2) := dk_54 4 (dk_at dksX4_meets_2 9 rfl rfl)
theorem dX4_meets_58 : decode cX4_meets 58 = .ok (.aload_n 0, 1) := dk_42 (dk_at dksX4_meets_2 11 rfl rfl)
theorem dX4_meets_59 : decode cX4_meets 59 = .ok (.getfield 22, 3) := dk_180 0 22 (dk_at dksX4_meets_2 12 rfl rfl)
theorem dX4_meets_62 : decode cX4_meets 62 = .ok (.iload 4, 2) := dk_21 4 (dk_at dksX4_meets_2 15 rfl rfl)
theorem dX4_meets_64 : decode cX4_meets 64 = .ok (.iconst 3, 1) := dk_6 (dk_at dksX4_meets_2 17 rfl rfl)
theorem dX4_meets_65 : decode cX4_meets 65 = .ok (.idiv, 1) := dk_108 (dk_at dksX4_meets_2 18 rfl rfl)
theorem dX4_meets_66 : decode cX4_meets 66 = .ok (.iaload, 1) := dk_46 (dk_at dksX4_meets_2 19 rfl rfl)
theorem dX4_meets_67 : decode cX4_meets 67 = .ok (.istore 5, 2) := dk_54 5 (dk_at dksX4_meets_2 20 rfl rfl)
theorem dX4_meets_69 : decode cX4_meets 69 = .ok (.iconst 0, 1) := dk_3 (dk_at dksX4_meets_2 22 rfl rfl)
theorem dX4_meets_70 : decode cX4_meets 70 = .ok (.istore 6, 2) := dk_54 6 (dk_at dksX4_meets_3 0 rfl rfl)
theorem dX4_meets_72 : decode cX4_meets 72 = .ok (.iconst 0, 1) := dk_3 (dk_at dksX4_meets_3 2 rfl rfl)
theorem dX4_meets_73 : decode cX4_meets 73 = .ok (.istore 7, 2) := dk_54 7 (dk_at dksX4_meets_3 3 rfl rfl)
theorem dX4_meets_75 : decode cX4_meets 75 = .ok (.iload 7, 2) := dk_21 7 (dk_at dksX4_meets_3 5 rfl rfl)
theorem dX4_meets_77 : decode cX4_meets 77 = .ok (.aload_n 0, 1) := dk_42 (dk_at dksX4_meets_3 7 rfl rfl)
theorem dX4_meets_78 : decode cX4_meets 78 = .ok (.getfield 153, 3) := dk_180 0 153 (dk_at dksX4_meets_3 8 rfl rfl)
theorem dX4_meets_81 : decode cX4_meets 81 = .ok (.if_icmp .ge 162, 3) := dk_162 0 162 (dk_at dksX4_meets_3 11 rfl rfl)
theorem dX4_meets_84 : decode cX4_meets 84 = .ok (.iconst 0, 1) := dk_3 (dk_at dksX4_meets_3 14 rfl rfl)
theorem dX4_meets_85 : decode cX4_meets 85 = .ok (.istore 8, 2) := dk_54 8 (dk_at dksX4_meets_3 15 rfl rfl)
theorem dX4_meets_87 : decode cX4_meets 87 = .ok (.iload 8, 2) := dk_21 8 (dk_at dksX4_meets_3 17 rfl rfl)
theorem dX4_meets_89 : decode cX4_meets 89 = .ok (.aload_n 0, 1) := dk_42 (dk_at dksX4_meets_3 19 rfl rfl)
theorem dX4_meets_90 : decode cX4_meets 90 = .ok (.getfield 13, 3) := dk_180 0 13 (dk_at dksX4_meets_3 20 rfl rfl)
theorem dX4_meets_93 : decode cX4_meets 93 = .ok (.iload 5, 2) := dk_21 5 (dk_at dksX4_meets_4 0 rfl rfl)
theorem dX4_meets_95 : decode cX4_meets 95 = .ok (.iaload, 1) := dk_46 (dk_at dksX4_meets_4 2 rfl rfl)
theorem dX4_meets_96 : decode cX4_meets 96 = .ok (.if_icmp .ge 141, 3) := dk_162 0 141 (dk_at dksX4_meets_4 3 rfl rfl)
theorem dX4_meets_99 : decode cX4_meets 99 = .ok (.aload_n 0, 1) := dk_42 (dk_at dksX4_meets_4 6 rfl rfl)
theorem dX4_meets_100 : decode cX4_meets 100 = .ok (.iload 5, 2) := dk_21 5 (dk_at dksX4_meets_4 7 rfl rfl)
theorem dX4_meets_102 : decode cX4_meets 102 = .ok (.iload 4, 2) := dk_21 4 (dk_at dksX4_meets_4 9 rfl rfl)
theorem dX4_meets_104 : decode cX4_meets 104 = .ok (.iconst 3, 1) := dk_6 (dk_at dksX4_meets_4 11 rfl rfl)
theorem dX4_meets_105 : decode cX4_meets 105 = .ok (.irem, 1) := dk_112 (dk_at dksX4_meets_4 12 rfl rfl)
theorem dX4_meets_106 : decode cX4_meets 106 = .ok (.iload 8, 2) := dk_21 8 (dk_at dksX4_meets_4 13 rfl rfl)
theorem dX4_meets_108 : decode cX4_meets 108 = .ok (.invokevirtual 160, 3) := dk_182 0 160 (dk_at dksX4_meets_4 15 rfl rfl)
theorem dX4_meets_111 : decode cX4_meets 111 = .ok (.ifCond .eq 6, 3) := dk_153 0 6 (dk_at dksX4_meets_4 18 rfl rfl)
theorem dX4_meets_114 : decode cX4_meets 114 = .ok (.goto 117, 3) := dk_167 0 117 (dk_at dksX4_meets_4 21 rfl rfl)
theorem dX4_meets_117 : decode cX4_meets 117 = .ok (.iconst 0, 1) := dk_3 (dk_at dksX4_meets_5 0 rfl rfl)
theorem dX4_meets_118 : decode cX4_meets 118 = .ok (.istore 9, 2) := dk_54 9 (dk_at dksX4_meets_5 1 rfl rfl)
theorem dX4_meets_120 : decode cX4_meets 120 = .ok (.iload 9, 2) := dk_21 9 (dk_at dksX4_meets_5 3 rfl rfl)
theorem dX4_meets_122 : decode cX4_meets 122 = .ok (.bipush 6, 2) := dk_16 6 (dk_at dksX4_meets_5 5 rfl rfl)
theorem dX4_meets_124 : decode cX4_meets 124 = .ok (.if_icmp .ge 29, 3) := dk_162 0 29 (dk_at dksX4_meets_5 7 rfl rfl)
theorem dX4_meets_127 : decode cX4_meets 127 = .ok (.aload_n 0, 1) := dk_42 (dk_at dksX4_meets_5 10 rfl rfl)
theorem dX4_meets_128 : decode cX4_meets 128 = .ok (.getfield 69, 3) := dk_180 0 69 (dk_at dksX4_meets_5 11 rfl rfl)
theorem dX4_meets_131 : decode cX4_meets 131 = .ok (.iload 9, 2) := dk_21 9 (dk_at dksX4_meets_5 14 rfl rfl)
theorem dX4_meets_133 : decode cX4_meets 133 = .ok (.aload_n 0, 1) := dk_42 (dk_at dksX4_meets_5 16 rfl rfl)
theorem dX4_meets_134 : decode cX4_meets 134 = .ok (.getfield 37, 3) := dk_180 0 37 (dk_at dksX4_meets_5 17 rfl rfl)
theorem dX4_meets_137 : decode cX4_meets 137 = .ok (.bipush 6, 2) := dk_16 6 (dk_at dksX4_meets_5 20 rfl rfl)
theorem dX4_meets_139 : decode cX4_meets 139 = .ok (.iload 7, 2) := dk_21 7 (dk_at dksX4_meets_5 22 rfl rfl)
theorem dX4_meets_141 : decode cX4_meets 141 = .ok (.imul, 1) := dk_104 (dk_at dksX4_meets_6 0 rfl rfl)
theorem dX4_meets_142 : decode cX4_meets 142 = .ok (.iload 9, 2) := dk_21 9 (dk_at dksX4_meets_6 1 rfl rfl)
theorem dX4_meets_144 : decode cX4_meets 144 = .ok (.iadd, 1) := dk_96 (dk_at dksX4_meets_6 3 rfl rfl)
theorem dX4_meets_145 : decode cX4_meets 145 = .ok (.iaload, 1) := dk_46 (dk_at dksX4_meets_6 4 rfl rfl)
theorem dX4_meets_146 : decode cX4_meets 146 = .ok (.iastore, 1) := dk_79 (dk_at dksX4_meets_6 5 rfl rfl)
theorem dX4_meets_147 : decode cX4_meets 147 = .ok (.iinc 9 1, 3) := dk_132 9 1 (dk_at dksX4_meets_6 6 rfl rfl)
theorem dX4_meets_150 : decode cX4_meets 150 = .ok (.goto (-30), 3) := dk_167 255 226 (dk_at dksX4_meets_6 9 rfl rfl)
theorem dX4_meets_153 : decode cX4_meets 153 = .ok (.aload_n 0, 1) := dk_42 (dk_at dksX4_meets_6 12 rfl rfl)
theorem dX4_meets_154 : decode cX4_meets 154 = .ok (.getfield 69, 3) := dk_180 0 69 (dk_at dksX4_meets_6 13 rfl rfl)
theorem dX4_meets_157 : decode cX4_meets 157 = .ok (.iload_n 3, 1) := dk_29 (dk_at dksX4_meets_6 16 rfl rfl)
theorem dX4_meets_158 : decode cX4_meets 158 = .ok (.aload_n 0, 1) := dk_42 (dk_at dksX4_meets_6 17 rfl rfl)
theorem dX4_meets_159 : decode cX4_meets 159 = .ok (.iload 5, 2) := dk_21 5 (dk_at dksX4_meets_6 18 rfl rfl)
theorem dX4_meets_161 : decode cX4_meets 161 = .ok (.iload 8, 2) := dk_21 8 (dk_at dksX4_meets_6 20 rfl rfl)
theorem dX4_meets_163 : decode cX4_meets 163 = .ok (.iload 4, 2) := dk_21 4 (dk_at dksX4_meets_6 22 rfl rfl)
theorem dX4_meets_165 : decode cX4_meets 165 = .ok (.iconst 3, 1) := dk_6 (dk_at dksX4_meets_7 0 rfl rfl)
theorem dX4_meets_166 : decode cX4_meets 166 = .ok (.irem, 1) := dk_112 (dk_at dksX4_meets_7 1 rfl rfl)
theorem dX4_meets_167 : decode cX4_meets 167 = .ok (.invokevirtual 95, 3) := dk_182 0 95 (dk_at dksX4_meets_7 2 rfl rfl)
theorem dX4_meets_170 : decode cX4_meets 170 = .ok (.iastore, 1) := dk_79 (dk_at dksX4_meets_7 5 rfl rfl)
theorem dX4_meets_171 : decode cX4_meets 171 = .ok (.aload_n 0, 1) := dk_42 (dk_at dksX4_meets_7 6 rfl rfl)
theorem dX4_meets_172 : decode cX4_meets 172 = .ok (.iload_n 1, 1) := dk_27 (dk_at dksX4_meets_7 7 rfl rfl)
theorem dX4_meets_173 : decode cX4_meets 173 = .ok (.invokevirtual 163, 3) := dk_182 0 163 (dk_at dksX4_meets_7 8 rfl rfl)
theorem dX4_meets_176 : decode cX4_meets 176 = .ok (.ifCond .ne 6, 3) := dk_154 0 6 (dk_at dksX4_meets_7 11 rfl rfl)
theorem dX4_meets_179 : decode cX4_meets 179 = .ok (.goto 52, 3) := dk_167 0 52 (dk_at dksX4_meets_7 14 rfl rfl)
theorem dX4_meets_182 : decode cX4_meets 182 = .ok (.iload 6, 2) := dk_21 6 (dk_at dksX4_meets_7 17 rfl rfl)
theorem dX4_meets_184 : decode cX4_meets 184 = .ok (.sipush 500, 3) := dk_17 1 244 (dk_at dksX4_meets_7 19 rfl rfl)
theorem dX4_meets_187 : decode cX4_meets 187 = .ok (.if_icmp .ne 5, 3) := dk_160 0 5 (dk_at dksX4_meets_8 0 rfl rfl)
theorem dX4_meets_190 : decode cX4_meets 190 = .ok (.iconst 0, 1) := dk_3 (dk_at dksX4_meets_8 3 rfl rfl)
theorem dX4_meets_191 : decode cX4_meets 191 = .ok (.ireturn, 1) := dk_172 (dk_at dksX4_meets_8 4 rfl rfl)
theorem dX4_meets_192 : decode cX4_meets 192 = .ok (.iconst 0, 1) := dk_3 (dk_at dksX4_meets_8 5 rfl rfl)
theorem dX4_meets_193 : decode cX4_meets 193 = .ok (.istore 9, 2) := dk_54 9 (dk_at dksX4_meets_8 6 rfl rfl)
theorem dX4_meets_195 : decode cX4_meets 195 = .ok (.iload 9, 2) := dk_21 9 (dk_at dksX4_meets_8 8 rfl rfl)
theorem dX4_meets_197 : decode cX4_meets 197 = .ok (.bipush 6, 2) := dk_16 6 (dk_at dksX4_meets_8 10 rfl rfl)
theorem dX4_meets_199 : decode cX4_meets 199 = .ok (.if_icmp .ge 29, 3) := dk_162 0 29 (dk_at dksX4_meets_8 12 rfl rfl)
theorem dX4_meets_202 : decode cX4_meets 202 = .ok (.aload_n 0, 1) := dk_42 (dk_at dksX4_meets_8 15 rfl rfl)
theorem dX4_meets_203 : decode cX4_meets 203 = .ok (.getfield 40, 3) := dk_180 0 40 (dk_at dksX4_meets_8 16 rfl rfl)
theorem dX4_meets_206 : decode cX4_meets 206 = .ok (.bipush 6, 2) := dk_16 6 (dk_at dksX4_meets_8 19 rfl rfl)
theorem dX4_meets_208 : decode cX4_meets 208 = .ok (.iload 6, 2) := dk_21 6 (dk_at dksX4_meets_8 21 rfl rfl)
theorem dX4_meets_210 : decode cX4_meets 210 = .ok (.imul, 1) := dk_104 (dk_at dksX4_meets_8 23 rfl rfl)
theorem dX4_meets_211 : decode cX4_meets 211 = .ok (.iload 9, 2) := dk_21 9 (dk_at dksX4_meets_9 0 rfl rfl)
theorem dX4_meets_213 : decode cX4_meets 213 = .ok (.iadd, 1) := dk_96 (dk_at dksX4_meets_9 2 rfl rfl)
theorem dX4_meets_214 : decode cX4_meets 214 = .ok (.aload_n 0, 1) := dk_42 (dk_at dksX4_meets_9 3 rfl rfl)
theorem dX4_meets_215 : decode cX4_meets 215 = .ok (.getfield 69, 3) := dk_180 0 69 (dk_at dksX4_meets_9 4 rfl rfl)
theorem dX4_meets_218 : decode cX4_meets 218 = .ok (.iload 9, 2) := dk_21 9 (dk_at dksX4_meets_9 7 rfl rfl)
theorem dX4_meets_220 : decode cX4_meets 220 = .ok (.iaload, 1) := dk_46 (dk_at dksX4_meets_9 9 rfl rfl)
theorem dX4_meets_221 : decode cX4_meets 221 = .ok (.iastore, 1) := dk_79 (dk_at dksX4_meets_9 10 rfl rfl)
theorem dX4_meets_222 : decode cX4_meets 222 = .ok (.iinc 9 1, 3) := dk_132 9 1 (dk_at dksX4_meets_9 11 rfl rfl)
theorem dX4_meets_225 : decode cX4_meets 225 = .ok (.goto (-30), 3) := dk_167 255 226 (dk_at dksX4_meets_9 14 rfl rfl)
theorem dX4_meets_228 : decode cX4_meets 228 = .ok (.iinc 6 1, 3) := dk_132 6 1 (dk_at dksX4_meets_9 17 rfl rfl)
theorem dX4_meets_231 : decode cX4_meets 231 = .ok (.iinc 8 1, 3) := dk_132 8 1 (dk_at dksX4_meets_9 20 rfl rfl)
theorem dX4_meets_234 : decode cX4_meets 234 = .ok (.goto (-147), 3) := dk_167 255 109 (dk_at dksX4_meets_10 0 rfl rfl)
theorem dX4_meets_237 : decode cX4_meets 237 = .ok (.iinc 7 1, 3) := dk_132 7 1 (dk_at dksX4_meets_10 3 rfl rfl)
theorem dX4_meets_240 : decode cX4_meets 240 = .ok (.goto (-165), 3) := dk_167 255 91 (dk_at dksX4_meets_10 6 rfl rfl)
theorem dX4_meets_243 : decode cX4_meets 243 = .ok (.iconst 0, 1) := dk_3 (dk_at dksX4_meets_10 9 rfl rfl)
theorem dX4_meets_244 : decode cX4_meets 244 = .ok (.istore 7, 2) := dk_54 7 (dk_at dksX4_meets_10 10 rfl rfl)
theorem dX4_meets_246 : decode cX4_meets 246 = .ok (.iload 7, 2) := dk_21 7 (dk_at dksX4_meets_10 12 rfl rfl)
theorem dX4_meets_248 : decode cX4_meets 248 = .ok (.bipush 6, 2) := dk_16 6 (dk_at dksX4_meets_10 14 rfl rfl)
theorem dX4_meets_250 : decode cX4_meets 250 = .ok (.iload 6, 2) := dk_21 6 (dk_at dksX4_meets_10 16 rfl rfl)
theorem dX4_meets_252 : decode cX4_meets 252 = .ok (.imul, 1) := dk_104 (dk_at dksX4_meets_10 18 rfl rfl)
theorem dX4_meets_253 : decode cX4_meets 253 = .ok (.if_icmp .ge 23, 3) := dk_162 0 23 (dk_at dksX4_meets_10 19 rfl rfl)
theorem dX4_meets_256 : decode cX4_meets 256 = .ok (.aload_n 0, 1) := dk_42 (dk_at dksX4_meets_10 22 rfl rfl)
theorem dX4_meets_257 : decode cX4_meets 257 = .ok (.getfield 37, 3) := dk_180 0 37 (dk_at dksX4_meets_11 0 rfl rfl)
theorem dX4_meets_260 : decode cX4_meets 260 = .ok (.iload 7, 2) := dk_21 7 (dk_at dksX4_meets_11 3 rfl rfl)
theorem dX4_meets_262 : decode cX4_meets 262 = .ok (.aload_n 0, 1) := dk_42 (dk_at dksX4_meets_11 5 rfl rfl)
theorem dX4_meets_263 : decode cX4_meets 263 = .ok (.getfield 40, 3) := dk_180 0 40 (dk_at dksX4_meets_11 6 rfl rfl)
theorem dX4_meets_266 : decode cX4_meets 266 = .ok (.iload 7, 2) := dk_21 7 (dk_at dksX4_meets_11 9 rfl rfl)
theorem dX4_meets_268 : decode cX4_meets 268 = .ok (.iaload, 1) := dk_46 (dk_at dksX4_meets_11 11 rfl rfl)
theorem dX4_meets_269 : decode cX4_meets 269 = .ok (.iastore, 1) := dk_79 (dk_at dksX4_meets_11 12 rfl rfl)
theorem dX4_meets_270 : decode cX4_meets 270 = .ok (.iinc 7 1, 3) := dk_132 7 1 (dk_at dksX4_meets_11 13 rfl rfl)
theorem dX4_meets_273 : decode cX4_meets 273 = .ok (.goto (-27), 3) := dk_167 255 229 (dk_at dksX4_meets_11 16 rfl rfl)
theorem dX4_meets_276 : decode cX4_meets 276 = .ok (.aload_n 0, 1) := dk_42 (dk_at dksX4_meets_11 19 rfl rfl)
theorem dX4_meets_277 : decode cX4_meets 277 = .ok (.iload 6, 2) := dk_21 6 (dk_at dksX4_meets_11 20 rfl rfl)
theorem dX4_meets_279 : decode cX4_meets 279 = .ok (.putfield 153, 3) := dk_181 0 153 (dk_at dksX4_meets_12 0 rfl rfl)
theorem dX4_meets_282 : decode cX4_meets 282 = .ok (.aload_n 0, 1) := dk_42 (dk_at dksX4_meets_12 3 rfl rfl)
theorem dX4_meets_283 : decode cX4_meets 283 = .ok (.getfield 43, 3) := dk_180 0 43 (dk_at dksX4_meets_12 4 rfl rfl)
theorem dX4_meets_286 : decode cX4_meets 286 = .ok (.iload_n 2, 1) := dk_28 (dk_at dksX4_meets_12 7 rfl rfl)
theorem dX4_meets_287 : decode cX4_meets 287 = .ok (.iload 6, 2) := dk_21 6 (dk_at dksX4_meets_12 8 rfl rfl)
theorem dX4_meets_289 : decode cX4_meets 289 = .ok (.iastore, 1) := dk_79 (dk_at dksX4_meets_12 10 rfl rfl)
theorem dX4_meets_290 : decode cX4_meets 290 = .ok (.iinc 2 1, 3) := dk_132 2 1 (dk_at dksX4_meets_12 11 rfl rfl)
theorem dX4_meets_293 : decode cX4_meets 293 = .ok (.goto (-263), 3) := dk_167 254 249 (dk_at dksX4_meets_12 14 rfl rfl)
theorem dX4_meets_296 : decode cX4_meets 296 = .ok (.iconst 1, 1) := dk_4 (dk_at dksX4_meets_12 17 rfl rfl)
theorem dX4_meets_297 : decode cX4_meets 297 = .ok (.ireturn, 1) := dk_172 (dk_at dksX4_meets_12 18 rfl rfl)
abbrev cX4_columnOf : ByteArray := prog_13_method_31_code
def yX4_columnOf : MethodName := ⟨RX4, "columnOf", "(I)I"⟩
def dkwX4_columnOf_2 : List UInt8 := [104, 29, 96, 172, 132, 3, 1, 167, 255, 214, 132, 2, 1, 167, 255, 198, 2, 172]
abbrev dktX4_columnOf_2 : List UInt8 := dkwX4_columnOf_2 ++ []
def dkwX4_columnOf_1 : List UInt8 := [180, 0, 19, 28, 46, 154, 0, 29, 42, 180, 0, 28, 6, 28, 104, 29, 96, 46, 27, 160, 0, 9, 6, 28]
abbrev dktX4_columnOf_1 : List UInt8 := dkwX4_columnOf_1 ++ dktX4_columnOf_2
def dkwX4_columnOf_0 : List UInt8 := [3, 61, 28, 42, 180, 0, 92, 162, 0, 56, 3, 62, 29, 42, 180, 0, 25, 28, 46, 162, 0, 38, 42]
abbrev dktX4_columnOf_0 : List UInt8 := dkwX4_columnOf_0 ++ dktX4_columnOf_1
theorem dksX4_columnOf_0 : cX4_columnOf.data.toList.drop 0 = dktX4_columnOf_0 := by decide +kernel
theorem dksX4_columnOf_1 : cX4_columnOf.data.toList.drop 23 = dktX4_columnOf_1 := dk_seg dksX4_columnOf_0 23 rfl rfl
theorem dksX4_columnOf_2 : cX4_columnOf.data.toList.drop 47 = dktX4_columnOf_2 := dk_seg dksX4_columnOf_1 24 rfl rfl
theorem dX4_columnOf_0 : decode cX4_columnOf 0 = .ok (.iconst 0, 1) := dk_3 (dk_at dksX4_columnOf_0 0 rfl rfl)
theorem dX4_columnOf_1 : decode cX4_columnOf 1 = .ok (.istore_n 2, 1) := dk_61 (dk_at dksX4_columnOf_0 1 rfl rfl)
theorem dX4_columnOf_2 : decode cX4_columnOf 2 = .ok (.iload_n 2, 1) := dk_28 (dk_at dksX4_columnOf_0 2 rfl rfl)
theorem dX4_columnOf_3 : decode cX4_columnOf 3 = .ok (.aload_n 0, 1) := dk_42 (dk_at dksX4_columnOf_0 3 rfl rfl)
theorem dX4_columnOf_4 : decode cX4_columnOf 4 = .ok (.getfield 92, 3) := dk_180 0 92 (dk_at dksX4_columnOf_0 4 rfl rfl)
theorem dX4_columnOf_7 : decode cX4_columnOf 7 = .ok (.if_icmp .ge 56, 3) := dk_162 0 56 (dk_at dksX4_columnOf_0 7 rfl rfl)
theorem dX4_columnOf_10 : decode cX4_columnOf 10 = .ok (.iconst 0, 1) := dk_3 (dk_at dksX4_columnOf_0 10 rfl rfl)
theorem dX4_columnOf_11 : decode cX4_columnOf 11 = .ok (.istore_n 3, 1) := dk_62 (dk_at dksX4_columnOf_0 11 rfl rfl)
theorem dX4_columnOf_12 : decode cX4_columnOf 12 = .ok (.iload_n 3, 1) := dk_29 (dk_at dksX4_columnOf_0 12 rfl rfl)
theorem dX4_columnOf_13 : decode cX4_columnOf 13 = .ok (.aload_n 0, 1) := dk_42 (dk_at dksX4_columnOf_0 13 rfl rfl)
theorem dX4_columnOf_14 : decode cX4_columnOf 14 = .ok (.getfield 25, 3) := dk_180 0 25 (dk_at dksX4_columnOf_0 14 rfl rfl)
theorem dX4_columnOf_17 : decode cX4_columnOf 17 = .ok (.iload_n 2, 1) := dk_28 (dk_at dksX4_columnOf_0 17 rfl rfl)
theorem dX4_columnOf_18 : decode cX4_columnOf 18 = .ok (.iaload, 1) := dk_46 (dk_at dksX4_columnOf_0 18 rfl rfl)
theorem dX4_columnOf_19 : decode cX4_columnOf 19 = .ok (.if_icmp .ge 38, 3) := dk_162 0 38 (dk_at dksX4_columnOf_0 19 rfl rfl)
theorem dX4_columnOf_22 : decode cX4_columnOf 22 = .ok (.aload_n 0, 1) := dk_42 (dk_at dksX4_columnOf_0 22 rfl rfl)
theorem dX4_columnOf_23 : decode cX4_columnOf 23 = .ok (.getfield 19, 3) := dk_180 0 19 (dk_at dksX4_columnOf_1 0 rfl rfl)
theorem dX4_columnOf_26 : decode cX4_columnOf 26 = .ok (.iload_n 2, 1) := dk_28 (dk_at dksX4_columnOf_1 3 rfl rfl)
theorem dX4_columnOf_27 : decode cX4_columnOf 27 = .ok (.iaload, 1) := dk_46 (dk_at dksX4_columnOf_1 4 rfl rfl)
theorem dX4_columnOf_28 : decode cX4_columnOf 28 = .ok (.ifCond .ne 29, 3) := dk_154 0 29 (dk_at dksX4_columnOf_1 5 rfl rfl)
theorem dX4_columnOf_31 : decode cX4_columnOf 31 = .ok (.aload_n 0, 1) := dk_42 (dk_at dksX4_columnOf_1 8 rfl rfl)
theorem dX4_columnOf_32 : decode cX4_columnOf 32 = .ok (.getfield 28, 3) := dk_180 0 28 (dk_at dksX4_columnOf_1 9 rfl rfl)
theorem dX4_columnOf_35 : decode cX4_columnOf 35 = .ok (.iconst 3, 1) := dk_6 (dk_at dksX4_columnOf_1 12 rfl rfl)
theorem dX4_columnOf_36 : decode cX4_columnOf 36 = .ok (.iload_n 2, 1) := dk_28 (dk_at dksX4_columnOf_1 13 rfl rfl)
theorem dX4_columnOf_37 : decode cX4_columnOf 37 = .ok (.imul, 1) := dk_104 (dk_at dksX4_columnOf_1 14 rfl rfl)
theorem dX4_columnOf_38 : decode cX4_columnOf 38 = .ok (.iload_n 3, 1) := dk_29 (dk_at dksX4_columnOf_1 15 rfl rfl)
theorem dX4_columnOf_39 : decode cX4_columnOf 39 = .ok (.iadd, 1) := dk_96 (dk_at dksX4_columnOf_1 16 rfl rfl)
theorem dX4_columnOf_40 : decode cX4_columnOf 40 = .ok (.iaload, 1) := dk_46 (dk_at dksX4_columnOf_1 17 rfl rfl)
theorem dX4_columnOf_41 : decode cX4_columnOf 41 = .ok (.iload_n 1, 1) := dk_27 (dk_at dksX4_columnOf_1 18 rfl rfl)
theorem dX4_columnOf_42 : decode cX4_columnOf 42 = .ok (.if_icmp .ne 9, 3) := dk_160 0 9 (dk_at dksX4_columnOf_1 19 rfl rfl)
theorem dX4_columnOf_45 : decode cX4_columnOf 45 = .ok (.iconst 3, 1) := dk_6 (dk_at dksX4_columnOf_1 22 rfl rfl)
theorem dX4_columnOf_46 : decode cX4_columnOf 46 = .ok (.iload_n 2, 1) := dk_28 (dk_at dksX4_columnOf_1 23 rfl rfl)
theorem dX4_columnOf_47 : decode cX4_columnOf 47 = .ok (.imul, 1) := dk_104 (dk_at dksX4_columnOf_2 0 rfl rfl)
theorem dX4_columnOf_48 : decode cX4_columnOf 48 = .ok (.iload_n 3, 1) := dk_29 (dk_at dksX4_columnOf_2 1 rfl rfl)
theorem dX4_columnOf_49 : decode cX4_columnOf 49 = .ok (.iadd, 1) := dk_96 (dk_at dksX4_columnOf_2 2 rfl rfl)
theorem dX4_columnOf_50 : decode cX4_columnOf 50 = .ok (.ireturn, 1) := dk_172 (dk_at dksX4_columnOf_2 3 rfl rfl)
theorem dX4_columnOf_51 : decode cX4_columnOf 51 = .ok (.iinc 3 1, 3) := dk_132 3 1 (dk_at dksX4_columnOf_2 4 rfl rfl)
theorem dX4_columnOf_54 : decode cX4_columnOf 54 = .ok (.goto (-42), 3) := dk_167 255 214 (dk_at dksX4_columnOf_2 7 rfl rfl)
theorem dX4_columnOf_57 : decode cX4_columnOf 57 = .ok (.iinc 2 1, 3) := dk_132 2 1 (dk_at dksX4_columnOf_2 10 rfl rfl)
theorem dX4_columnOf_60 : decode cX4_columnOf 60 = .ok (.goto (-58), 3) := dk_167 255 198 (dk_at dksX4_columnOf_2 13 rfl rfl)
theorem dX4_columnOf_63 : decode cX4_columnOf 63 = .ok (.iconst (-1), 1) := dk_2 (dk_at dksX4_columnOf_2 16 rfl rfl)
theorem dX4_columnOf_64 : decode cX4_columnOf 64 = .ok (.ireturn, 1) := dk_172 (dk_at dksX4_columnOf_2 17 rfl rfl)
abbrev cX4_isAgain : ByteArray := prog_13_method_32_code
def yX4_isAgain : MethodName := ⟨RX4, "isAgain", "(III)Z"⟩
def dkwX4_isAgain_1 : List UInt8 := [160, 0, 5, 4, 172, 132, 4, 1, 167, 255, 227, 3, 172]
abbrev dktX4_isAgain_1 : List UInt8 := dkwX4_isAgain_1 ++ []
def dkwX4_isAgain_0 : List UInt8 := [3, 54, 4, 21, 4, 29, 162, 0, 29, 42, 27, 21, 4, 28, 182, 0, 95, 42, 27, 29, 28, 182, 0, 95]
abbrev dktX4_isAgain_0 : List UInt8 := dkwX4_isAgain_0 ++ dktX4_isAgain_1
theorem dksX4_isAgain_0 : cX4_isAgain.data.toList.drop 0 = dktX4_isAgain_0 := by decide +kernel
theorem dksX4_isAgain_1 : cX4_isAgain.data.toList.drop 24 = dktX4_isAgain_1 := dk_seg dksX4_isAgain_0 24 rfl rfl
theorem dX4_isAgain_0 : decode cX4_isAgain 0 = .ok (.iconst 0, 1) := dk_3 (dk_at dksX4_isAgain_0 0 rfl rfl)
theorem dX4_isAgain_1 : decode cX4_isAgain 1 = .ok (.istore 4, 2) := dk_54 4 (dk_at dksX4_isAgain_0 1 rfl rfl)
theorem dX4_isAgain_3 : decode cX4_isAgain 3 = .ok (.iload 4, 2) := dk_21 4 (dk_at dksX4_isAgain_0 3 rfl rfl)
theorem dX4_isAgain_5 : decode cX4_isAgain 5 = .ok (.iload_n 3, 1) := dk_29 (dk_at dksX4_isAgain_0 5 rfl rfl)
theorem dX4_isAgain_6 : decode cX4_isAgain 6 = .ok (.if_icmp .ge 29, 3) := dk_162 0 29 (dk_at dksX4_isAgain_0 6 rfl rfl)
theorem dX4_isAgain_9 : decode cX4_isAgain 9 = .ok (.aload_n 0, 1) := dk_42 (dk_at dksX4_isAgain_0 9 rfl rfl)
theorem dX4_isAgain_10 : decode cX4_isAgain 10 = .ok (.iload_n 1, 1) := dk_27 (dk_at dksX4_isAgain_0 10 rfl rfl)
theorem dX4_isAgain_11 : decode cX4_isAgain 11 = .ok (.iload 4, 2) := dk_21 4 (dk_at dksX4_isAgain_0 11 rfl rfl)
theorem dX4_isAgain_13 : decode cX4_isAgain 13 = .ok (.iload_n 2, 1) := dk_28 (dk_at dksX4_isAgain_0 13 rfl rfl)
theorem dX4_isAgain_14 : decode cX4_isAgain 14 = .ok (.invokevirtual 95, 3) := dk_182 0 95 (dk_at dksX4_isAgain_0 14 rfl rfl)
theorem dX4_isAgain_17 : decode cX4_isAgain 17 = .ok (.aload_n 0, 1) := dk_42 (dk_at dksX4_isAgain_0 17 rfl rfl)
theorem dX4_isAgain_18 : decode cX4_isAgain 18 = .ok (.iload_n 1, 1) := dk_27 (dk_at dksX4_isAgain_0 18 rfl rfl)
theorem dX4_isAgain_19 : decode cX4_isAgain 19 = .ok (.iload_n 3, 1) := dk_29 (dk_at dksX4_isAgain_0 19 rfl rfl)
theorem dX4_isAgain_20 : decode cX4_isAgain 20 = .ok (.iload_n 2, 1) := dk_28 (dk_at dksX4_isAgain_0 20 rfl rfl)
theorem dX4_isAgain_21 : decode cX4_isAgain 21 = .ok (.invokevirtual 95, 3) := dk_182 0 95 (dk_at dksX4_isAgain_0 21 rfl rfl)
theorem dX4_isAgain_24 : decode cX4_isAgain 24 = .ok (.if_icmp .ne 5, 3) := dk_160 0 5 (dk_at dksX4_isAgain_1 0 rfl rfl)
theorem dX4_isAgain_27 : decode cX4_isAgain 27 = .ok (.iconst 1, 1) := dk_4 (dk_at dksX4_isAgain_1 3 rfl rfl)
theorem dX4_isAgain_28 : decode cX4_isAgain 28 = .ok (.ireturn, 1) := dk_172 (dk_at dksX4_isAgain_1 4 rfl rfl)
theorem dX4_isAgain_29 : decode cX4_isAgain 29 = .ok (.iinc 4 1, 3) := dk_132 4 1 (dk_at dksX4_isAgain_1 5 rfl rfl)
theorem dX4_isAgain_32 : decode cX4_isAgain 32 = .ok (.goto (-29), 3) := dk_167 255 227 (dk_at dksX4_isAgain_1 8 rfl rfl)
theorem dX4_isAgain_35 : decode cX4_isAgain 35 = .ok (.iconst 0, 1) := dk_3 (dk_at dksX4_isAgain_1 11 rfl rfl)
theorem dX4_isAgain_36 : decode cX4_isAgain 36 = .ok (.ireturn, 1) := dk_172 (dk_at dksX4_isAgain_1 12 rfl rfl)
abbrev cX4_areTrue : ByteArray := prog_13_method_30_code
def yX4_areTrue : MethodName := ⟨RX4, "areTrue", "(I)Z"⟩
def dkwX4_areTrue_1 : List UInt8 := [167, 255, 234, 4, 172]
abbrev dktX4_areTrue_1 : List UInt8 := dkwX4_areTrue_1 ++ []
def dkwX4_areTrue_0 : List UInt8 := [3, 61, 28, 42, 180, 0, 92, 162, 0, 20, 42, 28, 27, 182, 0, 150, 154, 0, 5, 3, 172, 132, 2, 1]
abbrev dktX4_areTrue_0 : List UInt8 := dkwX4_areTrue_0 ++ dktX4_areTrue_1
theorem dksX4_areTrue_0 : cX4_areTrue.data.toList.drop 0 = dktX4_areTrue_0 := by decide +kernel
theorem dksX4_areTrue_1 : cX4_areTrue.data.toList.drop 24 = dktX4_areTrue_1 := dk_seg dksX4_areTrue_0 24 rfl rfl
theorem dX4_areTrue_0 : decode cX4_areTrue 0 = .ok (.iconst 0, 1) := dk_3 (dk_at dksX4_areTrue_0 0 rfl rfl)
theorem dX4_areTrue_1 : decode cX4_areTrue 1 = .ok (.istore_n 2, 1) := dk_61 (dk_at dksX4_areTrue_0 1 rfl rfl)
theorem dX4_areTrue_2 : decode cX4_areTrue 2 = .ok (.iload_n 2, 1) := dk_28 (dk_at dksX4_areTrue_0 2 rfl rfl)
theorem dX4_areTrue_3 : decode cX4_areTrue 3 = .ok (.aload_n 0, 1) := dk_42 (dk_at dksX4_areTrue_0 3 rfl rfl)
theorem dX4_areTrue_4 : decode cX4_areTrue 4 = .ok (.getfield 92, 3) := dk_180 0 92 (dk_at dksX4_areTrue_0 4 rfl rfl)
theorem dX4_areTrue_7 : decode cX4_areTrue 7 = .ok (.if_icmp .ge 20, 3) := dk_162 0 20 (dk_at dksX4_areTrue_0 7 rfl rfl)
theorem dX4_areTrue_10 : decode cX4_areTrue 10 = .ok (.aload_n 0, 1) := dk_42 (dk_at dksX4_areTrue_0 10 rfl rfl)
theorem dX4_areTrue_11 : decode cX4_areTrue 11 = .ok (.iload_n 2, 1) := dk_28 (dk_at dksX4_areTrue_0 11 rfl rfl)
theorem dX4_areTrue_12 : decode cX4_areTrue 12 = .ok (.iload_n 1, 1) := dk_27 (dk_at dksX4_areTrue_0 12 rfl rfl)
theorem dX4_areTrue_13 : decode cX4_areTrue 13 = .ok (.invokevirtual 150, 3) := dk_182 0 150 (dk_at dksX4_areTrue_0 13 rfl rfl)
theorem dX4_areTrue_16 : decode cX4_areTrue 16 = .ok (.ifCond .ne 5, 3) := dk_154 0 5 (dk_at dksX4_areTrue_0 16 rfl rfl)
theorem dX4_areTrue_19 : decode cX4_areTrue 19 = .ok (.iconst 0, 1) := dk_3 (dk_at dksX4_areTrue_0 19 rfl rfl)
theorem dX4_areTrue_20 : decode cX4_areTrue 20 = .ok (.ireturn, 1) := dk_172 (dk_at dksX4_areTrue_0 20 rfl rfl)
theorem dX4_areTrue_21 : decode cX4_areTrue 21 = .ok (.iinc 2 1, 3) := dk_132 2 1 (dk_at dksX4_areTrue_0 21 rfl rfl)
theorem dX4_areTrue_24 : decode cX4_areTrue 24 = .ok (.goto (-22), 3) := dk_167 255 234 (dk_at dksX4_areTrue_1 0 rfl rfl)
theorem dX4_areTrue_27 : decode cX4_areTrue 27 = .ok (.iconst 1, 1) := dk_4 (dk_at dksX4_areTrue_1 3 rfl rfl)
theorem dX4_areTrue_28 : decode cX4_areTrue 28 = .ok (.ireturn, 1) := dk_172 (dk_at dksX4_areTrue_1 4 rfl rfl)
abbrev cX4_isTrue : ByteArray := prog_13_method_29_code
def yX4_isTrue : MethodName := ⟨RX4, "isTrue", "(II)Z"⟩
def dkwX4_isTrue_7 : List UInt8 := [167, 0, 4, 3, 172]
abbrev dktX4_isTrue_7 : List UInt8 := dkwX4_isTrue_7 ++ []
def dkwX4_isTrue_6 : List UInt8 := [153, 0, 21, 42, 27, 3, 182, 0, 132, 42, 27, 4, 182, 0, 132, 184, 0, 99, 156, 0, 7, 4]
abbrev dktX4_isTrue_6 : List UInt8 := dkwX4_isTrue_6 ++ dktX4_isTrue_7
def dkwX4_isTrue_5 : List UInt8 := [182, 0, 132, 42, 27, 4, 182, 0, 132, 160, 0, 7, 4, 167, 0, 4, 3, 172, 42, 27, 28, 182, 0, 147]
abbrev dktX4_isTrue_5 : List UInt8 := dkwX4_isTrue_5 ++ dktX4_isTrue_6
def dkwX4_isTrue_4 : List UInt8 := [2, 160, 0, 7, 4, 167, 0, 4, 3, 172, 42, 27, 28, 182, 0, 147, 153, 0, 18, 42, 27, 3]
abbrev dktX4_isTrue_4 : List UInt8 := dkwX4_isTrue_4 ++ dktX4_isTrue_5
def dkwX4_isTrue_3 : List UInt8 := [159, 0, 7, 4, 167, 0, 4, 3, 172, 42, 27, 28, 182, 0, 147, 153, 0, 13, 42, 27, 28, 182, 0, 144]
abbrev dktX4_isTrue_3 : List UInt8 := dkwX4_isTrue_3 ++ dktX4_isTrue_4
def dkwX4_isTrue_2 : List UInt8 := [42, 27, 182, 0, 138, 153, 0, 12, 42, 27, 28, 182, 0, 141, 153, 0, 13, 42, 27, 28, 182, 0, 144, 2]
abbrev dktX4_isTrue_2 : List UInt8 := dkwX4_isTrue_2 ++ dktX4_isTrue_3
def dkwX4_isTrue_1 : List UInt8 := [170, 0, 0, 0, 0, 114, 0, 0, 0, 0, 0, 0, 0, 2, 0, 0, 0, 26, 0, 0, 0, 59, 0, 0, 0, 84]
abbrev dktX4_isTrue_1 : List UInt8 := dkwX4_isTrue_1 ++ dktX4_isTrue_2
def dkwX4_isTrue_0 : List UInt8 := [42, 180, 0, 19, 27, 46]
abbrev dktX4_isTrue_0 : List UInt8 := dkwX4_isTrue_0 ++ dktX4_isTrue_1
theorem dksX4_isTrue_0 : cX4_isTrue.data.toList.drop 0 = dktX4_isTrue_0 := by decide +kernel
theorem dksX4_isTrue_1 : cX4_isTrue.data.toList.drop 6 = dktX4_isTrue_1 := dk_seg dksX4_isTrue_0 6 rfl rfl
theorem dksX4_isTrue_2 : cX4_isTrue.data.toList.drop 32 = dktX4_isTrue_2 := dk_seg dksX4_isTrue_1 26 rfl rfl
theorem dksX4_isTrue_3 : cX4_isTrue.data.toList.drop 56 = dktX4_isTrue_3 := dk_seg dksX4_isTrue_2 24 rfl rfl
theorem dksX4_isTrue_4 : cX4_isTrue.data.toList.drop 80 = dktX4_isTrue_4 := dk_seg dksX4_isTrue_3 24 rfl rfl
theorem dksX4_isTrue_5 : cX4_isTrue.data.toList.drop 102 = dktX4_isTrue_5 := dk_seg dksX4_isTrue_4 22 rfl rfl
theorem dksX4_isTrue_6 : cX4_isTrue.data.toList.drop 126 = dktX4_isTrue_6 := dk_seg dksX4_isTrue_5 24 rfl rfl
theorem dksX4_isTrue_7 : cX4_isTrue.data.toList.drop 148 = dktX4_isTrue_7 := dk_seg dksX4_isTrue_6 22 rfl rfl
theorem dX4_isTrue_0 : decode cX4_isTrue 0 = .ok (.aload_n 0, 1) := dk_42 (dk_at dksX4_isTrue_0 0 rfl rfl)
theorem dX4_isTrue_1 : decode cX4_isTrue 1 = .ok (.getfield 19, 3) := dk_180 0 19 (dk_at dksX4_isTrue_0 1 rfl rfl)
theorem dX4_isTrue_4 : decode cX4_isTrue 4 = .ok (.iload_n 1, 1) := dk_27 (dk_at dksX4_isTrue_0 4 rfl rfl)
theorem dX4_isTrue_5 : decode cX4_isTrue 5 = .ok (.iaload, 1) := dk_46 (dk_at dksX4_isTrue_0 5 rfl rfl)
theorem dX4_isTrue_6 : decode cX4_isTrue 6 = .ok (.tableswitch 114 0 2 #[26, 59, 84], 26) := by decide +kernel
theorem dX4_isTrue_32 : decode cX4_isTrue 32 = .ok (.aload_n 0, 1) := dk_42 (dk_at dksX4_isTrue_2 0 rfl rfl)
theorem dX4_isTrue_33 : decode cX4_isTrue 33 = .ok (.iload_n 1, 1) := dk_27 (dk_at dksX4_isTrue_2 1 rfl rfl)
theorem dX4_isTrue_34 : decode cX4_isTrue 34 = .ok (.invokevirtual 138, 3) := dk_182 0 138 (dk_at dksX4_isTrue_2 2 rfl rfl)
theorem dX4_isTrue_37 : decode cX4_isTrue 37 = .ok (.ifCond .eq 12, 3) := dk_153 0 12 (dk_at dksX4_isTrue_2 5 rfl rfl)
theorem dX4_isTrue_40 : decode cX4_isTrue 40 = .ok (.aload_n 0, 1) := dk_42 (dk_at dksX4_isTrue_2 8 rfl rfl)
theorem dX4_isTrue_41 : decode cX4_isTrue 41 = .ok (.iload_n 1, 1) := dk_27 (dk_at dksX4_isTrue_2 9 rfl rfl)
theorem dX4_isTrue_42 : decode cX4_isTrue 42 = .ok (.iload_n 2, 1) := dk_28 (dk_at dksX4_isTrue_2 10 rfl rfl)
theorem dX4_isTrue_43 : decode cX4_isTrue 43 = .ok (.invokevirtual 141, 3) := dk_182 0 141 (dk_at dksX4_isTrue_2 11 rfl rfl)
theorem dX4_isTrue_46 : decode cX4_isTrue 46 = .ok (.ifCond .eq 13, 3) := dk_153 0 13 (dk_at dksX4_isTrue_2 14 rfl rfl)
theorem dX4_isTrue_49 : decode cX4_isTrue 49 = .ok (.aload_n 0, 1) := dk_42 (dk_at dksX4_isTrue_2 17 rfl rfl)
theorem dX4_isTrue_50 : decode cX4_isTrue 50 = .ok (.iload_n 1, 1) := dk_27 (dk_at dksX4_isTrue_2 18 rfl rfl)
theorem dX4_isTrue_51 : decode cX4_isTrue 51 = .ok (.iload_n 2, 1) := dk_28 (dk_at dksX4_isTrue_2 19 rfl rfl)
theorem dX4_isTrue_52 : decode cX4_isTrue 52 = .ok (.invokevirtual 144, 3) := dk_182 0 144 (dk_at dksX4_isTrue_2 20 rfl rfl)
theorem dX4_isTrue_55 : decode cX4_isTrue 55 = .ok (.iconst (-1), 1) := dk_2 (dk_at dksX4_isTrue_2 23 rfl rfl)
theorem dX4_isTrue_56 : decode cX4_isTrue 56 = .ok (.if_icmp .eq 7, 3) := dk_159 0 7 (dk_at dksX4_isTrue_3 0 rfl rfl)
theorem dX4_isTrue_59 : decode cX4_isTrue 59 = .ok (.iconst 1, 1) := dk_4 (dk_at dksX4_isTrue_3 3 rfl rfl)
theorem dX4_isTrue_60 : decode cX4_isTrue 60 = .ok (.goto 4, 3) := dk_167 0 4 (dk_at dksX4_isTrue_3 4 rfl rfl)
theorem dX4_isTrue_63 : decode cX4_isTrue 63 = .ok (.iconst 0, 1) := dk_3 (dk_at dksX4_isTrue_3 7 rfl rfl)
theorem dX4_isTrue_64 : decode cX4_isTrue 64 = .ok (.ireturn, 1) := dk_172 (dk_at dksX4_isTrue_3 8 rfl rfl)
theorem dX4_isTrue_65 : decode cX4_isTrue 65 = .ok (.aload_n 0, 1) := dk_42 (dk_at dksX4_isTrue_3 9 rfl rfl)
theorem dX4_isTrue_66 : decode cX4_isTrue 66 = .ok (.iload_n 1, 1) := dk_27 (dk_at dksX4_isTrue_3 10 rfl rfl)
theorem dX4_isTrue_67 : decode cX4_isTrue 67 = .ok (.iload_n 2, 1) := dk_28 (dk_at dksX4_isTrue_3 11 rfl rfl)
theorem dX4_isTrue_68 : decode cX4_isTrue 68 = .ok (.invokevirtual 147, 3) := dk_182 0 147 (dk_at dksX4_isTrue_3 12 rfl rfl)
theorem dX4_isTrue_71 : decode cX4_isTrue 71 = .ok (.ifCond .eq 13, 3) := dk_153 0 13 (dk_at dksX4_isTrue_3 15 rfl rfl)
theorem dX4_isTrue_74 : decode cX4_isTrue 74 = .ok (.aload_n 0, 1) := dk_42 (dk_at dksX4_isTrue_3 18 rfl rfl)
theorem dX4_isTrue_75 : decode cX4_isTrue 75 = .ok (.iload_n 1, 1) := dk_27 (dk_at dksX4_isTrue_3 19 rfl rfl)
theorem dX4_isTrue_76 : decode cX4_isTrue 76 = .ok (.iload_n 2, 1) := dk_28 (dk_at dksX4_isTrue_3 20 rfl rfl)
theorem dX4_isTrue_77 : decode cX4_isTrue 77 = .ok (.invokevirtual 144, 3) := dk_182 0 144 (dk_at dksX4_isTrue_3 21 rfl rfl)
theorem dX4_isTrue_80 : decode cX4_isTrue 80 = .ok (.iconst (-1), 1) := dk_2 (dk_at dksX4_isTrue_4 0 rfl rfl)
theorem dX4_isTrue_81 : decode cX4_isTrue 81 = .ok (.if_icmp .ne 7, 3) := dk_160 0 7 (dk_at dksX4_isTrue_4 1 rfl rfl)
theorem dX4_isTrue_84 : decode cX4_isTrue 84 = .ok (.iconst 1, 1) := dk_4 (dk_at dksX4_isTrue_4 4 rfl rfl)
theorem dX4_isTrue_85 : decode cX4_isTrue 85 = .ok (.goto 4, 3) := dk_167 0 4 (dk_at dksX4_isTrue_4 5 rfl rfl)
theorem dX4_isTrue_88 : decode cX4_isTrue 88 = .ok (.iconst 0, 1) := dk_3 (dk_at dksX4_isTrue_4 8 rfl rfl)
theorem dX4_isTrue_89 : decode cX4_isTrue 89 = .ok (.ireturn, 1) := dk_172 (dk_at dksX4_isTrue_4 9 rfl rfl)
theorem dX4_isTrue_90 : decode cX4_isTrue 90 = .ok (.aload_n 0, 1) := dk_42 (dk_at dksX4_isTrue_4 10 rfl rfl)
theorem dX4_isTrue_91 : decode cX4_isTrue 91 = .ok (.iload_n 1, 1) := dk_27 (dk_at dksX4_isTrue_4 11 rfl rfl)
theorem dX4_isTrue_92 : decode cX4_isTrue 92 = .ok (.iload_n 2, 1) := dk_28 (dk_at dksX4_isTrue_4 12 rfl rfl)
theorem dX4_isTrue_93 : decode cX4_isTrue 93 = .ok (.invokevirtual 147, 3) := dk_182 0 147 (dk_at dksX4_isTrue_4 13 rfl rfl)
theorem dX4_isTrue_96 : decode cX4_isTrue 96 = .ok (.ifCond .eq 18, 3) := dk_153 0 18 (dk_at dksX4_isTrue_4 16 rfl rfl)
theorem dX4_isTrue_99 : decode cX4_isTrue 99 = .ok (.aload_n 0, 1) := dk_42 (dk_at dksX4_isTrue_4 19 rfl rfl)
theorem dX4_isTrue_100 : decode cX4_isTrue 100 = .ok (.iload_n 1, 1) := dk_27 (dk_at dksX4_isTrue_4 20 rfl rfl)
theorem dX4_isTrue_101 : decode cX4_isTrue 101 = .ok (.iconst 0, 1) := dk_3 (dk_at dksX4_isTrue_4 21 rfl rfl)
theorem dX4_isTrue_102 : decode cX4_isTrue 102 = .ok (.invokevirtual 132, 3) := dk_182 0 132 (dk_at dksX4_isTrue_5 0 rfl rfl)
theorem dX4_isTrue_105 : decode cX4_isTrue 105 = .ok (.aload_n 0, 1) := dk_42 (dk_at dksX4_isTrue_5 3 rfl rfl)
theorem dX4_isTrue_106 : decode cX4_isTrue 106 = .ok (.iload_n 1, 1) := dk_27 (dk_at dksX4_isTrue_5 4 rfl rfl)
theorem dX4_isTrue_107 : decode cX4_isTrue 107 = .ok (.iconst 1, 1) := dk_4 (dk_at dksX4_isTrue_5 5 rfl rfl)
theorem dX4_isTrue_108 : decode cX4_isTrue 108 = .ok (.invokevirtual 132, 3) := dk_182 0 132 (dk_at dksX4_isTrue_5 6 rfl rfl)
theorem dX4_isTrue_111 : decode cX4_isTrue 111 = .ok (.if_icmp .ne 7, 3) := dk_160 0 7 (dk_at dksX4_isTrue_5 9 rfl rfl)
theorem dX4_isTrue_114 : decode cX4_isTrue 114 = .ok (.iconst 1, 1) := dk_4 (dk_at dksX4_isTrue_5 12 rfl rfl)
theorem dX4_isTrue_115 : decode cX4_isTrue 115 = .ok (.goto 4, 3) := dk_167 0 4 (dk_at dksX4_isTrue_5 13 rfl rfl)
theorem dX4_isTrue_118 : decode cX4_isTrue 118 = .ok (.iconst 0, 1) := dk_3 (dk_at dksX4_isTrue_5 16 rfl rfl)
theorem dX4_isTrue_119 : decode cX4_isTrue 119 = .ok (.ireturn, 1) := dk_172 (dk_at dksX4_isTrue_5 17 rfl rfl)
theorem dX4_isTrue_120 : decode cX4_isTrue 120 = .ok (.aload_n 0, 1) := dk_42 (dk_at dksX4_isTrue_5 18 rfl rfl)
theorem dX4_isTrue_121 : decode cX4_isTrue 121 = .ok (.iload_n 1, 1) := dk_27 (dk_at dksX4_isTrue_5 19 rfl rfl)
theorem dX4_isTrue_122 : decode cX4_isTrue 122 = .ok (.iload_n 2, 1) := dk_28 (dk_at dksX4_isTrue_5 20 rfl rfl)
theorem dX4_isTrue_123 : decode cX4_isTrue 123 = .ok (.invokevirtual 147, 3) := dk_182 0 147 (dk_at dksX4_isTrue_5 21 rfl rfl)
theorem dX4_isTrue_126 : decode cX4_isTrue 126 = .ok (.ifCond .eq 21, 3) := dk_153 0 21 (dk_at dksX4_isTrue_6 0 rfl rfl)
theorem dX4_isTrue_129 : decode cX4_isTrue 129 = .ok (.aload_n 0, 1) := dk_42 (dk_at dksX4_isTrue_6 3 rfl rfl)
theorem dX4_isTrue_130 : decode cX4_isTrue 130 = .ok (.iload_n 1, 1) := dk_27 (dk_at dksX4_isTrue_6 4 rfl rfl)
theorem dX4_isTrue_131 : decode cX4_isTrue 131 = .ok (.iconst 0, 1) := dk_3 (dk_at dksX4_isTrue_6 5 rfl rfl)
theorem dX4_isTrue_132 : decode cX4_isTrue 132 = .ok (.invokevirtual 132, 3) := dk_182 0 132 (dk_at dksX4_isTrue_6 6 rfl rfl)
theorem dX4_isTrue_135 : decode cX4_isTrue 135 = .ok (.aload_n 0, 1) := dk_42 (dk_at dksX4_isTrue_6 9 rfl rfl)
theorem dX4_isTrue_136 : decode cX4_isTrue 136 = .ok (.iload_n 1, 1) := dk_27 (dk_at dksX4_isTrue_6 10 rfl rfl)
theorem dX4_isTrue_137 : decode cX4_isTrue 137 = .ok (.iconst 1, 1) := dk_4 (dk_at dksX4_isTrue_6 11 rfl rfl)
theorem dX4_isTrue_138 : decode cX4_isTrue 138 = .ok (.invokevirtual 132, 3) := dk_182 0 132 (dk_at dksX4_isTrue_6 12 rfl rfl)
theorem dX4_isTrue_141 : decode cX4_isTrue 141 = .ok (.invokestatic 99, 3) := dk_184 0 99 (dk_at dksX4_isTrue_6 15 rfl rfl)
theorem dX4_isTrue_144 : decode cX4_isTrue 144 = .ok (.ifCond .ge 7, 3) := dk_156 0 7 (dk_at dksX4_isTrue_6 18 rfl rfl)
theorem dX4_isTrue_147 : decode cX4_isTrue 147 = .ok (.iconst 1, 1) := dk_4 (dk_at dksX4_isTrue_6 21 rfl rfl)
theorem dX4_isTrue_148 : decode cX4_isTrue 148 = .ok (.goto 4, 3) := dk_167 0 4 (dk_at dksX4_isTrue_7 0 rfl rfl)
theorem dX4_isTrue_151 : decode cX4_isTrue 151 = .ok (.iconst 0, 1) := dk_3 (dk_at dksX4_isTrue_7 3 rfl rfl)
theorem dX4_isTrue_152 : decode cX4_isTrue 152 = .ok (.ireturn, 1) := dk_172 (dk_at dksX4_isTrue_7 4 rfl rfl)
abbrev cX4_isNamed : ByteArray := prog_13_method_21_code
def yX4_isNamed : MethodName := ⟨RX4, "isNamed", "(I)Z"⟩
def dkwX4_isNamed_1 : List UInt8 := [159, 0, 5, 4, 172, 132, 2, 1, 167, 255, 227, 3, 172]
abbrev dktX4_isNamed_1 : List UInt8 := dkwX4_isNamed_1 ++ []
def dkwX4_isNamed_0 : List UInt8 := [3, 61, 28, 42, 180, 0, 25, 27, 46, 162, 0, 25, 42, 180, 0, 28, 6, 27, 104, 28, 96, 46, 2]
abbrev dktX4_isNamed_0 : List UInt8 := dkwX4_isNamed_0 ++ dktX4_isNamed_1
theorem dksX4_isNamed_0 : cX4_isNamed.data.toList.drop 0 = dktX4_isNamed_0 := by decide +kernel
theorem dksX4_isNamed_1 : cX4_isNamed.data.toList.drop 23 = dktX4_isNamed_1 := dk_seg dksX4_isNamed_0 23 rfl rfl
theorem dX4_isNamed_0 : decode cX4_isNamed 0 = .ok (.iconst 0, 1) := dk_3 (dk_at dksX4_isNamed_0 0 rfl rfl)
theorem dX4_isNamed_1 : decode cX4_isNamed 1 = .ok (.istore_n 2, 1) := dk_61 (dk_at dksX4_isNamed_0 1 rfl rfl)
theorem dX4_isNamed_2 : decode cX4_isNamed 2 = .ok (.iload_n 2, 1) := dk_28 (dk_at dksX4_isNamed_0 2 rfl rfl)
theorem dX4_isNamed_3 : decode cX4_isNamed 3 = .ok (.aload_n 0, 1) := dk_42 (dk_at dksX4_isNamed_0 3 rfl rfl)
theorem dX4_isNamed_4 : decode cX4_isNamed 4 = .ok (.getfield 25, 3) := dk_180 0 25 (dk_at dksX4_isNamed_0 4 rfl rfl)
theorem dX4_isNamed_7 : decode cX4_isNamed 7 = .ok (.iload_n 1, 1) := dk_27 (dk_at dksX4_isNamed_0 7 rfl rfl)
theorem dX4_isNamed_8 : decode cX4_isNamed 8 = .ok (.iaload, 1) := dk_46 (dk_at dksX4_isNamed_0 8 rfl rfl)
theorem dX4_isNamed_9 : decode cX4_isNamed 9 = .ok (.if_icmp .ge 25, 3) := dk_162 0 25 (dk_at dksX4_isNamed_0 9 rfl rfl)
theorem dX4_isNamed_12 : decode cX4_isNamed 12 = .ok (.aload_n 0, 1) := dk_42 (dk_at dksX4_isNamed_0 12 rfl rfl)
theorem dX4_isNamed_13 : decode cX4_isNamed 13 = .ok (.getfield 28, 3) := dk_180 0 28 (dk_at dksX4_isNamed_0 13 rfl rfl)
theorem dX4_isNamed_16 : decode cX4_isNamed 16 = .ok (.iconst 3, 1) := dk_6 (dk_at dksX4_isNamed_0 16 rfl rfl)
theorem dX4_isNamed_17 : decode cX4_isNamed 17 = .ok (.iload_n 1, 1) := dk_27 (dk_at dksX4_isNamed_0 17 rfl rfl)
theorem dX4_isNamed_18 : decode cX4_isNamed 18 = .ok (.imul, 1) := dk_104 (dk_at dksX4_isNamed_0 18 rfl rfl)
theorem dX4_isNamed_19 : decode cX4_isNamed 19 = .ok (.iload_n 2, 1) := dk_28 (dk_at dksX4_isNamed_0 19 rfl rfl)
theorem dX4_isNamed_20 : decode cX4_isNamed 20 = .ok (.iadd, 1) := dk_96 (dk_at dksX4_isNamed_0 20 rfl rfl)
theorem dX4_isNamed_21 : decode cX4_isNamed 21 = .ok (.iaload, 1) := dk_46 (dk_at dksX4_isNamed_0 21 rfl rfl)
theorem dX4_isNamed_22 : decode cX4_isNamed 22 = .ok (.iconst (-1), 1) := dk_2 (dk_at dksX4_isNamed_0 22 rfl rfl)
theorem dX4_isNamed_23 : decode cX4_isNamed 23 = .ok (.if_icmp .eq 5, 3) := dk_159 0 5 (dk_at dksX4_isNamed_1 0 rfl rfl)
theorem dX4_isNamed_26 : decode cX4_isNamed 26 = .ok (.iconst 1, 1) := dk_4 (dk_at dksX4_isNamed_1 3 rfl rfl)
theorem dX4_isNamed_27 : decode cX4_isNamed 27 = .ok (.ireturn, 1) := dk_172 (dk_at dksX4_isNamed_1 4 rfl rfl)
theorem dX4_isNamed_28 : decode cX4_isNamed 28 = .ok (.iinc 2 1, 3) := dk_132 2 1 (dk_at dksX4_isNamed_1 5 rfl rfl)
theorem dX4_isNamed_31 : decode cX4_isNamed 31 = .ok (.goto (-29), 3) := dk_167 255 227 (dk_at dksX4_isNamed_1 8 rfl rfl)
theorem dX4_isNamed_34 : decode cX4_isNamed 34 = .ok (.iconst 0, 1) := dk_3 (dk_at dksX4_isNamed_1 11 rfl rfl)
theorem dX4_isNamed_35 : decode cX4_isNamed 35 = .ok (.ireturn, 1) := dk_172 (dk_at dksX4_isNamed_1 12 rfl rfl)
abbrev cX4_touches : ByteArray := prog_13_method_28_code
def yX4_touches : MethodName := ⟨RX4, "touches", "(II)Z"⟩
def dkwX4_touches_2 : List UInt8 := [132, 3, 1, 167, 255, 209, 3, 172]
abbrev dktX4_touches_2 : List UInt8 := dkwX4_touches_2 ++ []
def dkwX4_touches_1 : List UInt8 := [159, 0, 23, 42, 28, 42, 180, 0, 28, 6, 27, 104, 29, 96, 46, 182, 0, 129, 153, 0, 5, 4, 172]
abbrev dktX4_touches_1 : List UInt8 := dkwX4_touches_1 ++ dktX4_touches_2
def dkwX4_touches_0 : List UInt8 := [3, 62, 29, 42, 180, 0, 25, 27, 46, 162, 0, 43, 42, 180, 0, 28, 6, 27, 104, 29, 96, 46, 2]
abbrev dktX4_touches_0 : List UInt8 := dkwX4_touches_0 ++ dktX4_touches_1
theorem dksX4_touches_0 : cX4_touches.data.toList.drop 0 = dktX4_touches_0 := by decide +kernel
theorem dksX4_touches_1 : cX4_touches.data.toList.drop 23 = dktX4_touches_1 := dk_seg dksX4_touches_0 23 rfl rfl
theorem dksX4_touches_2 : cX4_touches.data.toList.drop 46 = dktX4_touches_2 := dk_seg dksX4_touches_1 23 rfl rfl
theorem dX4_touches_0 : decode cX4_touches 0 = .ok (.iconst 0, 1) := dk_3 (dk_at dksX4_touches_0 0 rfl rfl)
theorem dX4_touches_1 : decode cX4_touches 1 = .ok (.istore_n 3, 1) := dk_62 (dk_at dksX4_touches_0 1 rfl rfl)
theorem dX4_touches_2 : decode cX4_touches 2 = .ok (.iload_n 3, 1) := dk_29 (dk_at dksX4_touches_0 2 rfl rfl)
theorem dX4_touches_3 : decode cX4_touches 3 = .ok (.aload_n 0, 1) := dk_42 (dk_at dksX4_touches_0 3 rfl rfl)
theorem dX4_touches_4 : decode cX4_touches 4 = .ok (.getfield 25, 3) := dk_180 0 25 (dk_at dksX4_touches_0 4 rfl rfl)
theorem dX4_touches_7 : decode cX4_touches 7 = .ok (.iload_n 1, 1) := dk_27 (dk_at dksX4_touches_0 7 rfl rfl)
theorem dX4_touches_8 : decode cX4_touches 8 = .ok (.iaload, 1) := dk_46 (dk_at dksX4_touches_0 8 rfl rfl)
theorem dX4_touches_9 : decode cX4_touches 9 = .ok (.if_icmp .ge 43, 3) := dk_162 0 43 (dk_at dksX4_touches_0 9 rfl rfl)
theorem dX4_touches_12 : decode cX4_touches 12 = .ok (.aload_n 0, 1) := dk_42 (dk_at dksX4_touches_0 12 rfl rfl)
theorem dX4_touches_13 : decode cX4_touches 13 = .ok (.getfield 28, 3) := dk_180 0 28 (dk_at dksX4_touches_0 13 rfl rfl)
theorem dX4_touches_16 : decode cX4_touches 16 = .ok (.iconst 3, 1) := dk_6 (dk_at dksX4_touches_0 16 rfl rfl)
theorem dX4_touches_17 : decode cX4_touches 17 = .ok (.iload_n 1, 1) := dk_27 (dk_at dksX4_touches_0 17 rfl rfl)
theorem dX4_touches_18 : decode cX4_touches 18 = .ok (.imul, 1) := dk_104 (dk_at dksX4_touches_0 18 rfl rfl)
theorem dX4_touches_19 : decode cX4_touches 19 = .ok (.iload_n 3, 1) := dk_29 (dk_at dksX4_touches_0 19 rfl rfl)
theorem dX4_touches_20 : decode cX4_touches 20 = .ok (.iadd, 1) := dk_96 (dk_at dksX4_touches_0 20 rfl rfl)
theorem dX4_touches_21 : decode cX4_touches 21 = .ok (.iaload, 1) := dk_46 (dk_at dksX4_touches_0 21 rfl rfl)
theorem dX4_touches_22 : decode cX4_touches 22 = .ok (.iconst (-1), 1) := dk_2 (dk_at dksX4_touches_0 22 rfl rfl)
theorem dX4_touches_23 : decode cX4_touches 23 = .ok (.if_icmp .eq 23, 3) := dk_159 0 23 (dk_at dksX4_touches_1 0 rfl rfl)
theorem dX4_touches_26 : decode cX4_touches 26 = .ok (.aload_n 0, 1) := dk_42 (dk_at dksX4_touches_1 3 rfl rfl)
theorem dX4_touches_27 : decode cX4_touches 27 = .ok (.iload_n 2, 1) := dk_28 (dk_at dksX4_touches_1 4 rfl rfl)
theorem dX4_touches_28 : decode cX4_touches 28 = .ok (.aload_n 0, 1) := dk_42 (dk_at dksX4_touches_1 5 rfl rfl)
theorem dX4_touches_29 : decode cX4_touches 29 = .ok (.getfield 28, 3) := dk_180 0 28 (dk_at dksX4_touches_1 6 rfl rfl)
theorem dX4_touches_32 : decode cX4_touches 32 = .ok (.iconst 3, 1) := dk_6 (dk_at dksX4_touches_1 9 rfl rfl)
theorem dX4_touches_33 : decode cX4_touches 33 = .ok (.iload_n 1, 1) := dk_27 (dk_at dksX4_touches_1 10 rfl rfl)
theorem dX4_touches_34 : decode cX4_touches 34 = .ok (.imul, 1) := dk_104 (dk_at dksX4_touches_1 11 rfl rfl)
theorem dX4_touches_35 : decode cX4_touches 35 = .ok (.iload_n 3, 1) := dk_29 (dk_at dksX4_touches_1 12 rfl rfl)
theorem dX4_touches_36 : decode cX4_touches 36 = .ok (.iadd, 1) := dk_96 (dk_at dksX4_touches_1 13 rfl rfl)
theorem dX4_touches_37 : decode cX4_touches 37 = .ok (.iaload, 1) := dk_46 (dk_at dksX4_touches_1 14 rfl rfl)
theorem dX4_touches_38 : decode cX4_touches 38 = .ok (.invokevirtual 129, 3) := dk_182 0 129 (dk_at dksX4_touches_1 15 rfl rfl)
theorem dX4_touches_41 : decode cX4_touches 41 = .ok (.ifCond .eq 5, 3) := dk_153 0 5 (dk_at dksX4_touches_1 18 rfl rfl)
theorem dX4_touches_44 : decode cX4_touches 44 = .ok (.iconst 1, 1) := dk_4 (dk_at dksX4_touches_1 21 rfl rfl)
theorem dX4_touches_45 : decode cX4_touches 45 = .ok (.ireturn, 1) := dk_172 (dk_at dksX4_touches_1 22 rfl rfl)
theorem dX4_touches_46 : decode cX4_touches 46 = .ok (.iinc 3 1, 3) := dk_132 3 1 (dk_at dksX4_touches_2 0 rfl rfl)
theorem dX4_touches_49 : decode cX4_touches 49 = .ok (.goto (-47), 3) := dk_167 255 209 (dk_at dksX4_touches_2 3 rfl rfl)
theorem dX4_touches_52 : decode cX4_touches 52 = .ok (.iconst 0, 1) := dk_3 (dk_at dksX4_touches_2 6 rfl rfl)
theorem dX4_touches_53 : decode cX4_touches 53 = .ok (.ireturn, 1) := dk_172 (dk_at dksX4_touches_2 7 rfl rfl)
abbrev cX4_isSet : ByteArray := prog_13_method_23_code
def yX4_isSet : MethodName := ⟨RX4, "isSet", "(II)Z"⟩
def dkwX4_isSet_0 : List UInt8 := [27, 28, 122, 4, 126, 4, 160, 0, 7, 4, 167, 0, 4, 3, 172]
abbrev dktX4_isSet_0 : List UInt8 := dkwX4_isSet_0 ++ []
theorem dksX4_isSet_0 : cX4_isSet.data.toList.drop 0 = dktX4_isSet_0 := by decide +kernel
theorem dX4_isSet_0 : decode cX4_isSet 0 = .ok (.iload_n 1, 1) := dk_27 (dk_at dksX4_isSet_0 0 rfl rfl)
theorem dX4_isSet_1 : decode cX4_isSet 1 = .ok (.iload_n 2, 1) := dk_28 (dk_at dksX4_isSet_0 1 rfl rfl)
theorem dX4_isSet_2 : decode cX4_isSet 2 = .ok (.ishr, 1) := dk_122 (dk_at dksX4_isSet_0 2 rfl rfl)
theorem dX4_isSet_3 : decode cX4_isSet 3 = .ok (.iconst 1, 1) := dk_4 (dk_at dksX4_isSet_0 3 rfl rfl)
theorem dX4_isSet_4 : decode cX4_isSet 4 = .ok (.iand, 1) := dk_126 (dk_at dksX4_isSet_0 4 rfl rfl)
theorem dX4_isSet_5 : decode cX4_isSet 5 = .ok (.iconst 1, 1) := dk_4 (dk_at dksX4_isSet_0 5 rfl rfl)
theorem dX4_isSet_6 : decode cX4_isSet 6 = .ok (.if_icmp .ne 7, 3) := dk_160 0 7 (dk_at dksX4_isSet_0 6 rfl rfl)
theorem dX4_isSet_9 : decode cX4_isSet 9 = .ok (.iconst 1, 1) := dk_4 (dk_at dksX4_isSet_0 9 rfl rfl)
theorem dX4_isSet_10 : decode cX4_isSet 10 = .ok (.goto 4, 3) := dk_167 0 4 (dk_at dksX4_isSet_0 10 rfl rfl)
theorem dX4_isSet_13 : decode cX4_isSet 13 = .ok (.iconst 0, 1) := dk_3 (dk_at dksX4_isSet_0 13 rfl rfl)
theorem dX4_isSet_14 : decode cX4_isSet 14 = .ok (.ireturn, 1) := dk_172 (dk_at dksX4_isSet_0 14 rfl rfl)
abbrev cX4_rowOf : ByteArray := prog_13_method_27_code
def yX4_rowOf : MethodName := ⟨RX4, "rowOf", "(II)I"⟩
def dkwX4_rowOf_1 : List UInt8 := [153, 0, 5, 29, 172, 132, 3, 1, 167, 255, 226, 2, 172]
abbrev dktX4_rowOf_1 : List UInt8 := dkwX4_rowOf_1 ++ []
def dkwX4_rowOf_0 : List UInt8 := [3, 62, 29, 42, 180, 0, 13, 42, 180, 0, 22, 27, 46, 46, 162, 0, 21, 42, 27, 29, 28, 182, 0, 135]
abbrev dktX4_rowOf_0 : List UInt8 := dkwX4_rowOf_0 ++ dktX4_rowOf_1
theorem dksX4_rowOf_0 : cX4_rowOf.data.toList.drop 0 = dktX4_rowOf_0 := by decide +kernel
theorem dksX4_rowOf_1 : cX4_rowOf.data.toList.drop 24 = dktX4_rowOf_1 := dk_seg dksX4_rowOf_0 24 rfl rfl
theorem dX4_rowOf_0 : decode cX4_rowOf 0 = .ok (.iconst 0, 1) := dk_3 (dk_at dksX4_rowOf_0 0 rfl rfl)
theorem dX4_rowOf_1 : decode cX4_rowOf 1 = .ok (.istore_n 3, 1) := dk_62 (dk_at dksX4_rowOf_0 1 rfl rfl)
theorem dX4_rowOf_2 : decode cX4_rowOf 2 = .ok (.iload_n 3, 1) := dk_29 (dk_at dksX4_rowOf_0 2 rfl rfl)
theorem dX4_rowOf_3 : decode cX4_rowOf 3 = .ok (.aload_n 0, 1) := dk_42 (dk_at dksX4_rowOf_0 3 rfl rfl)
theorem dX4_rowOf_4 : decode cX4_rowOf 4 = .ok (.getfield 13, 3) := dk_180 0 13 (dk_at dksX4_rowOf_0 4 rfl rfl)
theorem dX4_rowOf_7 : decode cX4_rowOf 7 = .ok (.aload_n 0, 1) := dk_42 (dk_at dksX4_rowOf_0 7 rfl rfl)
theorem dX4_rowOf_8 : decode cX4_rowOf 8 = .ok (.getfield 22, 3) := dk_180 0 22 (dk_at dksX4_rowOf_0 8 rfl rfl)
theorem dX4_rowOf_11 : decode cX4_rowOf 11 = .ok (.iload_n 1, 1) := dk_27 (dk_at dksX4_rowOf_0 11 rfl rfl)
theorem dX4_rowOf_12 : decode cX4_rowOf 12 = .ok (.iaload, 1) := dk_46 (dk_at dksX4_rowOf_0 12 rfl rfl)
theorem dX4_rowOf_13 : decode cX4_rowOf 13 = .ok (.iaload, 1) := dk_46 (dk_at dksX4_rowOf_0 13 rfl rfl)
theorem dX4_rowOf_14 : decode cX4_rowOf 14 = .ok (.if_icmp .ge 21, 3) := dk_162 0 21 (dk_at dksX4_rowOf_0 14 rfl rfl)
theorem dX4_rowOf_17 : decode cX4_rowOf 17 = .ok (.aload_n 0, 1) := dk_42 (dk_at dksX4_rowOf_0 17 rfl rfl)
theorem dX4_rowOf_18 : decode cX4_rowOf 18 = .ok (.iload_n 1, 1) := dk_27 (dk_at dksX4_rowOf_0 18 rfl rfl)
theorem dX4_rowOf_19 : decode cX4_rowOf 19 = .ok (.iload_n 3, 1) := dk_29 (dk_at dksX4_rowOf_0 19 rfl rfl)
theorem dX4_rowOf_20 : decode cX4_rowOf 20 = .ok (.iload_n 2, 1) := dk_28 (dk_at dksX4_rowOf_0 20 rfl rfl)
theorem dX4_rowOf_21 : decode cX4_rowOf 21 = .ok (.invokevirtual 135, 3) := dk_182 0 135 (dk_at dksX4_rowOf_0 21 rfl rfl)
theorem dX4_rowOf_24 : decode cX4_rowOf 24 = .ok (.ifCond .eq 5, 3) := dk_153 0 5 (dk_at dksX4_rowOf_1 0 rfl rfl)
theorem dX4_rowOf_27 : decode cX4_rowOf 27 = .ok (.iload_n 3, 1) := dk_29 (dk_at dksX4_rowOf_1 3 rfl rfl)
theorem dX4_rowOf_28 : decode cX4_rowOf 28 = .ok (.ireturn, 1) := dk_172 (dk_at dksX4_rowOf_1 4 rfl rfl)
theorem dX4_rowOf_29 : decode cX4_rowOf 29 = .ok (.iinc 3 1, 3) := dk_132 3 1 (dk_at dksX4_rowOf_1 5 rfl rfl)
theorem dX4_rowOf_32 : decode cX4_rowOf 32 = .ok (.goto (-30), 3) := dk_167 255 226 (dk_at dksX4_rowOf_1 8 rfl rfl)
theorem dX4_rowOf_35 : decode cX4_rowOf 35 = .ok (.iconst (-1), 1) := dk_2 (dk_at dksX4_rowOf_1 11 rfl rfl)
theorem dX4_rowOf_36 : decode cX4_rowOf 36 = .ok (.ireturn, 1) := dk_172 (dk_at dksX4_rowOf_1 12 rfl rfl)
abbrev cX4_agrees : ByteArray := prog_13_method_26_code
def yX4_agrees : MethodName := ⟨RX4, "agrees", "(III)Z"⟩
def dkwX4_agrees_5 : List UInt8 := [159, 0, 5, 3, 172, 132, 7, 1, 167, 255, 204, 132, 4, 1, 167, 255, 126, 4, 172]
abbrev dktX4_agrees_5 : List UInt8 := dkwX4_agrees_5 ++ []
def dkwX4_agrees_4 : List UInt8 := [21, 7, 96, 46, 21, 5, 160, 0, 23, 42, 42, 180, 0, 22, 27, 46, 28, 21, 7, 182, 0, 95, 21, 6]
abbrev dktX4_agrees_4 : List UInt8 := dkwX4_agrees_4 ++ dktX4_agrees_5
def dkwX4_agrees_3 : List UInt8 := [3, 54, 7, 21, 7, 21, 4, 162, 0, 51, 21, 5, 2, 159, 0, 39, 42, 180, 0, 28, 6, 27, 104]
abbrev dktX4_agrees_3 : List UInt8 := dkwX4_agrees_3 ++ dktX4_agrees_4
def dkwX4_agrees_2 : List UInt8 := [42, 29, 21, 5, 182, 0, 129, 153, 0, 17, 21, 6, 42, 27, 21, 4, 182, 0, 132, 159, 0, 5, 3, 172]
abbrev dktX4_agrees_2 : List UInt8 := dkwX4_agrees_2 ++ dktX4_agrees_3
def dkwX4_agrees_1 : List UInt8 := [46, 54, 5, 42, 42, 180, 0, 22, 27, 46, 28, 21, 4, 182, 0, 95, 54, 6, 21, 5, 2, 159, 0, 13]
abbrev dktX4_agrees_1 : List UInt8 := dkwX4_agrees_1 ++ dktX4_agrees_2
def dkwX4_agrees_0 : List UInt8 := [3, 54, 4, 21, 4, 42, 180, 0, 25, 27, 46, 162, 0, 125, 42, 180, 0, 28, 6, 27, 104, 21, 4, 96]
abbrev dktX4_agrees_0 : List UInt8 := dkwX4_agrees_0 ++ dktX4_agrees_1
theorem dksX4_agrees_0 : cX4_agrees.data.toList.drop 0 = dktX4_agrees_0 := by decide +kernel
theorem dksX4_agrees_1 : cX4_agrees.data.toList.drop 24 = dktX4_agrees_1 := dk_seg dksX4_agrees_0 24 rfl rfl
theorem dksX4_agrees_2 : cX4_agrees.data.toList.drop 48 = dktX4_agrees_2 := dk_seg dksX4_agrees_1 24 rfl rfl
theorem dksX4_agrees_3 : cX4_agrees.data.toList.drop 72 = dktX4_agrees_3 := dk_seg dksX4_agrees_2 24 rfl rfl
theorem dksX4_agrees_4 : cX4_agrees.data.toList.drop 95 = dktX4_agrees_4 := dk_seg dksX4_agrees_3 23 rfl rfl
theorem dksX4_agrees_5 : cX4_agrees.data.toList.drop 119 = dktX4_agrees_5 := dk_seg dksX4_agrees_4 24 rfl rfl
theorem dX4_agrees_0 : decode cX4_agrees 0 = .ok (.iconst 0, 1) := dk_3 (dk_at dksX4_agrees_0 0 rfl rfl)
theorem dX4_agrees_1 : decode cX4_agrees 1 = .ok (.istore 4, 2) := dk_54 4 (dk_at dksX4_agrees_0 1 rfl rfl)
theorem dX4_agrees_3 : decode cX4_agrees 3 = .ok (.iload 4, 2) := dk_21 4 (dk_at dksX4_agrees_0 3 rfl rfl)
theorem dX4_agrees_5 : decode cX4_agrees 5 = .ok (.aload_n 0, 1) := dk_42 (dk_at dksX4_agrees_0 5 rfl rfl)
theorem dX4_agrees_6 : decode cX4_agrees 6 = .ok (.getfield 25, 3) := dk_180 0 25 (dk_at dksX4_agrees_0 6 rfl rfl)
theorem dX4_agrees_9 : decode cX4_agrees 9 = .ok (.iload_n 1, 1) := dk_27 (dk_at dksX4_agrees_0 9 rfl rfl)
theorem dX4_agrees_10 : decode cX4_agrees 10 = .ok (.iaload, 1) := dk_46 (dk_at dksX4_agrees_0 10 rfl rfl)
theorem dX4_agrees_11 : decode cX4_agrees 11 = .ok (.if_icmp .ge 125, 3) := dk_162 0 125 (dk_at dksX4_agrees_0 11 rfl rfl)
theorem dX4_agrees_14 : decode cX4_agrees 14 = .ok (.aload_n 0, 1) := dk_42 (dk_at dksX4_agrees_0 14 rfl rfl)
theorem dX4_agrees_15 : decode cX4_agrees 15 = .ok (.getfield 28, 3) := dk_180 0 28 (dk_at dksX4_agrees_0 15 rfl rfl)
theorem dX4_agrees_18 : decode cX4_agrees 18 = .ok (.iconst 3, 1) := dk_6 (dk_at dksX4_agrees_0 18 rfl rfl)
theorem dX4_agrees_19 : decode cX4_agrees 19 = .ok (.iload_n 1, 1) := dk_27 (dk_at dksX4_agrees_0 19 rfl rfl)
theorem dX4_agrees_20 : decode cX4_agrees 20 = .ok (.imul, 1) := dk_104 (dk_at dksX4_agrees_0 20 rfl rfl)
theorem dX4_agrees_21 : decode cX4_agrees 21 = .ok (.iload 4, 2) := dk_21 4 (dk_at dksX4_agrees_0 21 rfl rfl)
theorem dX4_agrees_23 : decode cX4_agrees 23 = .ok (.iadd, 1) := dk_96 (dk_at dksX4_agrees_0 23 rfl rfl)
theorem dX4_agrees_24 : decode cX4_agrees 24 = .ok (.iaload, 1) := dk_46 (dk_at dksX4_agrees_1 0 rfl rfl)
theorem dX4_agrees_25 : decode cX4_agrees 25 = .ok (.istore 5, 2) := dk_54 5 (dk_at dksX4_agrees_1 1 rfl rfl)
theorem dX4_agrees_27 : decode cX4_agrees 27 = .ok (.aload_n 0, 1) := dk_42 (dk_at dksX4_agrees_1 3 rfl rfl)
theorem dX4_agrees_28 : decode cX4_agrees 28 = .ok (.aload_n 0, 1) := dk_42 (dk_at dksX4_agrees_1 4 rfl rfl)
theorem dX4_agrees_29 : decode cX4_agrees 29 = .ok (.getfield 22, 3) := dk_180 0 22 (dk_at dksX4_agrees_1 5 rfl rfl)
theorem dX4_agrees_32 : decode cX4_agrees 32 = .ok (.iload_n 1, 1) := dk_27 (dk_at dksX4_agrees_1 8 rfl rfl)
theorem dX4_agrees_33 : decode cX4_agrees 33 = .ok (.iaload, 1) := dk_46 (dk_at dksX4_agrees_1 9 rfl rfl)
theorem dX4_agrees_34 : decode cX4_agrees 34 = .ok (.iload_n 2, 1) := dk_28 (dk_at dksX4_agrees_1 10 rfl rfl)
theorem dX4_agrees_35 : decode cX4_agrees 35 = .ok (.iload 4, 2) := dk_21 4 (dk_at dksX4_agrees_1 11 rfl rfl)
theorem dX4_agrees_37 : decode cX4_agrees 37 = .ok (.invokevirtual 95, 3) := dk_182 0 95 (dk_at dksX4_agrees_1 13 rfl rfl)
theorem dX4_agrees_40 : decode cX4_agrees 40 = .ok (.istore 6, 2) := dk_54 6 (dk_at dksX4_agrees_1 16 rfl rfl)
theorem dX4_agrees_42 : decode cX4_agrees 42 = .ok (.iload 5, 2) := dk_21 5 (dk_at dksX4_agrees_1 18 rfl rfl)
theorem dX4_agrees_44 : decode cX4_agrees 44 = .ok (.iconst (-1), 1) := dk_2 (dk_at dksX4_agrees_1 20 rfl rfl)
theorem dX4_agrees_45 : decode cX4_agrees 45 = .ok (.if_icmp .eq 13, 3) := dk_159 0 13 (dk_at dksX4_agrees_1 21 rfl rfl)
theorem dX4_agrees_48 : decode cX4_agrees 48 = .ok (.aload_n 0, 1) := dk_42 (dk_at dksX4_agrees_2 0 rfl rfl)
theorem dX4_agrees_49 : decode cX4_agrees 49 = .ok (.iload_n 3, 1) := dk_29 (dk_at dksX4_agrees_2 1 rfl rfl)
theorem dX4_agrees_50 : decode cX4_agrees 50 = .ok (.iload 5, 2) := dk_21 5 (dk_at dksX4_agrees_2 2 rfl rfl)
theorem dX4_agrees_52 : decode cX4_agrees 52 = .ok (.invokevirtual 129, 3) := dk_182 0 129 (dk_at dksX4_agrees_2 4 rfl rfl)
theorem dX4_agrees_55 : decode cX4_agrees 55 = .ok (.ifCond .eq 17, 3) := dk_153 0 17 (dk_at dksX4_agrees_2 7 rfl rfl)
theorem dX4_agrees_58 : decode cX4_agrees 58 = .ok (.iload 6, 2) := dk_21 6 (dk_at dksX4_agrees_2 10 rfl rfl)
theorem dX4_agrees_60 : decode cX4_agrees 60 = .ok (.aload_n 0, 1) := dk_42 (dk_at dksX4_agrees_2 12 rfl rfl)
theorem dX4_agrees_61 : decode cX4_agrees 61 = .ok (.iload_n 1, 1) := dk_27 (dk_at dksX4_agrees_2 13 rfl rfl)
theorem dX4_agrees_62 : decode cX4_agrees 62 = .ok (.iload 4, 2) := dk_21 4 (dk_at dksX4_agrees_2 14 rfl rfl)
theorem dX4_agrees_64 : decode cX4_agrees 64 = .ok (.invokevirtual 132, 3) := dk_182 0 132 (dk_at dksX4_agrees_2 16 rfl rfl)
theorem dX4_agrees_67 : decode cX4_agrees 67 = .ok (.if_icmp .eq 5, 3) := dk_159 0 5 (dk_at dksX4_agrees_2 19 rfl rfl)
theorem dX4_agrees_70 : decode cX4_agrees 70 = .ok (.iconst 0, 1) := dk_3 (dk_at dksX4_agrees_2 22 rfl rfl)
theorem dX4_agrees_71 : decode cX4_agrees 71 = .ok (.ireturn, 1) := dk_172 (dk_at dksX4_agrees_2 23 rfl rfl)
theorem dX4_agrees_72 : decode cX4_agrees 72 = .ok (.iconst 0, 1) := dk_3 (dk_at dksX4_agrees_3 0 rfl rfl)
theorem dX4_agrees_73 : decode cX4_agrees 73 = .ok (.istore 7, 2) := dk_54 7 (dk_at dksX4_agrees_3 1 rfl rfl)
theorem dX4_agrees_75 : decode cX4_agrees 75 = .ok (.iload 7, 2) := dk_21 7 (dk_at dksX4_agrees_3 3 rfl rfl)
theorem dX4_agrees_77 : decode cX4_agrees 77 = .ok (.iload 4, 2) := dk_21 4 (dk_at dksX4_agrees_3 5 rfl rfl)
theorem dX4_agrees_79 : decode cX4_agrees 79 = .ok (.if_icmp .ge 51, 3) := dk_162 0 51 (dk_at dksX4_agrees_3 7 rfl rfl)
theorem dX4_agrees_82 : decode cX4_agrees 82 = .ok (.iload 5, 2) := dk_21 5 (dk_at dksX4_agrees_3 10 rfl rfl)
theorem dX4_agrees_84 : decode cX4_agrees 84 = .ok (.iconst (-1), 1) := dk_2 (dk_at dksX4_agrees_3 12 rfl rfl)
theorem dX4_agrees_85 : decode cX4_agrees 85 = .ok (.if_icmp .eq 39, 3) := dk_159 0 39 (dk_at dksX4_agrees_3 13 rfl rfl)
theorem dX4_agrees_88 : decode cX4_agrees 88 = .ok (.aload_n 0, 1) := dk_42 (dk_at dksX4_agrees_3 16 rfl rfl)
theorem dX4_agrees_89 : decode cX4_agrees 89 = .ok (.getfield 28, 3) := dk_180 0 28 (dk_at dksX4_agrees_3 17 rfl rfl)
theorem dX4_agrees_92 : decode cX4_agrees 92 = .ok (.iconst 3, 1) := dk_6 (dk_at dksX4_agrees_3 20 rfl rfl)
theorem dX4_agrees_93 : decode cX4_agrees 93 = .ok (.iload_n 1, 1) := dk_27 (dk_at dksX4_agrees_3 21 rfl rfl)
theorem dX4_agrees_94 : decode cX4_agrees 94 = .ok (.imul, 1) := dk_104 (dk_at dksX4_agrees_3 22 rfl rfl)
theorem dX4_agrees_95 : decode cX4_agrees 95 = .ok (.iload 7, 2) := dk_21 7 (dk_at dksX4_agrees_4 0 rfl rfl)
theorem dX4_agrees_97 : decode cX4_agrees 97 = .ok (.iadd, 1) := dk_96 (dk_at dksX4_agrees_4 2 rfl rfl)
theorem dX4_agrees_98 : decode cX4_agrees 98 = .ok (.iaload, 1) := dk_46 (dk_at dksX4_agrees_4 3 rfl rfl)
theorem dX4_agrees_99 : decode cX4_agrees 99 = .ok (.iload 5, 2) := dk_21 5 (dk_at dksX4_agrees_4 4 rfl rfl)
theorem dX4_agrees_101 : decode cX4_agrees 101 = .ok (.if_icmp .ne 23, 3) := dk_160 0 23 (dk_at dksX4_agrees_4 6 rfl rfl)
theorem dX4_agrees_104 : decode cX4_agrees 104 = .ok (.aload_n 0, 1) := dk_42 (dk_at dksX4_agrees_4 9 rfl rfl)
theorem dX4_agrees_105 : decode cX4_agrees 105 = .ok (.aload_n 0, 1) := dk_42 (dk_at dksX4_agrees_4 10 rfl rfl)
theorem dX4_agrees_106 : decode cX4_agrees 106 = .ok (.getfield 22, 3) := dk_180 0 22 (dk_at dksX4_agrees_4 11 rfl rfl)
theorem dX4_agrees_109 : decode cX4_agrees 109 = .ok (.iload_n 1, 1) := dk_27 (dk_at dksX4_agrees_4 14 rfl rfl)
theorem dX4_agrees_110 : decode cX4_agrees 110 = .ok (.iaload, 1) := dk_46 (dk_at dksX4_agrees_4 15 rfl rfl)
theorem dX4_agrees_111 : decode cX4_agrees 111 = .ok (.iload_n 2, 1) := dk_28 (dk_at dksX4_agrees_4 16 rfl rfl)
theorem dX4_agrees_112 : decode cX4_agrees 112 = .ok (.iload 7, 2) := dk_21 7 (dk_at dksX4_agrees_4 17 rfl rfl)
theorem dX4_agrees_114 : decode cX4_agrees 114 = .ok (.invokevirtual 95, 3) := dk_182 0 95 (dk_at dksX4_agrees_4 19 rfl rfl)
theorem dX4_agrees_117 : decode cX4_agrees 117 = .ok (.iload 6, 2) := dk_21 6 (dk_at dksX4_agrees_4 22 rfl rfl)
theorem dX4_agrees_119 : decode cX4_agrees 119 = .ok (.if_icmp .eq 5, 3) := dk_159 0 5 (dk_at dksX4_agrees_5 0 rfl rfl)
theorem dX4_agrees_122 : decode cX4_agrees 122 = .ok (.iconst 0, 1) := dk_3 (dk_at dksX4_agrees_5 3 rfl rfl)
theorem dX4_agrees_123 : decode cX4_agrees 123 = .ok (.ireturn, 1) := dk_172 (dk_at dksX4_agrees_5 4 rfl rfl)
theorem dX4_agrees_124 : decode cX4_agrees 124 = .ok (.iinc 7 1, 3) := dk_132 7 1 (dk_at dksX4_agrees_5 5 rfl rfl)
theorem dX4_agrees_127 : decode cX4_agrees 127 = .ok (.goto (-52), 3) := dk_167 255 204 (dk_at dksX4_agrees_5 8 rfl rfl)
theorem dX4_agrees_130 : decode cX4_agrees 130 = .ok (.iinc 4 1, 3) := dk_132 4 1 (dk_at dksX4_agrees_5 11 rfl rfl)
theorem dX4_agrees_133 : decode cX4_agrees 133 = .ok (.goto (-130), 3) := dk_167 255 126 (dk_at dksX4_agrees_5 14 rfl rfl)
theorem dX4_agrees_136 : decode cX4_agrees 136 = .ok (.iconst 1, 1) := dk_4 (dk_at dksX4_agrees_5 17 rfl rfl)
theorem dX4_agrees_137 : decode cX4_agrees 137 = .ok (.ireturn, 1) := dk_172 (dk_at dksX4_agrees_5 18 rfl rfl)
abbrev cX4_told : ByteArray := prog_13_method_25_code
def yX4_told : MethodName := ⟨RX4, "told", "(II)I"⟩
def dkwX4_told_1 : List UInt8 := [167, 0, 18, 42, 180, 0, 69, 42, 180, 0, 28, 6, 27, 104, 28, 96, 46, 46, 172]
abbrev dktX4_told_1 : List UInt8 := dkwX4_told_1 ++ []
def dkwX4_told_0 : List UInt8 := [42, 180, 0, 28, 6, 27, 104, 28, 96, 46, 2, 160, 0, 16, 42, 180, 0, 31, 6, 27, 104, 28, 96, 46]
abbrev dktX4_told_0 : List UInt8 := dkwX4_told_0 ++ dktX4_told_1
theorem dksX4_told_0 : cX4_told.data.toList.drop 0 = dktX4_told_0 := by decide +kernel
theorem dksX4_told_1 : cX4_told.data.toList.drop 24 = dktX4_told_1 := dk_seg dksX4_told_0 24 rfl rfl
theorem dX4_told_0 : decode cX4_told 0 = .ok (.aload_n 0, 1) := dk_42 (dk_at dksX4_told_0 0 rfl rfl)
theorem dX4_told_1 : decode cX4_told 1 = .ok (.getfield 28, 3) := dk_180 0 28 (dk_at dksX4_told_0 1 rfl rfl)
theorem dX4_told_4 : decode cX4_told 4 = .ok (.iconst 3, 1) := dk_6 (dk_at dksX4_told_0 4 rfl rfl)
theorem dX4_told_5 : decode cX4_told 5 = .ok (.iload_n 1, 1) := dk_27 (dk_at dksX4_told_0 5 rfl rfl)
theorem dX4_told_6 : decode cX4_told 6 = .ok (.imul, 1) := dk_104 (dk_at dksX4_told_0 6 rfl rfl)
theorem dX4_told_7 : decode cX4_told 7 = .ok (.iload_n 2, 1) := dk_28 (dk_at dksX4_told_0 7 rfl rfl)
theorem dX4_told_8 : decode cX4_told 8 = .ok (.iadd, 1) := dk_96 (dk_at dksX4_told_0 8 rfl rfl)
theorem dX4_told_9 : decode cX4_told 9 = .ok (.iaload, 1) := dk_46 (dk_at dksX4_told_0 9 rfl rfl)
theorem dX4_told_10 : decode cX4_told 10 = .ok (.iconst (-1), 1) := dk_2 (dk_at dksX4_told_0 10 rfl rfl)
theorem dX4_told_11 : decode cX4_told 11 = .ok (.if_icmp .ne 16, 3) := dk_160 0 16 (dk_at dksX4_told_0 11 rfl rfl)
theorem dX4_told_14 : decode cX4_told 14 = .ok (.aload_n 0, 1) := dk_42 (dk_at dksX4_told_0 14 rfl rfl)
theorem dX4_told_15 : decode cX4_told 15 = .ok (.getfield 31, 3) := dk_180 0 31 (dk_at dksX4_told_0 15 rfl rfl)
theorem dX4_told_18 : decode cX4_told 18 = .ok (.iconst 3, 1) := dk_6 (dk_at dksX4_told_0 18 rfl rfl)
theorem dX4_told_19 : decode cX4_told 19 = .ok (.iload_n 1, 1) := dk_27 (dk_at dksX4_told_0 19 rfl rfl)
theorem dX4_told_20 : decode cX4_told 20 = .ok (.imul, 1) := dk_104 (dk_at dksX4_told_0 20 rfl rfl)
theorem dX4_told_21 : decode cX4_told 21 = .ok (.iload_n 2, 1) := dk_28 (dk_at dksX4_told_0 21 rfl rfl)
theorem dX4_told_22 : decode cX4_told 22 = .ok (.iadd, 1) := dk_96 (dk_at dksX4_told_0 22 rfl rfl)
theorem dX4_told_23 : decode cX4_told 23 = .ok (.iaload, 1) := dk_46 (dk_at dksX4_told_0 23 rfl rfl)
theorem dX4_told_24 : decode cX4_told 24 = .ok (.goto 18, 3) := dk_167 0 18 (dk_at dksX4_told_1 0 rfl rfl)
theorem dX4_told_27 : decode cX4_told 27 = .ok (.aload_n 0, 1) := dk_42 (dk_at dksX4_told_1 3 rfl rfl)
theorem dX4_told_28 : decode cX4_told 28 = .ok (.getfield 69, 3) := dk_180 0 69 (dk_at dksX4_told_1 4 rfl rfl)
theorem dX4_told_31 : decode cX4_told 31 = .ok (.aload_n 0, 1) := dk_42 (dk_at dksX4_told_1 7 rfl rfl)
theorem dX4_told_32 : decode cX4_told 32 = .ok (.getfield 28, 3) := dk_180 0 28 (dk_at dksX4_told_1 8 rfl rfl)
theorem dX4_told_35 : decode cX4_told 35 = .ok (.iconst 3, 1) := dk_6 (dk_at dksX4_told_1 11 rfl rfl)
theorem dX4_told_36 : decode cX4_told 36 = .ok (.iload_n 1, 1) := dk_27 (dk_at dksX4_told_1 12 rfl rfl)
theorem dX4_told_37 : decode cX4_told 37 = .ok (.imul, 1) := dk_104 (dk_at dksX4_told_1 13 rfl rfl)
theorem dX4_told_38 : decode cX4_told 38 = .ok (.iload_n 2, 1) := dk_28 (dk_at dksX4_told_1 14 rfl rfl)
theorem dX4_told_39 : decode cX4_told 39 = .ok (.iadd, 1) := dk_96 (dk_at dksX4_told_1 15 rfl rfl)
theorem dX4_told_40 : decode cX4_told 40 = .ok (.iaload, 1) := dk_46 (dk_at dksX4_told_1 16 rfl rfl)
theorem dX4_told_41 : decode cX4_told 41 = .ok (.iaload, 1) := dk_46 (dk_at dksX4_told_1 17 rfl rfl)
theorem dX4_told_42 : decode cX4_told 42 = .ok (.ireturn, 1) := dk_172 (dk_at dksX4_told_1 18 rfl rfl)
abbrev cX4_isWhole : ByteArray := prog_13_method_24_code
def yX4_isWhole : MethodName := ⟨RX4, "isWhole", "(II)Z"⟩
def dkwX4_isWhole_2 : List UInt8 := [132, 3, 1, 167, 255, 209, 4, 172]
abbrev dktX4_isWhole_2 : List UInt8 := dkwX4_isWhole_2 ++ []
def dkwX4_isWhole_1 : List UInt8 := [159, 0, 23, 42, 28, 42, 180, 0, 28, 6, 27, 104, 29, 96, 46, 182, 0, 129, 154, 0, 5, 3, 172]
abbrev dktX4_isWhole_1 : List UInt8 := dkwX4_isWhole_1 ++ dktX4_isWhole_2
def dkwX4_isWhole_0 : List UInt8 := [3, 62, 29, 42, 180, 0, 25, 27, 46, 162, 0, 43, 42, 180, 0, 28, 6, 27, 104, 29, 96, 46, 2]
abbrev dktX4_isWhole_0 : List UInt8 := dkwX4_isWhole_0 ++ dktX4_isWhole_1
theorem dksX4_isWhole_0 : cX4_isWhole.data.toList.drop 0 = dktX4_isWhole_0 := by decide +kernel
theorem dksX4_isWhole_1 : cX4_isWhole.data.toList.drop 23 = dktX4_isWhole_1 := dk_seg dksX4_isWhole_0 23 rfl rfl
theorem dksX4_isWhole_2 : cX4_isWhole.data.toList.drop 46 = dktX4_isWhole_2 := dk_seg dksX4_isWhole_1 23 rfl rfl
theorem dX4_isWhole_0 : decode cX4_isWhole 0 = .ok (.iconst 0, 1) := dk_3 (dk_at dksX4_isWhole_0 0 rfl rfl)
theorem dX4_isWhole_1 : decode cX4_isWhole 1 = .ok (.istore_n 3, 1) := dk_62 (dk_at dksX4_isWhole_0 1 rfl rfl)
theorem dX4_isWhole_2 : decode cX4_isWhole 2 = .ok (.iload_n 3, 1) := dk_29 (dk_at dksX4_isWhole_0 2 rfl rfl)
theorem dX4_isWhole_3 : decode cX4_isWhole 3 = .ok (.aload_n 0, 1) := dk_42 (dk_at dksX4_isWhole_0 3 rfl rfl)
theorem dX4_isWhole_4 : decode cX4_isWhole 4 = .ok (.getfield 25, 3) := dk_180 0 25 (dk_at dksX4_isWhole_0 4 rfl rfl)
theorem dX4_isWhole_7 : decode cX4_isWhole 7 = .ok (.iload_n 1, 1) := dk_27 (dk_at dksX4_isWhole_0 7 rfl rfl)
theorem dX4_isWhole_8 : decode cX4_isWhole 8 = .ok (.iaload, 1) := dk_46 (dk_at dksX4_isWhole_0 8 rfl rfl)
theorem dX4_isWhole_9 : decode cX4_isWhole 9 = .ok (.if_icmp .ge 43, 3) := dk_162 0 43 (dk_at dksX4_isWhole_0 9 rfl rfl)
theorem dX4_isWhole_12 : decode cX4_isWhole 12 = .ok (.aload_n 0, 1) := dk_42 (dk_at dksX4_isWhole_0 12 rfl rfl)
theorem dX4_isWhole_13 : decode cX4_isWhole 13 = .ok (.getfield 28, 3) := dk_180 0 28 (dk_at dksX4_isWhole_0 13 rfl rfl)
theorem dX4_isWhole_16 : decode cX4_isWhole 16 = .ok (.iconst 3, 1) := dk_6 (dk_at dksX4_isWhole_0 16 rfl rfl)
theorem dX4_isWhole_17 : decode cX4_isWhole 17 = .ok (.iload_n 1, 1) := dk_27 (dk_at dksX4_isWhole_0 17 rfl rfl)
theorem dX4_isWhole_18 : decode cX4_isWhole 18 = .ok (.imul, 1) := dk_104 (dk_at dksX4_isWhole_0 18 rfl rfl)
theorem dX4_isWhole_19 : decode cX4_isWhole 19 = .ok (.iload_n 3, 1) := dk_29 (dk_at dksX4_isWhole_0 19 rfl rfl)
theorem dX4_isWhole_20 : decode cX4_isWhole 20 = .ok (.iadd, 1) := dk_96 (dk_at dksX4_isWhole_0 20 rfl rfl)
theorem dX4_isWhole_21 : decode cX4_isWhole 21 = .ok (.iaload, 1) := dk_46 (dk_at dksX4_isWhole_0 21 rfl rfl)
theorem dX4_isWhole_22 : decode cX4_isWhole 22 = .ok (.iconst (-1), 1) := dk_2 (dk_at dksX4_isWhole_0 22 rfl rfl)
theorem dX4_isWhole_23 : decode cX4_isWhole 23 = .ok (.if_icmp .eq 23, 3) := dk_159 0 23 (dk_at dksX4_isWhole_1 0 rfl rfl)
theorem dX4_isWhole_26 : decode cX4_isWhole 26 = .ok (.aload_n 0, 1) := dk_42 (dk_at dksX4_isWhole_1 3 rfl rfl)
theorem dX4_isWhole_27 : decode cX4_isWhole 27 = .ok (.iload_n 2, 1) := dk_28 (dk_at dksX4_isWhole_1 4 rfl rfl)
theorem dX4_isWhole_28 : decode cX4_isWhole 28 = .ok (.aload_n 0, 1) := dk_42 (dk_at dksX4_isWhole_1 5 rfl rfl)
theorem dX4_isWhole_29 : decode cX4_isWhole 29 = .ok (.getfield 28, 3) := dk_180 0 28 (dk_at dksX4_isWhole_1 6 rfl rfl)
theorem dX4_isWhole_32 : decode cX4_isWhole 32 = .ok (.iconst 3, 1) := dk_6 (dk_at dksX4_isWhole_1 9 rfl rfl)
theorem dX4_isWhole_33 : decode cX4_isWhole 33 = .ok (.iload_n 1, 1) := dk_27 (dk_at dksX4_isWhole_1 10 rfl rfl)
theorem dX4_isWhole_34 : decode cX4_isWhole 34 = .ok (.imul, 1) := dk_104 (dk_at dksX4_isWhole_1 11 rfl rfl)
theorem dX4_isWhole_35 : decode cX4_isWhole 35 = .ok (.iload_n 3, 1) := dk_29 (dk_at dksX4_isWhole_1 12 rfl rfl)
theorem dX4_isWhole_36 : decode cX4_isWhole 36 = .ok (.iadd, 1) := dk_96 (dk_at dksX4_isWhole_1 13 rfl rfl)
theorem dX4_isWhole_37 : decode cX4_isWhole 37 = .ok (.iaload, 1) := dk_46 (dk_at dksX4_isWhole_1 14 rfl rfl)
theorem dX4_isWhole_38 : decode cX4_isWhole 38 = .ok (.invokevirtual 129, 3) := dk_182 0 129 (dk_at dksX4_isWhole_1 15 rfl rfl)
theorem dX4_isWhole_41 : decode cX4_isWhole 41 = .ok (.ifCond .ne 5, 3) := dk_154 0 5 (dk_at dksX4_isWhole_1 18 rfl rfl)
theorem dX4_isWhole_44 : decode cX4_isWhole 44 = .ok (.iconst 0, 1) := dk_3 (dk_at dksX4_isWhole_1 21 rfl rfl)
theorem dX4_isWhole_45 : decode cX4_isWhole 45 = .ok (.ireturn, 1) := dk_172 (dk_at dksX4_isWhole_1 22 rfl rfl)
theorem dX4_isWhole_46 : decode cX4_isWhole 46 = .ok (.iinc 3 1, 3) := dk_132 3 1 (dk_at dksX4_isWhole_2 0 rfl rfl)
theorem dX4_isWhole_49 : decode cX4_isWhole 49 = .ok (.goto (-47), 3) := dk_167 255 209 (dk_at dksX4_isWhole_2 3 rfl rfl)
theorem dX4_isWhole_52 : decode cX4_isWhole 52 = .ok (.iconst 1, 1) := dk_4 (dk_at dksX4_isWhole_2 6 rfl rfl)
theorem dX4_isWhole_53 : decode cX4_isWhole 53 = .ok (.ireturn, 1) := dk_172 (dk_at dksX4_isWhole_2 7 rfl rfl)
abbrev cX4_against_2 : ByteArray := prog_13_method_34_code
def yX4_against_2 : MethodName := ⟨RX4, "against", "([II[III)I"⟩
def dkwX4_against_2_2 : List UInt8 := [172]
abbrev dktX4_against_2_2 : List UInt8 := dkwX4_against_2_2 ++ []
def dkwX4_against_2_1 : List UInt8 := [21, 5, 96, 46, 184, 0, 99, 54, 6, 21, 6, 153, 0, 6, 21, 6, 172, 132, 5, 1, 167, 255, 215, 3]
abbrev dktX4_against_2_1 : List UInt8 := dkwX4_against_2_1 ++ dktX4_against_2_2
def dkwX4_against_2_0 : List UInt8 := [3, 54, 5, 21, 5, 21, 4, 162, 0, 40, 42, 16, 6, 27, 104, 21, 5, 96, 46, 44, 16, 6, 29, 104]
abbrev dktX4_against_2_0 : List UInt8 := dkwX4_against_2_0 ++ dktX4_against_2_1
theorem dksX4_against_2_0 : cX4_against_2.data.toList.drop 0 = dktX4_against_2_0 := by decide +kernel
theorem dksX4_against_2_1 : cX4_against_2.data.toList.drop 24 = dktX4_against_2_1 := dk_seg dksX4_against_2_0 24 rfl rfl
theorem dksX4_against_2_2 : cX4_against_2.data.toList.drop 48 = dktX4_against_2_2 := dk_seg dksX4_against_2_1 24 rfl rfl
theorem dX4_against_2_0 : decode cX4_against_2 0 = .ok (.iconst 0, 1) := dk_3 (dk_at dksX4_against_2_0 0 rfl rfl)
theorem dX4_against_2_1 : decode cX4_against_2 1 = .ok (.istore 5, 2) := dk_54 5 (dk_at dksX4_against_2_0 1 rfl rfl)
theorem dX4_against_2_3 : decode cX4_against_2 3 = .ok (.iload 5, 2) := dk_21 5 (dk_at dksX4_against_2_0 3 rfl rfl)
theorem dX4_against_2_5 : decode cX4_against_2 5 = .ok (.iload 4, 2) := dk_21 4 (dk_at dksX4_against_2_0 5 rfl rfl)
theorem dX4_against_2_7 : decode cX4_against_2 7 = .ok (.if_icmp .ge 40, 3) := dk_162 0 40 (dk_at dksX4_against_2_0 7 rfl rfl)
theorem dX4_against_2_10 : decode cX4_against_2 10 = .ok (.aload_n 0, 1) := dk_42 (dk_at dksX4_against_2_0 10 rfl rfl)
theorem dX4_against_2_11 : decode cX4_against_2 11 = .ok (.bipush 6, 2) := dk_16 6 (dk_at dksX4_against_2_0 11 rfl rfl)
theorem dX4_against_2_13 : decode cX4_against_2 13 = .ok (.iload_n 1, 1) := dk_27 (dk_at dksX4_against_2_0 13 rfl rfl)
theorem dX4_against_2_14 : decode cX4_against_2 14 = .ok (.imul, 1) := dk_104 (dk_at dksX4_against_2_0 14 rfl rfl)
theorem dX4_against_2_15 : decode cX4_against_2 15 = .ok (.iload 5, 2) := dk_21 5 (dk_at dksX4_against_2_0 15 rfl rfl)
theorem dX4_against_2_17 : decode cX4_against_2 17 = .ok (.iadd, 1) := dk_96 (dk_at dksX4_against_2_0 17 rfl rfl)
theorem dX4_against_2_18 : decode cX4_against_2 18 = .ok (.iaload, 1) := dk_46 (dk_at dksX4_against_2_0 18 rfl rfl)
theorem dX4_against_2_19 : decode cX4_against_2 19 = .ok (.aload_n 2, 1) := dk_44 (dk_at dksX4_against_2_0 19 rfl rfl)
theorem dX4_against_2_20 : decode cX4_against_2 20 = .ok (.bipush 6, 2) := dk_16 6 (dk_at dksX4_against_2_0 20 rfl rfl)
theorem dX4_against_2_22 : decode cX4_against_2 22 = .ok (.iload_n 3, 1) := dk_29 (dk_at dksX4_against_2_0 22 rfl rfl)
theorem dX4_against_2_23 : decode cX4_against_2 23 = .ok (.imul, 1) := dk_104 (dk_at dksX4_against_2_0 23 rfl rfl)
theorem dX4_against_2_24 : decode cX4_against_2 24 = .ok (.iload 5, 2) := dk_21 5 (dk_at dksX4_against_2_1 0 rfl rfl)
theorem dX4_against_2_26 : decode cX4_against_2 26 = .ok (.iadd, 1) := dk_96 (dk_at dksX4_against_2_1 2 rfl rfl)
theorem dX4_against_2_27 : decode cX4_against_2 27 = .ok (.iaload, 1) := dk_46 (dk_at dksX4_against_2_1 3 rfl rfl)
theorem dX4_against_2_28 : decode cX4_against_2 28 = .ok (.invokestatic 99, 3) := dk_184 0 99 (dk_at dksX4_against_2_1 4 rfl rfl)
theorem dX4_against_2_31 : decode cX4_against_2 31 = .ok (.istore 6, 2) := dk_54 6 (dk_at dksX4_against_2_1 7 rfl rfl)
theorem dX4_against_2_33 : decode cX4_against_2 33 = .ok (.iload 6, 2) := dk_21 6 (dk_at dksX4_against_2_1 9 rfl rfl)
theorem dX4_against_2_35 : decode cX4_against_2 35 = .ok (.ifCond .eq 6, 3) := dk_153 0 6 (dk_at dksX4_against_2_1 11 rfl rfl)
theorem dX4_against_2_38 : decode cX4_against_2 38 = .ok (.iload 6, 2) := dk_21 6 (dk_at dksX4_against_2_1 14 rfl rfl)
theorem dX4_against_2_40 : decode cX4_against_2 40 = .ok (.ireturn, 1) := dk_172 (dk_at dksX4_against_2_1 16 rfl rfl)
theorem dX4_against_2_41 : decode cX4_against_2 41 = .ok (.iinc 5 1, 3) := dk_132 5 1 (dk_at dksX4_against_2_1 17 rfl rfl)
theorem dX4_against_2_44 : decode cX4_against_2 44 = .ok (.goto (-41), 3) := dk_167 255 215 (dk_at dksX4_against_2_1 20 rfl rfl)
theorem dX4_against_2_47 : decode cX4_against_2 47 = .ok (.iconst 0, 1) := dk_3 (dk_at dksX4_against_2_1 23 rfl rfl)
theorem dX4_against_2_48 : decode cX4_against_2 48 = .ok (.ireturn, 1) := dk_172 (dk_at dksX4_against_2_2 0 rfl rfl)
abbrev cX4_answer : ByteArray := prog_13_method_37_code
def yX4_answer : MethodName := ⟨RX4, "answer", "(II)I"⟩
def dkwX4_answer_1 : List UInt8 := [180, 0, 50, 16, 6, 27, 104, 28, 96, 46, 167, 0, 4, 3, 172]
abbrev dktX4_answer_1 : List UInt8 := dkwX4_answer_1 ++ []
def dkwX4_answer_0 : List UInt8 := [42, 28, 182, 0, 182, 153, 0, 31, 27, 3, 42, 180, 0, 46, 4, 100, 184, 0, 88, 153, 0, 17, 42]
abbrev dktX4_answer_0 : List UInt8 := dkwX4_answer_0 ++ dktX4_answer_1
theorem dksX4_answer_0 : cX4_answer.data.toList.drop 0 = dktX4_answer_0 := by decide +kernel
theorem dksX4_answer_1 : cX4_answer.data.toList.drop 23 = dktX4_answer_1 := dk_seg dksX4_answer_0 23 rfl rfl
theorem dX4_answer_0 : decode cX4_answer 0 = .ok (.aload_n 0, 1) := dk_42 (dk_at dksX4_answer_0 0 rfl rfl)
theorem dX4_answer_1 : decode cX4_answer 1 = .ok (.iload_n 2, 1) := dk_28 (dk_at dksX4_answer_0 1 rfl rfl)
theorem dX4_answer_2 : decode cX4_answer 2 = .ok (.invokevirtual 182, 3) := dk_182 0 182 (dk_at dksX4_answer_0 2 rfl rfl)
theorem dX4_answer_5 : decode cX4_answer 5 = .ok (.ifCond .eq 31, 3) := dk_153 0 31 (dk_at dksX4_answer_0 5 rfl rfl)
theorem dX4_answer_8 : decode cX4_answer 8 = .ok (.iload_n 1, 1) := dk_27 (dk_at dksX4_answer_0 8 rfl rfl)
theorem dX4_answer_9 : decode cX4_answer 9 = .ok (.iconst 0, 1) := dk_3 (dk_at dksX4_answer_0 9 rfl rfl)
theorem dX4_answer_10 : decode cX4_answer 10 = .ok (.aload_n 0, 1) := dk_42 (dk_at dksX4_answer_0 10 rfl rfl)
theorem dX4_answer_11 : decode cX4_answer 11 = .ok (.getfield 46, 3) := dk_180 0 46 (dk_at dksX4_answer_0 11 rfl rfl)
theorem dX4_answer_14 : decode cX4_answer 14 = .ok (.iconst 1, 1) := dk_4 (dk_at dksX4_answer_0 14 rfl rfl)
theorem dX4_answer_15 : decode cX4_answer 15 = .ok (.isub, 1) := dk_100 (dk_at dksX4_answer_0 15 rfl rfl)
theorem dX4_answer_16 : decode cX4_answer 16 = .ok (.invokestatic 88, 3) := dk_184 0 88 (dk_at dksX4_answer_0 16 rfl rfl)
theorem dX4_answer_19 : decode cX4_answer 19 = .ok (.ifCond .eq 17, 3) := dk_153 0 17 (dk_at dksX4_answer_0 19 rfl rfl)
theorem dX4_answer_22 : decode cX4_answer 22 = .ok (.aload_n 0, 1) := dk_42 (dk_at dksX4_answer_0 22 rfl rfl)
theorem dX4_answer_23 : decode cX4_answer 23 = .ok (.getfield 50, 3) := dk_180 0 50 (dk_at dksX4_answer_1 0 rfl rfl)
theorem dX4_answer_26 : decode cX4_answer 26 = .ok (.bipush 6, 2) := dk_16 6 (dk_at dksX4_answer_1 3 rfl rfl)
theorem dX4_answer_28 : decode cX4_answer 28 = .ok (.iload_n 1, 1) := dk_27 (dk_at dksX4_answer_1 5 rfl rfl)
theorem dX4_answer_29 : decode cX4_answer 29 = .ok (.imul, 1) := dk_104 (dk_at dksX4_answer_1 6 rfl rfl)
theorem dX4_answer_30 : decode cX4_answer 30 = .ok (.iload_n 2, 1) := dk_28 (dk_at dksX4_answer_1 7 rfl rfl)
theorem dX4_answer_31 : decode cX4_answer 31 = .ok (.iadd, 1) := dk_96 (dk_at dksX4_answer_1 8 rfl rfl)
theorem dX4_answer_32 : decode cX4_answer 32 = .ok (.iaload, 1) := dk_46 (dk_at dksX4_answer_1 9 rfl rfl)
theorem dX4_answer_33 : decode cX4_answer 33 = .ok (.goto 4, 3) := dk_167 0 4 (dk_at dksX4_answer_1 10 rfl rfl)
theorem dX4_answer_36 : decode cX4_answer 36 = .ok (.iconst 0, 1) := dk_3 (dk_at dksX4_answer_1 13 rfl rfl)
theorem dX4_answer_37 : decode cX4_answer 37 = .ok (.ireturn, 1) := dk_172 (dk_at dksX4_answer_1 14 rfl rfl)
abbrev cX4_isName : ByteArray := prog_13_method_36_code
def yX4_isName : MethodName := ⟨RX4, "isName", "(I)Z"⟩
def dkwX4_isName_1 : List UInt8 := [167, 0, 4, 3, 172]
abbrev dktX4_isName_1 : List UInt8 := dkwX4_isName_1 ++ []
def dkwX4_isName_0 : List UInt8 := [42, 180, 0, 46, 2, 159, 0, 21, 27, 3, 42, 180, 0, 173, 4, 100, 184, 0, 88, 153, 0, 7, 4]
abbrev dktX4_isName_0 : List UInt8 := dkwX4_isName_0 ++ dktX4_isName_1
theorem dksX4_isName_0 : cX4_isName.data.toList.drop 0 = dktX4_isName_0 := by decide +kernel
theorem dksX4_isName_1 : cX4_isName.data.toList.drop 23 = dktX4_isName_1 := dk_seg dksX4_isName_0 23 rfl rfl
theorem dX4_isName_0 : decode cX4_isName 0 = .ok (.aload_n 0, 1) := dk_42 (dk_at dksX4_isName_0 0 rfl rfl)
theorem dX4_isName_1 : decode cX4_isName 1 = .ok (.getfield 46, 3) := dk_180 0 46 (dk_at dksX4_isName_0 1 rfl rfl)
theorem dX4_isName_4 : decode cX4_isName 4 = .ok (.iconst (-1), 1) := dk_2 (dk_at dksX4_isName_0 4 rfl rfl)
theorem dX4_isName_5 : decode cX4_isName 5 = .ok (.if_icmp .eq 21, 3) := dk_159 0 21 (dk_at dksX4_isName_0 5 rfl rfl)
theorem dX4_isName_8 : decode cX4_isName 8 = .ok (.iload_n 1, 1) := dk_27 (dk_at dksX4_isName_0 8 rfl rfl)
theorem dX4_isName_9 : decode cX4_isName 9 = .ok (.iconst 0, 1) := dk_3 (dk_at dksX4_isName_0 9 rfl rfl)
theorem dX4_isName_10 : decode cX4_isName 10 = .ok (.aload_n 0, 1) := dk_42 (dk_at dksX4_isName_0 10 rfl rfl)
theorem dX4_isName_11 : decode cX4_isName 11 = .ok (.getfield 173, 3) := dk_180 0 173 (dk_at dksX4_isName_0 11 rfl rfl)
theorem dX4_isName_14 : decode cX4_isName 14 = .ok (.iconst 1, 1) := dk_4 (dk_at dksX4_isName_0 14 rfl rfl)
theorem dX4_isName_15 : decode cX4_isName 15 = .ok (.isub, 1) := dk_100 (dk_at dksX4_isName_0 15 rfl rfl)
theorem dX4_isName_16 : decode cX4_isName 16 = .ok (.invokestatic 88, 3) := dk_184 0 88 (dk_at dksX4_isName_0 16 rfl rfl)
theorem dX4_isName_19 : decode cX4_isName 19 = .ok (.ifCond .eq 7, 3) := dk_153 0 7 (dk_at dksX4_isName_0 19 rfl rfl)
theorem dX4_isName_22 : decode cX4_isName 22 = .ok (.iconst 1, 1) := dk_4 (dk_at dksX4_isName_0 22 rfl rfl)
theorem dX4_isName_23 : decode cX4_isName 23 = .ok (.goto 4, 3) := dk_167 0 4 (dk_at dksX4_isName_1 0 rfl rfl)
theorem dX4_isName_26 : decode cX4_isName 26 = .ok (.iconst 0, 1) := dk_3 (dk_at dksX4_isName_1 3 rfl rfl)
theorem dX4_isName_27 : decode cX4_isName 27 = .ok (.ireturn, 1) := dk_172 (dk_at dksX4_isName_1 4 rfl rfl)
abbrev cX4_meetings : ByteArray := prog_13_method_38_code
def yX4_meetings : MethodName := ⟨RX4, "meetings", "(I)I"⟩
def dkwX4_meetings_0 : List UInt8 := [42, 27, 182, 0, 182, 153, 0, 12, 42, 180, 0, 53, 27, 46, 167, 0, 4, 2, 172]
abbrev dktX4_meetings_0 : List UInt8 := dkwX4_meetings_0 ++ []
theorem dksX4_meetings_0 : cX4_meetings.data.toList.drop 0 = dktX4_meetings_0 := by decide +kernel
theorem dX4_meetings_0 : decode cX4_meetings 0 = .ok (.aload_n 0, 1) := dk_42 (dk_at dksX4_meetings_0 0 rfl rfl)
theorem dX4_meetings_1 : decode cX4_meetings 1 = .ok (.iload_n 1, 1) := dk_27 (dk_at dksX4_meetings_0 1 rfl rfl)
theorem dX4_meetings_2 : decode cX4_meetings 2 = .ok (.invokevirtual 182, 3) := dk_182 0 182 (dk_at dksX4_meetings_0 2 rfl rfl)
theorem dX4_meetings_5 : decode cX4_meetings 5 = .ok (.ifCond .eq 12, 3) := dk_153 0 12 (dk_at dksX4_meetings_0 5 rfl rfl)
theorem dX4_meetings_8 : decode cX4_meetings 8 = .ok (.aload_n 0, 1) := dk_42 (dk_at dksX4_meetings_0 8 rfl rfl)
theorem dX4_meetings_9 : decode cX4_meetings 9 = .ok (.getfield 53, 3) := dk_180 0 53 (dk_at dksX4_meetings_0 9 rfl rfl)
theorem dX4_meetings_12 : decode cX4_meetings 12 = .ok (.iload_n 1, 1) := dk_27 (dk_at dksX4_meetings_0 12 rfl rfl)
theorem dX4_meetings_13 : decode cX4_meetings 13 = .ok (.iaload, 1) := dk_46 (dk_at dksX4_meetings_0 13 rfl rfl)
theorem dX4_meetings_14 : decode cX4_meetings 14 = .ok (.goto 4, 3) := dk_167 0 4 (dk_at dksX4_meetings_0 14 rfl rfl)
theorem dX4_meetings_17 : decode cX4_meetings 17 = .ok (.iconst (-1), 1) := dk_2 (dk_at dksX4_meetings_0 17 rfl rfl)
theorem dX4_meetings_18 : decode cX4_meetings 18 = .ok (.ireturn, 1) := dk_172 (dk_at dksX4_meetings_0 18 rfl rfl)
abbrev cX4_witness : ByteArray := prog_13_method_39_code
def yX4_witness : MethodName := ⟨RX4, "witness", "(II)I"⟩
def dkwX4_witness_2 : List UInt8 := [180, 0, 56, 16, 10, 27, 104, 28, 96, 46, 167, 0, 4, 2, 172]
abbrev dktX4_witness_2 : List UInt8 := dkwX4_witness_2 ++ []
def dkwX4_witness_1 : List UInt8 := [42, 180, 0, 176, 4, 100, 184, 0, 88, 153, 0, 26, 42, 180, 0, 59, 28, 51, 153, 0, 17, 42]
abbrev dktX4_witness_1 : List UInt8 := dkwX4_witness_1 ++ dktX4_witness_2
def dkwX4_witness_0 : List UInt8 := [42, 180, 0, 46, 2, 159, 0, 54, 27, 3, 42, 180, 0, 46, 4, 100, 184, 0, 88, 153, 0, 40, 28, 3]
abbrev dktX4_witness_0 : List UInt8 := dkwX4_witness_0 ++ dktX4_witness_1
theorem dksX4_witness_0 : cX4_witness.data.toList.drop 0 = dktX4_witness_0 := by decide +kernel
theorem dksX4_witness_1 : cX4_witness.data.toList.drop 24 = dktX4_witness_1 := dk_seg dksX4_witness_0 24 rfl rfl
theorem dksX4_witness_2 : cX4_witness.data.toList.drop 46 = dktX4_witness_2 := dk_seg dksX4_witness_1 22 rfl rfl
theorem dX4_witness_0 : decode cX4_witness 0 = .ok (.aload_n 0, 1) := dk_42 (dk_at dksX4_witness_0 0 rfl rfl)
theorem dX4_witness_1 : decode cX4_witness 1 = .ok (.getfield 46, 3) := dk_180 0 46 (dk_at dksX4_witness_0 1 rfl rfl)
theorem dX4_witness_4 : decode cX4_witness 4 = .ok (.iconst (-1), 1) := dk_2 (dk_at dksX4_witness_0 4 rfl rfl)
theorem dX4_witness_5 : decode cX4_witness 5 = .ok (.if_icmp .eq 54, 3) := dk_159 0 54 (dk_at dksX4_witness_0 5 rfl rfl)
theorem dX4_witness_8 : decode cX4_witness 8 = .ok (.iload_n 1, 1) := dk_27 (dk_at dksX4_witness_0 8 rfl rfl)
theorem dX4_witness_9 : decode cX4_witness 9 = .ok (.iconst 0, 1) := dk_3 (dk_at dksX4_witness_0 9 rfl rfl)
theorem dX4_witness_10 : decode cX4_witness 10 = .ok (.aload_n 0, 1) := dk_42 (dk_at dksX4_witness_0 10 rfl rfl)
theorem dX4_witness_11 : decode cX4_witness 11 = .ok (.getfield 46, 3) := dk_180 0 46 (dk_at dksX4_witness_0 11 rfl rfl)
theorem dX4_witness_14 : decode cX4_witness 14 = .ok (.iconst 1, 1) := dk_4 (dk_at dksX4_witness_0 14 rfl rfl)
theorem dX4_witness_15 : decode cX4_witness 15 = .ok (.isub, 1) := dk_100 (dk_at dksX4_witness_0 15 rfl rfl)
theorem dX4_witness_16 : decode cX4_witness 16 = .ok (.invokestatic 88, 3) := dk_184 0 88 (dk_at dksX4_witness_0 16 rfl rfl)
theorem dX4_witness_19 : decode cX4_witness 19 = .ok (.ifCond .eq 40, 3) := dk_153 0 40 (dk_at dksX4_witness_0 19 rfl rfl)
theorem dX4_witness_22 : decode cX4_witness 22 = .ok (.iload_n 2, 1) := dk_28 (dk_at dksX4_witness_0 22 rfl rfl)
theorem dX4_witness_23 : decode cX4_witness 23 = .ok (.iconst 0, 1) := dk_3 (dk_at dksX4_witness_0 23 rfl rfl)
theorem dX4_witness_24 : decode cX4_witness 24 = .ok (.aload_n 0, 1) := dk_42 (dk_at dksX4_witness_1 0 rfl rfl)
theorem dX4_witness_25 : decode cX4_witness 25 = .ok (.getfield 176, 3) := dk_180 0 176 (dk_at dksX4_witness_1 1 rfl rfl)
theorem dX4_witness_28 : decode cX4_witness 28 = .ok (.iconst 1, 1) := dk_4 (dk_at dksX4_witness_1 4 rfl rfl)
theorem dX4_witness_29 : decode cX4_witness 29 = .ok (.isub, 1) := dk_100 (dk_at dksX4_witness_1 5 rfl rfl)
theorem dX4_witness_30 : decode cX4_witness 30 = .ok (.invokestatic 88, 3) := dk_184 0 88 (dk_at dksX4_witness_1 6 rfl rfl)
theorem dX4_witness_33 : decode cX4_witness 33 = .ok (.ifCond .eq 26, 3) := dk_153 0 26 (dk_at dksX4_witness_1 9 rfl rfl)
theorem dX4_witness_36 : decode cX4_witness 36 = .ok (.aload_n 0, 1) := dk_42 (dk_at dksX4_witness_1 12 rfl rfl)
theorem dX4_witness_37 : decode cX4_witness 37 = .ok (.getfield 59, 3) := dk_180 0 59 (dk_at dksX4_witness_1 13 rfl rfl)
theorem dX4_witness_40 : decode cX4_witness 40 = .ok (.iload_n 2, 1) := dk_28 (dk_at dksX4_witness_1 16 rfl rfl)
theorem dX4_witness_41 : decode cX4_witness 41 = .ok (.baload, 1) := dk_51 (dk_at dksX4_witness_1 17 rfl rfl)
theorem dX4_witness_42 : decode cX4_witness 42 = .ok (.ifCond .eq 17, 3) := dk_153 0 17 (dk_at dksX4_witness_1 18 rfl rfl)
theorem dX4_witness_45 : decode cX4_witness 45 = .ok (.aload_n 0, 1) := dk_42 (dk_at dksX4_witness_1 21 rfl rfl)
theorem dX4_witness_46 : decode cX4_witness 46 = .ok (.getfield 56, 3) := dk_180 0 56 (dk_at dksX4_witness_2 0 rfl rfl)
theorem dX4_witness_49 : decode cX4_witness 49 = .ok (.bipush 10, 2) := dk_16 10 (dk_at dksX4_witness_2 3 rfl rfl)
theorem dX4_witness_51 : decode cX4_witness 51 = .ok (.iload_n 1, 1) := dk_27 (dk_at dksX4_witness_2 5 rfl rfl)
theorem dX4_witness_52 : decode cX4_witness 52 = .ok (.imul, 1) := dk_104 (dk_at dksX4_witness_2 6 rfl rfl)
theorem dX4_witness_53 : decode cX4_witness 53 = .ok (.iload_n 2, 1) := dk_28 (dk_at dksX4_witness_2 7 rfl rfl)
theorem dX4_witness_54 : decode cX4_witness 54 = .ok (.iadd, 1) := dk_96 (dk_at dksX4_witness_2 8 rfl rfl)
theorem dX4_witness_55 : decode cX4_witness 55 = .ok (.iaload, 1) := dk_46 (dk_at dksX4_witness_2 9 rfl rfl)
theorem dX4_witness_56 : decode cX4_witness 56 = .ok (.goto 4, 3) := dk_167 0 4 (dk_at dksX4_witness_2 10 rfl rfl)
theorem dX4_witness_59 : decode cX4_witness 59 = .ok (.iconst (-1), 1) := dk_2 (dk_at dksX4_witness_2 13 rfl rfl)
theorem dX4_witness_60 : decode cX4_witness 60 = .ok (.ireturn, 1) := dk_172 (dk_at dksX4_witness_2 14 rfl rfl)
abbrev cX4_sum : ByteArray := prog_13_method_41_code
def yX4_sum : MethodName := ⟨RX4, "sum", "(II)J"⟩
def dkwX4_sum_8 : List UInt8 := [167, 0, 6, 21, 6, 133, 173]
abbrev dktX4_sum_8 : List UInt8 := dkwX4_sum_8 ++ []
def dkwX4_sum_7 : List UInt8 := [133, 167, 0, 28, 28, 5, 160, 0, 9, 21, 7, 133, 167, 0, 17, 28, 6, 160, 0, 9, 21, 8, 133]
abbrev dktX4_sum_7 : List UInt8 := dkwX4_sum_7 ++ dktX4_sum_8
def dkwX4_sum_6 : List UInt8 := [132, 5, 1, 132, 9, 1, 167, 255, 149, 28, 154, 0, 7, 33, 167, 0, 39, 28, 4, 160, 0, 9, 21, 5]
abbrev dktX4_sum_6 : List UInt8 := dkwX4_sum_6 ++ dktX4_sum_7
def dkwX4_sum_5 : List UInt8 := [21, 10, 21, 8, 162, 0, 8, 21, 10, 167, 0, 5, 21, 8, 54, 8, 33, 21, 10, 133, 97, 66]
abbrev dktX4_sum_5 : List UInt8 := dkwX4_sum_5 ++ dktX4_sum_6
def dkwX4_sum_4 : List UInt8 := [153, 0, 10, 21, 10, 21, 7, 164, 0, 8, 21, 10, 167, 0, 5, 21, 7, 54, 7, 21, 5, 153, 0, 10]
abbrev dktX4_sum_4 : List UInt8 := dkwX4_sum_4 ++ dktX4_sum_5
def dkwX4_sum_3 : List UInt8 := [153, 0, 7, 4, 167, 0, 4, 3, 96, 54, 6, 21, 10, 18, 87, 160, 0, 6, 167, 0, 54, 21, 5]
abbrev dktX4_sum_3 : List UInt8 := dkwX4_sum_3 ++ dktX4_sum_4
def dkwX4_sum_2 : List UInt8 := [180, 0, 50, 16, 6, 21, 9, 104, 27, 96, 46, 54, 10, 21, 6, 42, 21, 9, 27, 182, 0, 185]
abbrev dktX4_sum_2 : List UInt8 := dkwX4_sum_2 ++ dktX4_sum_3
def dkwX4_sum_1 : List UInt8 := [3, 54, 6, 18, 87, 54, 7, 18, 87, 54, 8, 3, 54, 9, 21, 9, 42, 180, 0, 46, 162, 0, 104, 42]
abbrev dktX4_sum_1 : List UInt8 := dkwX4_sum_1 ++ dktX4_sum_2
def dkwX4_sum_0 : List UInt8 := [28, 3, 7, 184, 0, 88, 153, 0, 11, 42, 27, 182, 0, 182, 154, 0, 5, 9, 173, 9, 66, 3, 54, 5]
abbrev dktX4_sum_0 : List UInt8 := dkwX4_sum_0 ++ dktX4_sum_1
theorem dksX4_sum_0 : cX4_sum.data.toList.drop 0 = dktX4_sum_0 := by decide +kernel
theorem dksX4_sum_1 : cX4_sum.data.toList.drop 24 = dktX4_sum_1 := dk_seg dksX4_sum_0 24 rfl rfl
theorem dksX4_sum_2 : cX4_sum.data.toList.drop 48 = dktX4_sum_2 := dk_seg dksX4_sum_1 24 rfl rfl
theorem dksX4_sum_3 : cX4_sum.data.toList.drop 70 = dktX4_sum_3 := dk_seg dksX4_sum_2 22 rfl rfl
theorem dksX4_sum_4 : cX4_sum.data.toList.drop 93 = dktX4_sum_4 := dk_seg dksX4_sum_3 23 rfl rfl
theorem dksX4_sum_5 : cX4_sum.data.toList.drop 117 = dktX4_sum_5 := dk_seg dksX4_sum_4 24 rfl rfl
theorem dksX4_sum_6 : cX4_sum.data.toList.drop 139 = dktX4_sum_6 := dk_seg dksX4_sum_5 22 rfl rfl
theorem dksX4_sum_7 : cX4_sum.data.toList.drop 163 = dktX4_sum_7 := dk_seg dksX4_sum_6 24 rfl rfl
theorem dksX4_sum_8 : cX4_sum.data.toList.drop 186 = dktX4_sum_8 := dk_seg dksX4_sum_7 23 rfl rfl
theorem dX4_sum_0 : decode cX4_sum 0 = .ok (.iload_n 2, 1) := dk_28 (dk_at dksX4_sum_0 0 rfl rfl)
theorem dX4_sum_1 : decode cX4_sum 1 = .ok (.iconst 0, 1) := dk_3 (dk_at dksX4_sum_0 1 rfl rfl)
theorem dX4_sum_2 : decode cX4_sum 2 = .ok (.iconst 4, 1) := dk_7 (dk_at dksX4_sum_0 2 rfl rfl)
theorem dX4_sum_3 : decode cX4_sum 3 = .ok (.invokestatic 88, 3) := dk_184 0 88 (dk_at dksX4_sum_0 3 rfl rfl)
theorem dX4_sum_6 : decode cX4_sum 6 = .ok (.ifCond .eq 11, 3) := dk_153 0 11 (dk_at dksX4_sum_0 6 rfl rfl)
theorem dX4_sum_9 : decode cX4_sum 9 = .ok (.aload_n 0, 1) := dk_42 (dk_at dksX4_sum_0 9 rfl rfl)
theorem dX4_sum_10 : decode cX4_sum 10 = .ok (.iload_n 1, 1) := dk_27 (dk_at dksX4_sum_0 10 rfl rfl)
theorem dX4_sum_11 : decode cX4_sum 11 = .ok (.invokevirtual 182, 3) := dk_182 0 182 (dk_at dksX4_sum_0 11 rfl rfl)
theorem dX4_sum_14 : decode cX4_sum 14 = .ok (.ifCond .ne 5, 3) := dk_154 0 5 (dk_at dksX4_sum_0 14 rfl rfl)
theorem dX4_sum_17 : decode cX4_sum 17 = .ok (.lconst 0, 1) := dk_9 (dk_at dksX4_sum_0 17 rfl rfl)
theorem dX4_sum_18 : decode cX4_sum 18 = .ok (.lreturn, 1) := dk_173 (dk_at dksX4_sum_0 18 rfl rfl)
theorem dX4_sum_19 : decode cX4_sum 19 = .ok (.lconst 0, 1) := dk_9 (dk_at dksX4_sum_0 19 rfl rfl)
theorem dX4_sum_20 : decode cX4_sum 20 = .ok (.lstore_n 3, 1) := dk_66 (dk_at dksX4_sum_0 20 rfl rfl)
theorem dX4_sum_21 : decode cX4_sum 21 = .ok (.iconst 0, 1) := dk_3 (dk_at dksX4_sum_0 21 rfl rfl)
theorem dX4_sum_22 : decode cX4_sum 22 = .ok (.istore 5, 2) := dk_54 5 (dk_at dksX4_sum_0 22 rfl rfl)
theorem dX4_sum_24 : decode cX4_sum 24 = .ok (.iconst 0, 1) := dk_3 (dk_at dksX4_sum_1 0 rfl rfl)
theorem dX4_sum_25 : decode cX4_sum 25 = .ok (.istore 6, 2) := dk_54 6 (dk_at dksX4_sum_1 1 rfl rfl)
theorem dX4_sum_27 : decode cX4_sum 27 = .ok (.ldc 87, 2) := dk_18 87 (dk_at dksX4_sum_1 3 rfl rfl)
theorem dX4_sum_29 : decode cX4_sum 29 = .ok (.istore 7, 2) := dk_54 7 (dk_at dksX4_sum_1 5 rfl rfl)
theorem dX4_sum_31 : decode cX4_sum 31 = .ok (.ldc 87, 2) := dk_18 87 (dk_at dksX4_sum_1 7 rfl rfl)
theorem dX4_sum_33 : decode cX4_sum 33 = .ok (.istore 8, 2) := dk_54 8 (dk_at dksX4_sum_1 9 rfl rfl)
theorem dX4_sum_35 : decode cX4_sum 35 = .ok (.iconst 0, 1) := dk_3 (dk_at dksX4_sum_1 11 rfl rfl)
theorem dX4_sum_36 : decode cX4_sum 36 = .ok (.istore 9, 2) := dk_54 9 (dk_at dksX4_sum_1 12 rfl rfl)
theorem dX4_sum_38 : decode cX4_sum 38 = .ok (.iload 9, 2) := dk_21 9 (dk_at dksX4_sum_1 14 rfl rfl)
theorem dX4_sum_40 : decode cX4_sum 40 = .ok (.aload_n 0, 1) := dk_42 (dk_at dksX4_sum_1 16 rfl rfl)
theorem dX4_sum_41 : decode cX4_sum 41 = .ok (.getfield 46, 3) := dk_180 0 46 (dk_at dksX4_sum_1 17 rfl rfl)
theorem dX4_sum_44 : decode cX4_sum 44 = .ok (.if_icmp .ge 104, 3) := dk_162 0 104 (dk_at dksX4_sum_1 20 rfl rfl)
theorem dX4_sum_47 : decode cX4_sum 47 = .ok (.aload_n 0, 1) := dk_42 (dk_at dksX4_sum_1 23 rfl rfl)
theorem dX4_sum_48 : decode cX4_sum 48 = .ok (.getfield 50, 3) := dk_180 0 50 (dk_at dksX4_sum_2 0 rfl rfl)
theorem dX4_sum_51 : decode cX4_sum 51 = .ok (.bipush 6, 2) := dk_16 6 (dk_at dksX4_sum_2 3 rfl rfl)
theorem dX4_sum_53 : decode cX4_sum 53 = .ok (.iload 9, 2) := dk_21 9 (dk_at dksX4_sum_2 5 rfl rfl)
theorem dX4_sum_55 : decode cX4_sum 55 = .ok (.imul, 1) := dk_104 (dk_at dksX4_sum_2 7 rfl rfl)
theorem dX4_sum_56 : decode cX4_sum 56 = .ok (.iload_n 1, 1) := dk_27 (dk_at dksX4_sum_2 8 rfl rfl)
theorem dX4_sum_57 : decode cX4_sum 57 = .ok (.iadd, 1) := dk_96 (dk_at dksX4_sum_2 9 rfl rfl)
theorem dX4_sum_58 : decode cX4_sum 58 = .ok (.iaload, 1) := dk_46 (dk_at dksX4_sum_2 10 rfl rfl)
theorem dX4_sum_59 : decode cX4_sum 59 = .ok (.istore 10, 2) := dk_54 10 (dk_at dksX4_sum_2 11 rfl rfl)
theorem dX4_sum_61 : decode cX4_sum 61 = .ok (.iload 6, 2) := dk_21 6 (dk_at dksX4_sum_2 13 rfl rfl)
theorem dX4_sum_63 : decode cX4_sum 63 = .ok (.aload_n 0, 1) := dk_42 (dk_at dksX4_sum_2 15 rfl rfl)
theorem dX4_sum_64 : decode cX4_sum 64 = .ok (.iload 9, 2) := dk_21 9 (dk_at dksX4_sum_2 16 rfl rfl)
theorem dX4_sum_66 : decode cX4_sum 66 = .ok (.iload_n 1, 1) := dk_27 (dk_at dksX4_sum_2 18 rfl rfl)
theorem dX4_sum_67 : decode cX4_sum 67 = .ok (.invokevirtual 185, 3) := dk_182 0 185 (dk_at dksX4_sum_2 19 rfl rfl)
theorem dX4_sum_70 : decode cX4_sum 70 = .ok (.ifCond .eq 7, 3) := dk_153 0 7 (dk_at dksX4_sum_3 0 rfl rfl)
theorem dX4_sum_73 : decode cX4_sum 73 = .ok (.iconst 1, 1) := dk_4 (dk_at dksX4_sum_3 3 rfl rfl)
theorem dX4_sum_74 : decode cX4_sum 74 = .ok (.goto 4, 3) := dk_167 0 4 (dk_at dksX4_sum_3 4 rfl rfl)
theorem dX4_sum_77 : decode cX4_sum 77 = .ok (.iconst 0, 1) := dk_3 (dk_at dksX4_sum_3 7 rfl rfl)
theorem dX4_sum_78 : decode cX4_sum 78 = .ok (.iadd, 1) := dk_96 (dk_at dksX4_sum_3 8 rfl rfl)
theorem dX4_sum_79 : decode cX4_sum 79 = .ok (.istore 6, 2) := dk_54 6 (dk_at dksX4_sum_3 9 rfl rfl)
theorem dX4_sum_81 : decode cX4_sum 81 = .ok (.iload 10, 2) := dk_21 10 (dk_at dksX4_sum_3 11 rfl rfl)
theorem dX4_sum_83 : decode cX4_sum 83 = .ok (.ldc 87, 2) := dk_18 87 (dk_at dksX4_sum_3 13 rfl rfl)
theorem dX4_sum_85 : decode cX4_sum 85 = .ok (.if_icmp .ne 6, 3) := dk_160 0 6 (dk_at dksX4_sum_3 15 rfl rfl)
theorem dX4_sum_88 : decode cX4_sum 88 = .ok (.goto 54, 3) := dk_167 0 54 (dk_at dksX4_sum_3 18 rfl rfl)
theorem dX4_sum_91 : decode cX4_sum 91 = .ok (.iload 5, 2) := dk_21 5 (dk_at dksX4_sum_3 21 rfl rfl)
theorem dX4_sum_93 : decode cX4_sum 93 = .ok (.ifCond .eq 10, 3) := dk_153 0 10 (dk_at dksX4_sum_4 0 rfl rfl)
theorem dX4_sum_96 : decode cX4_sum 96 = .ok (.iload 10, 2) := dk_21 10 (dk_at dksX4_sum_4 3 rfl rfl)
theorem dX4_sum_98 : decode cX4_sum 98 = .ok (.iload 7, 2) := dk_21 7 (dk_at dksX4_sum_4 5 rfl rfl)
theorem dX4_sum_100 : decode cX4_sum 100 = .ok (.if_icmp .le 8, 3) := dk_164 0 8 (dk_at dksX4_sum_4 7 rfl rfl)
theorem dX4_sum_103 : decode cX4_sum 103 = .ok (.iload 10, 2) := dk_21 10 (dk_at dksX4_sum_4 10 rfl rfl)
theorem dX4_sum_105 : decode cX4_sum 105 = .ok (.goto 5, 3) := dk_167 0 5 (dk_at dksX4_sum_4 12 rfl rfl)
theorem dX4_sum_108 : decode cX4_sum 108 = .ok (.iload 7, 2) := dk_21 7 (dk_at dksX4_sum_4 15 rfl rfl)
theorem dX4_sum_110 : decode cX4_sum 110 = .ok (.istore 7, 2) := dk_54 7 (dk_at dksX4_sum_4 17 rfl rfl)
theorem dX4_sum_112 : decode cX4_sum 112 = .ok (.iload 5, 2) := dk_21 5 (dk_at dksX4_sum_4 19 rfl rfl)
theorem dX4_sum_114 : decode cX4_sum 114 = .ok (.ifCond .eq 10, 3) := dk_153 0 10 (dk_at dksX4_sum_4 21 rfl rfl)
theorem dX4_sum_117 : decode cX4_sum 117 = .ok (.iload 10, 2) := dk_21 10 (dk_at dksX4_sum_5 0 rfl rfl)
theorem dX4_sum_119 : decode cX4_sum 119 = .ok (.iload 8, 2) := dk_21 8 (dk_at dksX4_sum_5 2 rfl rfl)
theorem dX4_sum_121 : decode cX4_sum 121 = .ok (.if_icmp .ge 8, 3) := dk_162 0 8 (dk_at dksX4_sum_5 4 rfl rfl)
theorem dX4_sum_124 : decode cX4_sum 124 = .ok (.iload 10, 2) := dk_21 10 (dk_at dksX4_sum_5 7 rfl rfl)
theorem dX4_sum_126 : decode cX4_sum 126 = .ok (.goto 5, 3) := dk_167 0 5 (dk_at dksX4_sum_5 9 rfl rfl)
theorem dX4_sum_129 : decode cX4_sum 129 = .ok (.iload 8, 2) := dk_21 8 (dk_at dksX4_sum_5 12 rfl rfl)
theorem dX4_sum_131 : decode cX4_sum 131 = .ok (.istore 8, 2) := dk_54 8 (dk_at dksX4_sum_5 14 rfl rfl)
theorem dX4_sum_133 : decode cX4_sum 133 = .ok (.lload_n 3, 1) := dk_33 (dk_at dksX4_sum_5 16 rfl rfl)
theorem dX4_sum_134 : decode cX4_sum 134 = .ok (.iload 10, 2) := dk_21 10 (dk_at dksX4_sum_5 17 rfl rfl)
theorem dX4_sum_136 : decode cX4_sum 136 = .ok (.i2l, 1) := dk_133 (dk_at dksX4_sum_5 19 rfl rfl)
theorem dX4_sum_137 : decode cX4_sum 137 = .ok (.ladd, 1) := dk_97 (dk_at dksX4_sum_5 20 rfl rfl)
theorem dX4_sum_138 : decode cX4_sum 138 = .ok (.lstore_n 3, 1) := dk_66 (dk_at dksX4_sum_5 21 rfl rfl)
theorem dX4_sum_139 : decode cX4_sum 139 = .ok (.iinc 5 1, 3) := dk_132 5 1 (dk_at dksX4_sum_6 0 rfl rfl)
theorem dX4_sum_142 : decode cX4_sum 142 = .ok (.iinc 9 1, 3) := dk_132 9 1 (dk_at dksX4_sum_6 3 rfl rfl)
theorem dX4_sum_145 : decode cX4_sum 145 = .ok (.goto (-107), 3) := dk_167 255 149 (dk_at dksX4_sum_6 6 rfl rfl)
theorem dX4_sum_148 : decode cX4_sum 148 = .ok (.iload_n 2, 1) := dk_28 (dk_at dksX4_sum_6 9 rfl rfl)
theorem dX4_sum_149 : decode cX4_sum 149 = .ok (.ifCond .ne 7, 3) := dk_154 0 7 (dk_at dksX4_sum_6 10 rfl rfl)
theorem dX4_sum_152 : decode cX4_sum 152 = .ok (.lload_n 3, 1) := dk_33 (dk_at dksX4_sum_6 13 rfl rfl)
theorem dX4_sum_153 : decode cX4_sum 153 = .ok (.goto 39, 3) := dk_167 0 39 (dk_at dksX4_sum_6 14 rfl rfl)
theorem dX4_sum_156 : decode cX4_sum 156 = .ok (.iload_n 2, 1) := dk_28 (dk_at dksX4_sum_6 17 rfl rfl)
theorem dX4_sum_157 : decode cX4_sum 157 = .ok (.iconst 1, 1) := dk_4 (dk_at dksX4_sum_6 18 rfl rfl)
theorem dX4_sum_158 : decode cX4_sum 158 = .ok (.if_icmp .ne 9, 3) := dk_160 0 9 (dk_at dksX4_sum_6 19 rfl rfl)
theorem dX4_sum_161 : decode cX4_sum 161 = .ok (.iload 5, 2) := dk_21 5 (dk_at dksX4_sum_6 22 rfl rfl)
theorem dX4_sum_163 : decode cX4_sum 163 = .ok (.i2l, 1) := dk_133 (dk_at dksX4_sum_7 0 rfl rfl)
theorem dX4_sum_164 : decode cX4_sum 164 = .ok (.goto 28, 3) := dk_167 0 28 (dk_at dksX4_sum_7 1 rfl rfl)
theorem dX4_sum_167 : decode cX4_sum 167 = .ok (.iload_n 2, 1) := dk_28 (dk_at dksX4_sum_7 4 rfl rfl)
theorem dX4_sum_168 : decode cX4_sum 168 = .ok (.iconst 2, 1) := dk_5 (dk_at dksX4_sum_7 5 rfl rfl)
theorem dX4_sum_169 : decode cX4_sum 169 = .ok (.if_icmp .ne 9, 3) := dk_160 0 9 (dk_at dksX4_sum_7 6 rfl rfl)
theorem dX4_sum_172 : decode cX4_sum 172 = .ok (.iload 7, 2) := dk_21 7 (dk_at dksX4_sum_7 9 rfl rfl)
theorem dX4_sum_174 : decode cX4_sum 174 = .ok (.i2l, 1) := dk_133 (dk_at dksX4_sum_7 11 rfl rfl)
theorem dX4_sum_175 : decode cX4_sum 175 = .ok (.goto 17, 3) := dk_167 0 17 (dk_at dksX4_sum_7 12 rfl rfl)
theorem dX4_sum_178 : decode cX4_sum 178 = .ok (.iload_n 2, 1) := dk_28 (dk_at dksX4_sum_7 15 rfl rfl)
theorem dX4_sum_179 : decode cX4_sum 179 = .ok (.iconst 3, 1) := dk_6 (dk_at dksX4_sum_7 16 rfl rfl)
theorem dX4_sum_180 : decode cX4_sum 180 = .ok (.if_icmp .ne 9, 3) := dk_160 0 9 (dk_at dksX4_sum_7 17 rfl rfl)
theorem dX4_sum_183 : decode cX4_sum 183 = .ok (.iload 8, 2) := dk_21 8 (dk_at dksX4_sum_7 20 rfl rfl)
theorem dX4_sum_185 : decode cX4_sum 185 = .ok (.i2l, 1) := dk_133 (dk_at dksX4_sum_7 22 rfl rfl)
theorem dX4_sum_186 : decode cX4_sum 186 = .ok (.goto 6, 3) := dk_167 0 6 (dk_at dksX4_sum_8 0 rfl rfl)
theorem dX4_sum_189 : decode cX4_sum 189 = .ok (.iload 6, 2) := dk_21 6 (dk_at dksX4_sum_8 3 rfl rfl)
theorem dX4_sum_191 : decode cX4_sum 191 = .ok (.i2l, 1) := dk_133 (dk_at dksX4_sum_8 5 rfl rfl)
theorem dX4_sum_192 : decode cX4_sum 192 = .ok (.lreturn, 1) := dk_173 (dk_at dksX4_sum_8 6 rfl rfl)
abbrev cX4_isNew : ByteArray := prog_13_method_40_code
def yX4_isNew : MethodName := ⟨RX4, "isNew", "(II)Z"⟩
def dkwX4_isNew_1 : List UInt8 := [27, 104, 28, 96, 46, 160, 0, 5, 3, 172, 132, 3, 1, 167, 255, 221, 4, 172]
abbrev dktX4_isNew_1 : List UInt8 := dkwX4_isNew_1 ++ []
def dkwX4_isNew_0 : List UInt8 := [3, 62, 29, 27, 162, 0, 36, 42, 180, 0, 50, 16, 6, 29, 104, 28, 96, 46, 42, 180, 0, 50, 16, 6]
abbrev dktX4_isNew_0 : List UInt8 := dkwX4_isNew_0 ++ dktX4_isNew_1
theorem dksX4_isNew_0 : cX4_isNew.data.toList.drop 0 = dktX4_isNew_0 := by decide +kernel
theorem dksX4_isNew_1 : cX4_isNew.data.toList.drop 24 = dktX4_isNew_1 := dk_seg dksX4_isNew_0 24 rfl rfl
theorem dX4_isNew_0 : decode cX4_isNew 0 = .ok (.iconst 0, 1) := dk_3 (dk_at dksX4_isNew_0 0 rfl rfl)
theorem dX4_isNew_1 : decode cX4_isNew 1 = .ok (.istore_n 3, 1) := dk_62 (dk_at dksX4_isNew_0 1 rfl rfl)
theorem dX4_isNew_2 : decode cX4_isNew 2 = .ok (.iload_n 3, 1) := dk_29 (dk_at dksX4_isNew_0 2 rfl rfl)
theorem dX4_isNew_3 : decode cX4_isNew 3 = .ok (.iload_n 1, 1) := dk_27 (dk_at dksX4_isNew_0 3 rfl rfl)
theorem dX4_isNew_4 : decode cX4_isNew 4 = .ok (.if_icmp .ge 36, 3) := dk_162 0 36 (dk_at dksX4_isNew_0 4 rfl rfl)
theorem dX4_isNew_7 : decode cX4_isNew 7 = .ok (.aload_n 0, 1) := dk_42 (dk_at dksX4_isNew_0 7 rfl rfl)
theorem dX4_isNew_8 : decode cX4_isNew 8 = .ok (.getfield 50, 3) := dk_180 0 50 (dk_at dksX4_isNew_0 8 rfl rfl)
theorem dX4_isNew_11 : decode cX4_isNew 11 = .ok (.bipush 6, 2) := dk_16 6 (dk_at dksX4_isNew_0 11 rfl rfl)
theorem dX4_isNew_13 : decode cX4_isNew 13 = .ok (.iload_n 3, 1) := dk_29 (dk_at dksX4_isNew_0 13 rfl rfl)
theorem dX4_isNew_14 : decode cX4_isNew 14 = .ok (.imul, 1) := dk_104 (dk_at dksX4_isNew_0 14 rfl rfl)
theorem dX4_isNew_15 : decode cX4_isNew 15 = .ok (.iload_n 2, 1) := dk_28 (dk_at dksX4_isNew_0 15 rfl rfl)
theorem dX4_isNew_16 : decode cX4_isNew 16 = .ok (.iadd, 1) := dk_96 (dk_at dksX4_isNew_0 16 rfl rfl)
theorem dX4_isNew_17 : decode cX4_isNew 17 = .ok (.iaload, 1) := dk_46 (dk_at dksX4_isNew_0 17 rfl rfl)
theorem dX4_isNew_18 : decode cX4_isNew 18 = .ok (.aload_n 0, 1) := dk_42 (dk_at dksX4_isNew_0 18 rfl rfl)
theorem dX4_isNew_19 : decode cX4_isNew 19 = .ok (.getfield 50, 3) := dk_180 0 50 (dk_at dksX4_isNew_0 19 rfl rfl)
theorem dX4_isNew_22 : decode cX4_isNew 22 = .ok (.bipush 6, 2) := dk_16 6 (dk_at dksX4_isNew_0 22 rfl rfl)
theorem dX4_isNew_24 : decode cX4_isNew 24 = .ok (.iload_n 1, 1) := dk_27 (dk_at dksX4_isNew_1 0 rfl rfl)
theorem dX4_isNew_25 : decode cX4_isNew 25 = .ok (.imul, 1) := dk_104 (dk_at dksX4_isNew_1 1 rfl rfl)
theorem dX4_isNew_26 : decode cX4_isNew 26 = .ok (.iload_n 2, 1) := dk_28 (dk_at dksX4_isNew_1 2 rfl rfl)
theorem dX4_isNew_27 : decode cX4_isNew 27 = .ok (.iadd, 1) := dk_96 (dk_at dksX4_isNew_1 3 rfl rfl)
theorem dX4_isNew_28 : decode cX4_isNew 28 = .ok (.iaload, 1) := dk_46 (dk_at dksX4_isNew_1 4 rfl rfl)
theorem dX4_isNew_29 : decode cX4_isNew 29 = .ok (.if_icmp .ne 5, 3) := dk_160 0 5 (dk_at dksX4_isNew_1 5 rfl rfl)
theorem dX4_isNew_32 : decode cX4_isNew 32 = .ok (.iconst 0, 1) := dk_3 (dk_at dksX4_isNew_1 8 rfl rfl)
theorem dX4_isNew_33 : decode cX4_isNew 33 = .ok (.ireturn, 1) := dk_172 (dk_at dksX4_isNew_1 9 rfl rfl)
theorem dX4_isNew_34 : decode cX4_isNew 34 = .ok (.iinc 3 1, 3) := dk_132 3 1 (dk_at dksX4_isNew_1 10 rfl rfl)
theorem dX4_isNew_37 : decode cX4_isNew 37 = .ok (.goto (-35), 3) := dk_167 255 221 (dk_at dksX4_isNew_1 13 rfl rfl)
theorem dX4_isNew_40 : decode cX4_isNew 40 = .ok (.iconst 1, 1) := dk_4 (dk_at dksX4_isNew_1 16 rfl rfl)
theorem dX4_isNew_41 : decode cX4_isNew 41 = .ok (.ireturn, 1) := dk_172 (dk_at dksX4_isNew_1 17 rfl rfl)
abbrev cX4_group : ByteArray := prog_13_method_42_code
def yX4_group : MethodName := ⟨RX4, "group", "(IIII)J"⟩
def dkwX4_group_5 : List UInt8 := [22, 5, 173]
abbrev dktX4_group_5 : List UInt8 := dkwX4_group_5 ++ []
def dkwX4_group_4 : List UInt8 := [21, 8, 18, 87, 160, 0, 7, 9, 167, 0, 6, 21, 8, 133, 97, 55, 5, 132, 7, 1, 167, 255, 183]
abbrev dktX4_group_4 : List UInt8 := dkwX4_group_4 ++ dktX4_group_5
def dkwX4_group_3 : List UInt8 := [154, 0, 7, 4, 167, 0, 16, 42, 180, 0, 50, 16, 6, 21, 7, 104, 21, 4, 96, 46, 54, 8, 22, 5]
abbrev dktX4_group_3 : List UInt8 := dkwX4_group_3 ++ dktX4_group_4
def dkwX4_group_2 : List UInt8 := [162, 0, 70, 42, 180, 0, 50, 16, 6, 21, 7, 104, 27, 96, 46, 28, 159, 0, 6, 167, 0, 45, 29]
abbrev dktX4_group_2 : List UInt8 := dkwX4_group_2 ++ dktX4_group_3
def dkwX4_group_1 : List UInt8 := [21, 4, 182, 0, 182, 154, 0, 5, 9, 173, 9, 55, 5, 3, 54, 7, 21, 7, 42, 180, 0, 46]
abbrev dktX4_group_1 : List UInt8 := dkwX4_group_1 ++ dktX4_group_2
def dkwX4_group_0 : List UInt8 := [42, 27, 182, 0, 182, 153, 0, 26, 29, 3, 4, 184, 0, 88, 153, 0, 17, 29, 4, 160, 0, 14, 42]
abbrev dktX4_group_0 : List UInt8 := dkwX4_group_0 ++ dktX4_group_1
theorem dksX4_group_0 : cX4_group.data.toList.drop 0 = dktX4_group_0 := by decide +kernel
theorem dksX4_group_1 : cX4_group.data.toList.drop 23 = dktX4_group_1 := dk_seg dksX4_group_0 23 rfl rfl
theorem dksX4_group_2 : cX4_group.data.toList.drop 45 = dktX4_group_2 := dk_seg dksX4_group_1 22 rfl rfl
theorem dksX4_group_3 : cX4_group.data.toList.drop 68 = dktX4_group_3 := dk_seg dksX4_group_2 23 rfl rfl
theorem dksX4_group_4 : cX4_group.data.toList.drop 92 = dktX4_group_4 := dk_seg dksX4_group_3 24 rfl rfl
theorem dksX4_group_5 : cX4_group.data.toList.drop 115 = dktX4_group_5 := dk_seg dksX4_group_4 23 rfl rfl
theorem dX4_group_0 : decode cX4_group 0 = .ok (.aload_n 0, 1) := dk_42 (dk_at dksX4_group_0 0 rfl rfl)
theorem dX4_group_1 : decode cX4_group 1 = .ok (.iload_n 1, 1) := dk_27 (dk_at dksX4_group_0 1 rfl rfl)
theorem dX4_group_2 : decode cX4_group 2 = .ok (.invokevirtual 182, 3) := dk_182 0 182 (dk_at dksX4_group_0 2 rfl rfl)
theorem dX4_group_5 : decode cX4_group 5 = .ok (.ifCond .eq 26, 3) := dk_153 0 26 (dk_at dksX4_group_0 5 rfl rfl)
theorem dX4_group_8 : decode cX4_group 8 = .ok (.iload_n 3, 1) := dk_29 (dk_at dksX4_group_0 8 rfl rfl)
theorem dX4_group_9 : decode cX4_group 9 = .ok (.iconst 0, 1) := dk_3 (dk_at dksX4_group_0 9 rfl rfl)
theorem dX4_group_10 : decode cX4_group 10 = .ok (.iconst 1, 1) := dk_4 (dk_at dksX4_group_0 10 rfl rfl)
theorem dX4_group_11 : decode cX4_group 11 = .ok (.invokestatic 88, 3) := dk_184 0 88 (dk_at dksX4_group_0 11 rfl rfl)
theorem dX4_group_14 : decode cX4_group 14 = .ok (.ifCond .eq 17, 3) := dk_153 0 17 (dk_at dksX4_group_0 14 rfl rfl)
theorem dX4_group_17 : decode cX4_group 17 = .ok (.iload_n 3, 1) := dk_29 (dk_at dksX4_group_0 17 rfl rfl)
theorem dX4_group_18 : decode cX4_group 18 = .ok (.iconst 1, 1) := dk_4 (dk_at dksX4_group_0 18 rfl rfl)
theorem dX4_group_19 : decode cX4_group 19 = .ok (.if_icmp .ne 14, 3) := dk_160 0 14 (dk_at dksX4_group_0 19 rfl rfl)
theorem dX4_group_22 : decode cX4_group 22 = .ok (.aload_n 0, 1) := dk_42 (dk_at dksX4_group_0 22 rfl rfl)
theorem dX4_group_23 : decode cX4_group 23 = .ok (.iload 4, 2) := dk_21 4 (dk_at dksX4_group_1 0 rfl rfl)
theorem dX4_group_25 : decode cX4_group 25 = .ok (.invokevirtual 182, 3) := dk_182 0 182 (dk_at dksX4_group_1 2 rfl rfl)
theorem dX4_group_28 : decode cX4_group 28 = .ok (.ifCond .ne 5, 3) := dk_154 0 5 (dk_at dksX4_group_1 5 rfl rfl)
theorem dX4_group_31 : decode cX4_group 31 = .ok (.lconst 0, 1) := dk_9 (dk_at dksX4_group_1 8 rfl rfl)
theorem dX4_group_32 : decode cX4_group 32 = .ok (.lreturn, 1) := dk_173 (dk_at dksX4_group_1 9 rfl rfl)
theorem dX4_group_33 : decode cX4_group 33 = .ok (.lconst 0, 1) := dk_9 (dk_at dksX4_group_1 10 rfl rfl)
theorem dX4_group_34 : decode cX4_group 34 = .ok (.lstore 5, 2) := dk_55 5 (dk_at dksX4_group_1 11 rfl rfl)
theorem dX4_group_36 : decode cX4_group 36 = .ok (.iconst 0, 1) := dk_3 (dk_at dksX4_group_1 13 rfl rfl)
theorem dX4_group_37 : decode cX4_group 37 = .ok (.istore 7, 2) := dk_54 7 (dk_at dksX4_group_1 14 rfl rfl)
theorem dX4_group_39 : decode cX4_group 39 = .ok (.iload 7, 2) := dk_21 7 (dk_at dksX4_group_1 16 rfl rfl)
theorem dX4_group_41 : decode cX4_group 41 = .ok (.aload_n 0, 1) := dk_42 (dk_at dksX4_group_1 18 rfl rfl)
theorem dX4_group_42 : decode cX4_group 42 = .ok (.getfield 46, 3) := dk_180 0 46 (dk_at dksX4_group_1 19 rfl rfl)
theorem dX4_group_45 : decode cX4_group 45 = .ok (.if_icmp .ge 70, 3) := dk_162 0 70 (dk_at dksX4_group_2 0 rfl rfl)
theorem dX4_group_48 : decode cX4_group 48 = .ok (.aload_n 0, 1) := dk_42 (dk_at dksX4_group_2 3 rfl rfl)
theorem dX4_group_49 : decode cX4_group 49 = .ok (.getfield 50, 3) := dk_180 0 50 (dk_at dksX4_group_2 4 rfl rfl)
theorem dX4_group_52 : decode cX4_group 52 = .ok (.bipush 6, 2) := dk_16 6 (dk_at dksX4_group_2 7 rfl rfl)
theorem dX4_group_54 : decode cX4_group 54 = .ok (.iload 7, 2) := dk_21 7 (dk_at dksX4_group_2 9 rfl rfl)
theorem dX4_group_56 : decode cX4_group 56 = .ok (.imul, 1) := dk_104 (dk_at dksX4_group_2 11 rfl rfl)
theorem dX4_group_57 : decode cX4_group 57 = .ok (.iload_n 1, 1) := dk_27 (dk_at dksX4_group_2 12 rfl rfl)
theorem dX4_group_58 : decode cX4_group 58 = .ok (.iadd, 1) := dk_96 (dk_at dksX4_group_2 13 rfl rfl)
theorem dX4_group_59 : decode cX4_group 59 = .ok (.iaload, 1) := dk_46 (dk_at dksX4_group_2 14 rfl rfl)
theorem dX4_group_60 : decode cX4_group 60 = .ok (.iload_n 2, 1) := dk_28 (dk_at dksX4_group_2 15 rfl rfl)
theorem dX4_group_61 : decode cX4_group 61 = .ok (.if_icmp .eq 6, 3) := dk_159 0 6 (dk_at dksX4_group_2 16 rfl rfl)
theorem dX4_group_64 : decode cX4_group 64 = .ok (.goto 45, 3) := dk_167 0 45 (dk_at dksX4_group_2 19 rfl rfl)
theorem dX4_group_67 : decode cX4_group 67 = .ok (.iload_n 3, 1) := dk_29 (dk_at dksX4_group_2 22 rfl rfl)
theorem dX4_group_68 : decode cX4_group 68 = .ok (.ifCond .ne 7, 3) := dk_154 0 7 (dk_at dksX4_group_3 0 rfl rfl)
theorem dX4_group_71 : decode cX4_group 71 = .ok (.iconst 1, 1) := dk_4 (dk_at dksX4_group_3 3 rfl rfl)
theorem dX4_group_72 : decode cX4_group 72 = .ok (.goto 16, 3) := dk_167 0 16 (dk_at dksX4_group_3 4 rfl rfl)
theorem dX4_group_75 : decode cX4_group 75 = .ok (.aload_n 0, 1) := dk_42 (dk_at dksX4_group_3 7 rfl rfl)
theorem dX4_group_76 : decode cX4_group 76 = .ok (.getfield 50, 3) := dk_180 0 50 (dk_at dksX4_group_3 8 rfl rfl)
theorem dX4_group_79 : decode cX4_group 79 = .ok (.bipush 6, 2) := dk_16 6 (dk_at dksX4_group_3 11 rfl rfl)
theorem dX4_group_81 : decode cX4_group 81 = .ok (.iload 7, 2) := dk_21 7 (dk_at dksX4_group_3 13 rfl rfl)
theorem dX4_group_83 : decode cX4_group 83 = .ok (.imul, 1) := dk_104 (dk_at dksX4_group_3 15 rfl rfl)
theorem dX4_group_84 : decode cX4_group 84 = .ok (.iload 4, 2) := dk_21 4 (dk_at dksX4_group_3 16 rfl rfl)
theorem dX4_group_86 : decode cX4_group 86 = .ok (.iadd, 1) := dk_96 (dk_at dksX4_group_3 18 rfl rfl)
theorem dX4_group_87 : decode cX4_group 87 = .ok (.iaload, 1) := dk_46 (dk_at dksX4_group_3 19 rfl rfl)
theorem dX4_group_88 : decode cX4_group 88 = .ok (.istore 8, 2) := dk_54 8 (dk_at dksX4_group_3 20 rfl rfl)
theorem dX4_group_90 : decode cX4_group 90 = .ok (.lload 5, 2) := dk_22 5 (dk_at dksX4_group_3 22 rfl rfl)
theorem dX4_group_92 : decode cX4_group 92 = .ok (.iload 8, 2) := dk_21 8 (dk_at dksX4_group_4 0 rfl rfl)
theorem dX4_group_94 : decode cX4_group 94 = .ok (.ldc 87, 2) := dk_18 87 (dk_at dksX4_group_4 2 rfl rfl)
theorem dX4_group_96 : decode cX4_group 96 = .ok (.if_icmp .ne 7, 3) := dk_160 0 7 (dk_at dksX4_group_4 4 rfl rfl)
theorem dX4_group_99 : decode cX4_group 99 = .ok (.lconst 0, 1) := dk_9 (dk_at dksX4_group_4 7 rfl rfl)
theorem dX4_group_100 : decode cX4_group 100 = .ok (.goto 6, 3) := dk_167 0 6 (dk_at dksX4_group_4 8 rfl rfl)
theorem dX4_group_103 : decode cX4_group 103 = .ok (.iload 8, 2) := dk_21 8 (dk_at dksX4_group_4 11 rfl rfl)
theorem dX4_group_105 : decode cX4_group 105 = .ok (.i2l, 1) := dk_133 (dk_at dksX4_group_4 13 rfl rfl)
theorem dX4_group_106 : decode cX4_group 106 = .ok (.ladd, 1) := dk_97 (dk_at dksX4_group_4 14 rfl rfl)
theorem dX4_group_107 : decode cX4_group 107 = .ok (.lstore 5, 2) := dk_55 5 (dk_at dksX4_group_4 15 rfl rfl)
theorem dX4_group_109 : decode cX4_group 109 = .ok (.iinc 7 1, 3) := dk_132 7 1 (dk_at dksX4_group_4 17 rfl rfl)
theorem dX4_group_112 : decode cX4_group 112 = .ok (.goto (-73), 3) := dk_167 255 183 (dk_at dksX4_group_4 20 rfl rfl)
theorem dX4_group_115 : decode cX4_group 115 = .ok (.lload 5, 2) := dk_22 5 (dk_at dksX4_group_5 0 rfl rfl)
theorem dX4_group_117 : decode cX4_group 117 = .ok (.lreturn, 1) := dk_173 (dk_at dksX4_group_5 2 rfl rfl)
abbrev cX4_keep : ByteArray := prog_13_method_43_code
def yX4_keep : MethodName := ⟨RX4, "keep", "()I"⟩
def dkwX4_keep_2 : List UInt8 := [132, 1, 1, 167, 255, 234, 42, 180, 0, 63, 172]
abbrev dktX4_keep_2 : List UInt8 := dkwX4_keep_2 ++ []
def dkwX4_keep_1 : List UInt8 := [181, 0, 63, 3, 60, 27, 17, 11, 190, 162, 0, 21, 42, 180, 0, 66, 27, 42, 180, 0, 50, 27, 46, 79]
abbrev dktX4_keep_1 : List UInt8 := dkwX4_keep_1 ++ dktX4_keep_2
def dkwX4_keep_0 : List UInt8 := [42, 180, 0, 46, 2, 160, 0, 5, 2, 172, 42, 42, 180, 0, 173, 181, 0, 188, 42, 42, 180, 0, 46]
abbrev dktX4_keep_0 : List UInt8 := dkwX4_keep_0 ++ dktX4_keep_1
theorem dksX4_keep_0 : cX4_keep.data.toList.drop 0 = dktX4_keep_0 := by decide +kernel
theorem dksX4_keep_1 : cX4_keep.data.toList.drop 23 = dktX4_keep_1 := dk_seg dksX4_keep_0 23 rfl rfl
theorem dksX4_keep_2 : cX4_keep.data.toList.drop 47 = dktX4_keep_2 := dk_seg dksX4_keep_1 24 rfl rfl
theorem dX4_keep_0 : decode cX4_keep 0 = .ok (.aload_n 0, 1) := dk_42 (dk_at dksX4_keep_0 0 rfl rfl)
theorem dX4_keep_1 : decode cX4_keep 1 = .ok (.getfield 46, 3) := dk_180 0 46 (dk_at dksX4_keep_0 1 rfl rfl)
theorem dX4_keep_4 : decode cX4_keep 4 = .ok (.iconst (-1), 1) := dk_2 (dk_at dksX4_keep_0 4 rfl rfl)
theorem dX4_keep_5 : decode cX4_keep 5 = .ok (.if_icmp .ne 5, 3) := dk_160 0 5 (dk_at dksX4_keep_0 5 rfl rfl)
theorem dX4_keep_8 : decode cX4_keep 8 = .ok (.iconst (-1), 1) := dk_2 (dk_at dksX4_keep_0 8 rfl rfl)
theorem dX4_keep_9 : decode cX4_keep 9 = .ok (.ireturn, 1) := dk_172 (dk_at dksX4_keep_0 9 rfl rfl)
theorem dX4_keep_10 : decode cX4_keep 10 = .ok (.aload_n 0, 1) := dk_42 (dk_at dksX4_keep_0 10 rfl rfl)
theorem dX4_keep_11 : decode cX4_keep 11 = .ok (.aload_n 0, 1) := dk_42 (dk_at dksX4_keep_0 11 rfl rfl)
theorem dX4_keep_12 : decode cX4_keep 12 = .ok (.getfield 173, 3) := dk_180 0 173 (dk_at dksX4_keep_0 12 rfl rfl)
theorem dX4_keep_15 : decode cX4_keep 15 = .ok (.putfield 188, 3) := dk_181 0 188 (dk_at dksX4_keep_0 15 rfl rfl)
theorem dX4_keep_18 : decode cX4_keep 18 = .ok (.aload_n 0, 1) := dk_42 (dk_at dksX4_keep_0 18 rfl rfl)
theorem dX4_keep_19 : decode cX4_keep 19 = .ok (.aload_n 0, 1) := dk_42 (dk_at dksX4_keep_0 19 rfl rfl)
theorem dX4_keep_20 : decode cX4_keep 20 = .ok (.getfield 46, 3) := dk_180 0 46 (dk_at dksX4_keep_0 20 rfl rfl)
theorem dX4_keep_23 : decode cX4_keep 23 = .ok (.putfield 63, 3) := dk_181 0 63 (dk_at dksX4_keep_1 0 rfl rfl)
theorem dX4_keep_26 : decode cX4_keep 26 = .ok (.iconst 0, 1) := dk_3 (dk_at dksX4_keep_1 3 rfl rfl)
theorem dX4_keep_27 : decode cX4_keep 27 = .ok (.istore_n 1, 1) := dk_60 (dk_at dksX4_keep_1 4 rfl rfl)
theorem dX4_keep_28 : decode cX4_keep 28 = .ok (.iload_n 1, 1) := dk_27 (dk_at dksX4_keep_1 5 rfl rfl)
theorem dX4_keep_29 : decode cX4_keep 29 = .ok (.sipush 3006, 3) := dk_17 11 190 (dk_at dksX4_keep_1 6 rfl rfl)
theorem dX4_keep_32 : decode cX4_keep 32 = .ok (.if_icmp .ge 21, 3) := dk_162 0 21 (dk_at dksX4_keep_1 9 rfl rfl)
theorem dX4_keep_35 : decode cX4_keep 35 = .ok (.aload_n 0, 1) := dk_42 (dk_at dksX4_keep_1 12 rfl rfl)
theorem dX4_keep_36 : decode cX4_keep 36 = .ok (.getfield 66, 3) := dk_180 0 66 (dk_at dksX4_keep_1 13 rfl rfl)
theorem dX4_keep_39 : decode cX4_keep 39 = .ok (.iload_n 1, 1) := dk_27 (dk_at dksX4_keep_1 16 rfl rfl)
theorem dX4_keep_40 : decode cX4_keep 40 = .ok (.aload_n 0, 1) := dk_42 (dk_at dksX4_keep_1 17 rfl rfl)
theorem dX4_keep_41 : decode cX4_keep 41 = .ok (.getfield 50, 3) := dk_180 0 50 (dk_at dksX4_keep_1 18 rfl rfl)
theorem dX4_keep_44 : decode cX4_keep 44 = .ok (.iload_n 1, 1) := dk_27 (dk_at dksX4_keep_1 21 rfl rfl)
theorem dX4_keep_45 : decode cX4_keep 45 = .ok (.iaload, 1) := dk_46 (dk_at dksX4_keep_1 22 rfl rfl)
theorem dX4_keep_46 : decode cX4_keep 46 = .ok (.iastore, 1) := dk_79 (dk_at dksX4_keep_1 23 rfl rfl)
theorem dX4_keep_47 : decode cX4_keep 47 = .ok (.iinc 1 1, 3) := dk_132 1 1 (dk_at dksX4_keep_2 0 rfl rfl)
theorem dX4_keep_50 : decode cX4_keep 50 = .ok (.goto (-22), 3) := dk_167 255 234 (dk_at dksX4_keep_2 3 rfl rfl)
theorem dX4_keep_53 : decode cX4_keep 53 = .ok (.aload_n 0, 1) := dk_42 (dk_at dksX4_keep_2 6 rfl rfl)
theorem dX4_keep_54 : decode cX4_keep 54 = .ok (.getfield 63, 3) := dk_180 0 63 (dk_at dksX4_keep_2 7 rfl rfl)
theorem dX4_keep_57 : decode cX4_keep 57 = .ok (.ireturn, 1) := dk_172 (dk_at dksX4_keep_2 10 rfl rfl)
abbrev cX4_delta : ByteArray := prog_13_method_47_code
def yX4_delta : MethodName := ⟨RX4, "delta", "(I)I"⟩
def dkwX4_delta_0 : List UInt8 := [42, 27, 182, 0, 195, 153, 0, 12, 42, 27, 2, 182, 0, 198, 167, 0, 4, 2, 172]
abbrev dktX4_delta_0 : List UInt8 := dkwX4_delta_0 ++ []
theorem dksX4_delta_0 : cX4_delta.data.toList.drop 0 = dktX4_delta_0 := by decide +kernel
theorem dX4_delta_0 : decode cX4_delta 0 = .ok (.aload_n 0, 1) := dk_42 (dk_at dksX4_delta_0 0 rfl rfl)
theorem dX4_delta_1 : decode cX4_delta 1 = .ok (.iload_n 1, 1) := dk_27 (dk_at dksX4_delta_0 1 rfl rfl)
theorem dX4_delta_2 : decode cX4_delta 2 = .ok (.invokevirtual 195, 3) := dk_182 0 195 (dk_at dksX4_delta_0 2 rfl rfl)
theorem dX4_delta_5 : decode cX4_delta 5 = .ok (.ifCond .eq 12, 3) := dk_153 0 12 (dk_at dksX4_delta_0 5 rfl rfl)
theorem dX4_delta_8 : decode cX4_delta 8 = .ok (.aload_n 0, 1) := dk_42 (dk_at dksX4_delta_0 8 rfl rfl)
theorem dX4_delta_9 : decode cX4_delta 9 = .ok (.iload_n 1, 1) := dk_27 (dk_at dksX4_delta_0 9 rfl rfl)
theorem dX4_delta_10 : decode cX4_delta 10 = .ok (.iconst (-1), 1) := dk_2 (dk_at dksX4_delta_0 10 rfl rfl)
theorem dX4_delta_11 : decode cX4_delta 11 = .ok (.invokevirtual 198, 3) := dk_182 0 198 (dk_at dksX4_delta_0 11 rfl rfl)
theorem dX4_delta_14 : decode cX4_delta 14 = .ok (.goto 4, 3) := dk_167 0 4 (dk_at dksX4_delta_0 14 rfl rfl)
theorem dX4_delta_17 : decode cX4_delta 17 = .ok (.iconst (-1), 1) := dk_2 (dk_at dksX4_delta_0 17 rfl rfl)
theorem dX4_delta_18 : decode cX4_delta 18 = .ok (.ireturn, 1) := dk_172 (dk_at dksX4_delta_0 18 rfl rfl)
abbrev cX4_differ : ByteArray := prog_13_method_46_code
def yX4_differ : MethodName := ⟨RX4, "differ", "(I)Z"⟩
def dkwX4_differ_1 : List UInt8 := [184, 0, 88, 153, 0, 7, 4, 167, 0, 4, 3, 172]
abbrev dktX4_differ_1 : List UInt8 := dkwX4_differ_1 ++ []
def dkwX4_differ_0 : List UInt8 := [42, 180, 0, 63, 2, 159, 0, 27, 42, 180, 0, 188, 42, 180, 0, 173, 160, 0, 16, 27, 3, 4]
abbrev dktX4_differ_0 : List UInt8 := dkwX4_differ_0 ++ dktX4_differ_1
theorem dksX4_differ_0 : cX4_differ.data.toList.drop 0 = dktX4_differ_0 := by decide +kernel
theorem dksX4_differ_1 : cX4_differ.data.toList.drop 22 = dktX4_differ_1 := dk_seg dksX4_differ_0 22 rfl rfl
theorem dX4_differ_0 : decode cX4_differ 0 = .ok (.aload_n 0, 1) := dk_42 (dk_at dksX4_differ_0 0 rfl rfl)
theorem dX4_differ_1 : decode cX4_differ 1 = .ok (.getfield 63, 3) := dk_180 0 63 (dk_at dksX4_differ_0 1 rfl rfl)
theorem dX4_differ_4 : decode cX4_differ 4 = .ok (.iconst (-1), 1) := dk_2 (dk_at dksX4_differ_0 4 rfl rfl)
theorem dX4_differ_5 : decode cX4_differ 5 = .ok (.if_icmp .eq 27, 3) := dk_159 0 27 (dk_at dksX4_differ_0 5 rfl rfl)
theorem dX4_differ_8 : decode cX4_differ 8 = .ok (.aload_n 0, 1) := dk_42 (dk_at dksX4_differ_0 8 rfl rfl)
theorem dX4_differ_9 : decode cX4_differ 9 = .ok (.getfield 188, 3) := dk_180 0 188 (dk_at dksX4_differ_0 9 rfl rfl)
theorem dX4_differ_12 : decode cX4_differ 12 = .ok (.aload_n 0, 1) := dk_42 (dk_at dksX4_differ_0 12 rfl rfl)
theorem dX4_differ_13 : decode cX4_differ 13 = .ok (.getfield 173, 3) := dk_180 0 173 (dk_at dksX4_differ_0 13 rfl rfl)
theorem dX4_differ_16 : decode cX4_differ 16 = .ok (.if_icmp .ne 16, 3) := dk_160 0 16 (dk_at dksX4_differ_0 16 rfl rfl)
theorem dX4_differ_19 : decode cX4_differ 19 = .ok (.iload_n 1, 1) := dk_27 (dk_at dksX4_differ_0 19 rfl rfl)
theorem dX4_differ_20 : decode cX4_differ 20 = .ok (.iconst 0, 1) := dk_3 (dk_at dksX4_differ_0 20 rfl rfl)
theorem dX4_differ_21 : decode cX4_differ 21 = .ok (.iconst 1, 1) := dk_4 (dk_at dksX4_differ_0 21 rfl rfl)
theorem dX4_differ_22 : decode cX4_differ 22 = .ok (.invokestatic 88, 3) := dk_184 0 88 (dk_at dksX4_differ_1 0 rfl rfl)
theorem dX4_differ_25 : decode cX4_differ 25 = .ok (.ifCond .eq 7, 3) := dk_153 0 7 (dk_at dksX4_differ_1 3 rfl rfl)
theorem dX4_differ_28 : decode cX4_differ 28 = .ok (.iconst 1, 1) := dk_4 (dk_at dksX4_differ_1 6 rfl rfl)
theorem dX4_differ_29 : decode cX4_differ 29 = .ok (.goto 4, 3) := dk_167 0 4 (dk_at dksX4_differ_1 7 rfl rfl)
theorem dX4_differ_32 : decode cX4_differ 32 = .ok (.iconst 0, 1) := dk_3 (dk_at dksX4_differ_1 10 rfl rfl)
theorem dX4_differ_33 : decode cX4_differ 33 = .ok (.ireturn, 1) := dk_172 (dk_at dksX4_differ_1 11 rfl rfl)
abbrev cX4_differs : ByteArray := prog_13_method_45_code
def yX4_differs : MethodName := ⟨RX4, "differs", "(II)I"⟩
def dkwX4_differs_4 : List UInt8 := [132, 3, 1, 132, 5, 1, 167, 255, 177, 28, 2, 160, 0, 7, 29, 167, 0, 4, 2, 172]
abbrev dktX4_differs_4 : List UInt8 := dkwX4_differs_4 ++ []
def dkwX4_differs_3 : List UInt8 := [180, 0, 46, 42, 180, 0, 188, 184, 0, 191, 153, 0, 6, 167, 0, 14, 29, 28, 160, 0, 6, 21, 5, 172]
abbrev dktX4_differs_3 : List UInt8 := dkwX4_differs_3 ++ dktX4_differs_4
def dkwX4_differs_2 : List UInt8 := [180, 0, 188, 184, 0, 191, 153, 0, 33, 167, 0, 41, 42, 180, 0, 66, 21, 5, 42, 180, 0, 50, 42]
abbrev dktX4_differs_2 : List UInt8 := dkwX4_differs_2 ++ dktX4_differs_3
def dkwX4_differs_1 : List UInt8 := [21, 4, 162, 0, 78, 27, 154, 0, 30, 42, 180, 0, 50, 21, 5, 42, 180, 0, 66, 42, 180, 0, 63, 42]
abbrev dktX4_differs_1 : List UInt8 := dkwX4_differs_1 ++ dktX4_differs_2
def dkwX4_differs_0 : List UInt8 := [3, 62, 27, 154, 0, 10, 42, 180, 0, 46, 167, 0, 7, 42, 180, 0, 63, 54, 4, 3, 54, 5, 21, 5]
abbrev dktX4_differs_0 : List UInt8 := dkwX4_differs_0 ++ dktX4_differs_1
theorem dksX4_differs_0 : cX4_differs.data.toList.drop 0 = dktX4_differs_0 := by decide +kernel
theorem dksX4_differs_1 : cX4_differs.data.toList.drop 24 = dktX4_differs_1 := dk_seg dksX4_differs_0 24 rfl rfl
theorem dksX4_differs_2 : cX4_differs.data.toList.drop 48 = dktX4_differs_2 := dk_seg dksX4_differs_1 24 rfl rfl
theorem dksX4_differs_3 : cX4_differs.data.toList.drop 71 = dktX4_differs_3 := dk_seg dksX4_differs_2 23 rfl rfl
theorem dksX4_differs_4 : cX4_differs.data.toList.drop 95 = dktX4_differs_4 := dk_seg dksX4_differs_3 24 rfl rfl
theorem dX4_differs_0 : decode cX4_differs 0 = .ok (.iconst 0, 1) := dk_3 (dk_at dksX4_differs_0 0 rfl rfl)
theorem dX4_differs_1 : decode cX4_differs 1 = .ok (.istore_n 3, 1) := dk_62 (dk_at dksX4_differs_0 1 rfl rfl)
theorem dX4_differs_2 : decode cX4_differs 2 = .ok (.iload_n 1, 1) := dk_27 (dk_at dksX4_differs_0 2 rfl rfl)
theorem dX4_differs_3 : decode cX4_differs 3 = .ok (.ifCond .ne 10, 3) := dk_154 0 10 (dk_at dksX4_differs_0 3 rfl rfl)
theorem dX4_differs_6 : decode cX4_differs 6 = .ok (.aload_n 0, 1) := dk_42 (dk_at dksX4_differs_0 6 rfl rfl)
theorem dX4_differs_7 : decode cX4_differs 7 = .ok (.getfield 46, 3) := dk_180 0 46 (dk_at dksX4_differs_0 7 rfl rfl)
theorem dX4_differs_10 : decode cX4_differs 10 = .ok (.goto 7, 3) := dk_167 0 7 (dk_at dksX4_differs_0 10 rfl rfl)
theorem dX4_differs_13 : decode cX4_differs 13 = .ok (.aload_n 0, 1) := dk_42 (dk_at dksX4_differs_0 13 rfl rfl)
theorem dX4_differs_14 : decode cX4_differs 14 = .ok (.getfield 63, 3) := dk_180 0 63 (dk_at dksX4_differs_0 14 rfl rfl)
theorem dX4_differs_17 : decode cX4_differs 17 = .ok (.istore 4, 2) := dk_54 4 (dk_at dksX4_differs_0 17 rfl rfl)
theorem dX4_differs_19 : decode cX4_differs 19 = .ok (.iconst 0, 1) := dk_3 (dk_at dksX4_differs_0 19 rfl rfl)
theorem dX4_differs_20 : decode cX4_differs 20 = .ok (.istore 5, 2) := dk_54 5 (dk_at dksX4_differs_0 20 rfl rfl)
theorem dX4_differs_22 : decode cX4_differs 22 = .ok (.iload 5, 2) := dk_21 5 (dk_at dksX4_differs_0 22 rfl rfl)
theorem dX4_differs_24 : decode cX4_differs 24 = .ok (.iload 4, 2) := dk_21 4 (dk_at dksX4_differs_1 0 rfl rfl)
theorem dX4_differs_26 : decode cX4_differs 26 = .ok (.if_icmp .ge 78, 3) := dk_162 0 78 (dk_at dksX4_differs_1 2 rfl rfl)
theorem dX4_differs_29 : decode cX4_differs 29 = .ok (.iload_n 1, 1) := dk_27 (dk_at dksX4_differs_1 5 rfl rfl)
theorem dX4_differs_30 : decode cX4_differs 30 = .ok (.ifCond .ne 30, 3) := dk_154 0 30 (dk_at dksX4_differs_1 6 rfl rfl)
theorem dX4_differs_33 : decode cX4_differs 33 = .ok (.aload_n 0, 1) := dk_42 (dk_at dksX4_differs_1 9 rfl rfl)
theorem dX4_differs_34 : decode cX4_differs 34 = .ok (.getfield 50, 3) := dk_180 0 50 (dk_at dksX4_differs_1 10 rfl rfl)
theorem dX4_differs_37 : decode cX4_differs 37 = .ok (.iload 5, 2) := dk_21 5 (dk_at dksX4_differs_1 13 rfl rfl)
theorem dX4_differs_39 : decode cX4_differs 39 = .ok (.aload_n 0, 1) := dk_42 (dk_at dksX4_differs_1 15 rfl rfl)
theorem dX4_differs_40 : decode cX4_differs 40 = .ok (.getfield 66, 3) := dk_180 0 66 (dk_at dksX4_differs_1 16 rfl rfl)
theorem dX4_differs_43 : decode cX4_differs 43 = .ok (.aload_n 0, 1) := dk_42 (dk_at dksX4_differs_1 19 rfl rfl)
theorem dX4_differs_44 : decode cX4_differs 44 = .ok (.getfield 63, 3) := dk_180 0 63 (dk_at dksX4_differs_1 20 rfl rfl)
theorem dX4_differs_47 : decode cX4_differs 47 = .ok (.aload_n 0, 1) := dk_42 (dk_at dksX4_differs_1 23 rfl rfl)
theorem dX4_differs_48 : decode cX4_differs 48 = .ok (.getfield 188, 3) := dk_180 0 188 (dk_at dksX4_differs_2 0 rfl rfl)
theorem dX4_differs_51 : decode cX4_differs 51 = .ok (.invokestatic 191, 3) := dk_184 0 191 (dk_at dksX4_differs_2 3 rfl rfl)
theorem dX4_differs_54 : decode cX4_differs 54 = .ok (.ifCond .eq 33, 3) := dk_153 0 33 (dk_at dksX4_differs_2 6 rfl rfl)
theorem dX4_differs_57 : decode cX4_differs 57 = .ok (.goto 41, 3) := dk_167 0 41 (dk_at dksX4_differs_2 9 rfl rfl)
theorem dX4_differs_60 : decode cX4_differs 60 = .ok (.aload_n 0, 1) := dk_42 (dk_at dksX4_differs_2 12 rfl rfl)
theorem dX4_differs_61 : decode cX4_differs 61 = .ok (.getfield 66, 3) := dk_180 0 66 (dk_at dksX4_differs_2 13 rfl rfl)
theorem dX4_differs_64 : decode cX4_differs 64 = .ok (.iload 5, 2) := dk_21 5 (dk_at dksX4_differs_2 16 rfl rfl)
theorem dX4_differs_66 : decode cX4_differs 66 = .ok (.aload_n 0, 1) := dk_42 (dk_at dksX4_differs_2 18 rfl rfl)
theorem dX4_differs_67 : decode cX4_differs 67 = .ok (.getfield 50, 3) := dk_180 0 50 (dk_at dksX4_differs_2 19 rfl rfl)
theorem dX4_differs_70 : decode cX4_differs 70 = .ok (.aload_n 0, 1) := dk_42 (dk_at dksX4_differs_2 22 rfl rfl)
theorem dX4_differs_71 : decode cX4_differs 71 = .ok (.getfield 46, 3) := dk_180 0 46 (dk_at dksX4_differs_3 0 rfl rfl)
theorem dX4_differs_74 : decode cX4_differs 74 = .ok (.aload_n 0, 1) := dk_42 (dk_at dksX4_differs_3 3 rfl rfl)
theorem dX4_differs_75 : decode cX4_differs 75 = .ok (.getfield 188, 3) := dk_180 0 188 (dk_at dksX4_differs_3 4 rfl rfl)
theorem dX4_differs_78 : decode cX4_differs 78 = .ok (.invokestatic 191, 3) := dk_184 0 191 (dk_at dksX4_differs_3 7 rfl rfl)
theorem dX4_differs_81 : decode cX4_differs 81 = .ok (.ifCond .eq 6, 3) := dk_153 0 6 (dk_at dksX4_differs_3 10 rfl rfl)
theorem dX4_differs_84 : decode cX4_differs 84 = .ok (.goto 14, 3) := dk_167 0 14 (dk_at dksX4_differs_3 13 rfl rfl)
theorem dX4_differs_87 : decode cX4_differs 87 = .ok (.iload_n 3, 1) := dk_29 (dk_at dksX4_differs_3 16 rfl rfl)
theorem dX4_differs_88 : decode cX4_differs 88 = .ok (.iload_n 2, 1) := dk_28 (dk_at dksX4_differs_3 17 rfl rfl)
theorem dX4_differs_89 : decode cX4_differs 89 = .ok (.if_icmp .ne 6, 3) := dk_160 0 6 (dk_at dksX4_differs_3 18 rfl rfl)
theorem dX4_differs_92 : decode cX4_differs 92 = .ok (.iload 5, 2) := dk_21 5 (dk_at dksX4_differs_3 21 rfl rfl)
theorem dX4_differs_94 : decode cX4_differs 94 = .ok (.ireturn, 1) := dk_172 (dk_at dksX4_differs_3 23 rfl rfl)
theorem dX4_differs_95 : decode cX4_differs 95 = .ok (.iinc 3 1, 3) := dk_132 3 1 (dk_at dksX4_differs_4 0 rfl rfl)
theorem dX4_differs_98 : decode cX4_differs 98 = .ok (.iinc 5 1, 3) := dk_132 5 1 (dk_at dksX4_differs_4 3 rfl rfl)
theorem dX4_differs_101 : decode cX4_differs 101 = .ok (.goto (-79), 3) := dk_167 255 177 (dk_at dksX4_differs_4 6 rfl rfl)
theorem dX4_differs_104 : decode cX4_differs 104 = .ok (.iload_n 2, 1) := dk_28 (dk_at dksX4_differs_4 9 rfl rfl)
theorem dX4_differs_105 : decode cX4_differs 105 = .ok (.iconst (-1), 1) := dk_2 (dk_at dksX4_differs_4 10 rfl rfl)
theorem dX4_differs_106 : decode cX4_differs 106 = .ok (.if_icmp .ne 7, 3) := dk_160 0 7 (dk_at dksX4_differs_4 11 rfl rfl)
theorem dX4_differs_109 : decode cX4_differs 109 = .ok (.iload_n 3, 1) := dk_29 (dk_at dksX4_differs_4 14 rfl rfl)
theorem dX4_differs_110 : decode cX4_differs 110 = .ok (.goto 4, 3) := dk_167 0 4 (dk_at dksX4_differs_4 15 rfl rfl)
theorem dX4_differs_113 : decode cX4_differs 113 = .ok (.iconst (-1), 1) := dk_2 (dk_at dksX4_differs_4 18 rfl rfl)
theorem dX4_differs_114 : decode cX4_differs 114 = .ok (.ireturn, 1) := dk_172 (dk_at dksX4_differs_4 19 rfl rfl)
abbrev cX4_isAmong : ByteArray := prog_13_method_44_code
def yX4_isAmong : MethodName := ⟨RX4, "isAmong", "([II[III)Z"⟩
def dkwX4_isAmong_1 : List UInt8 := [132, 5, 1, 167, 255, 232, 3, 172]
abbrev dktX4_isAmong_1 : List UInt8 := dkwX4_isAmong_1 ++ []
def dkwX4_isAmong_0 : List UInt8 := [3, 54, 5, 21, 5, 29, 162, 0, 24, 42, 27, 44, 21, 5, 21, 4, 184, 0, 179, 154, 0, 5, 4, 172]
abbrev dktX4_isAmong_0 : List UInt8 := dkwX4_isAmong_0 ++ dktX4_isAmong_1
theorem dksX4_isAmong_0 : cX4_isAmong.data.toList.drop 0 = dktX4_isAmong_0 := by decide +kernel
theorem dksX4_isAmong_1 : cX4_isAmong.data.toList.drop 24 = dktX4_isAmong_1 := dk_seg dksX4_isAmong_0 24 rfl rfl
theorem dX4_isAmong_0 : decode cX4_isAmong 0 = .ok (.iconst 0, 1) := dk_3 (dk_at dksX4_isAmong_0 0 rfl rfl)
theorem dX4_isAmong_1 : decode cX4_isAmong 1 = .ok (.istore 5, 2) := dk_54 5 (dk_at dksX4_isAmong_0 1 rfl rfl)
theorem dX4_isAmong_3 : decode cX4_isAmong 3 = .ok (.iload 5, 2) := dk_21 5 (dk_at dksX4_isAmong_0 3 rfl rfl)
theorem dX4_isAmong_5 : decode cX4_isAmong 5 = .ok (.iload_n 3, 1) := dk_29 (dk_at dksX4_isAmong_0 5 rfl rfl)
theorem dX4_isAmong_6 : decode cX4_isAmong 6 = .ok (.if_icmp .ge 24, 3) := dk_162 0 24 (dk_at dksX4_isAmong_0 6 rfl rfl)
theorem dX4_isAmong_9 : decode cX4_isAmong 9 = .ok (.aload_n 0, 1) := dk_42 (dk_at dksX4_isAmong_0 9 rfl rfl)
theorem dX4_isAmong_10 : decode cX4_isAmong 10 = .ok (.iload_n 1, 1) := dk_27 (dk_at dksX4_isAmong_0 10 rfl rfl)
theorem dX4_isAmong_11 : decode cX4_isAmong 11 = .ok (.aload_n 2, 1) := dk_44 (dk_at dksX4_isAmong_0 11 rfl rfl)
theorem dX4_isAmong_12 : decode cX4_isAmong 12 = .ok (.iload 5, 2) := dk_21 5 (dk_at dksX4_isAmong_0 12 rfl rfl)
theorem dX4_isAmong_14 : decode cX4_isAmong 14 = .ok (.iload 4, 2) := dk_21 4 (dk_at dksX4_isAmong_0 14 rfl rfl)
theorem dX4_isAmong_16 : decode cX4_isAmong 16 = .ok (.invokestatic 179, 3) := dk_184 0 179 (dk_at dksX4_isAmong_0 16 rfl rfl)
theorem dX4_isAmong_19 : decode cX4_isAmong 19 = .ok (.ifCond .ne 5, 3) := dk_154 0 5 (dk_at dksX4_isAmong_0 19 rfl rfl)
theorem dX4_isAmong_22 : decode cX4_isAmong 22 = .ok (.iconst 1, 1) := dk_4 (dk_at dksX4_isAmong_0 22 rfl rfl)
theorem dX4_isAmong_23 : decode cX4_isAmong 23 = .ok (.ireturn, 1) := dk_172 (dk_at dksX4_isAmong_0 23 rfl rfl)
theorem dX4_isAmong_24 : decode cX4_isAmong 24 = .ok (.iinc 5 1, 3) := dk_132 5 1 (dk_at dksX4_isAmong_1 0 rfl rfl)
theorem dX4_isAmong_27 : decode cX4_isAmong 27 = .ok (.goto (-24), 3) := dk_167 255 232 (dk_at dksX4_isAmong_1 3 rfl rfl)
theorem dX4_isAmong_30 : decode cX4_isAmong 30 = .ok (.iconst 0, 1) := dk_3 (dk_at dksX4_isAmong_1 6 rfl rfl)
theorem dX4_isAmong_31 : decode cX4_isAmong 31 = .ok (.ireturn, 1) := dk_172 (dk_at dksX4_isAmong_1 7 rfl rfl)
abbrev cX4_change : ByteArray := prog_13_method_48_code
def yX4_change : MethodName := ⟨RX4, "change", "(III)I"⟩
def dkwX4_change_2 : List UInt8 := [16, 6, 21, 4, 104, 29, 96, 46, 167, 0, 15, 42, 180, 0, 66, 16, 6, 21, 4, 104, 29, 96, 46, 172]
abbrev dktX4_change_2 : List UInt8 := dkwX4_change_2 ++ []
def dkwX4_change_1 : List UInt8 := [28, 182, 0, 198, 54, 4, 21, 4, 2, 160, 0, 7, 3, 167, 0, 34, 27, 154, 0, 18, 42, 180, 0, 50]
abbrev dktX4_change_1 : List UInt8 := dkwX4_change_1 ++ dktX4_change_2
def dkwX4_change_0 : List UInt8 := [42, 27, 182, 0, 195, 153, 0, 15, 28, 155, 0, 11, 42, 29, 182, 0, 182, 154, 0, 5, 3, 172, 42, 27]
abbrev dktX4_change_0 : List UInt8 := dkwX4_change_0 ++ dktX4_change_1
theorem dksX4_change_0 : cX4_change.data.toList.drop 0 = dktX4_change_0 := by decide +kernel
theorem dksX4_change_1 : cX4_change.data.toList.drop 24 = dktX4_change_1 := dk_seg dksX4_change_0 24 rfl rfl
theorem dksX4_change_2 : cX4_change.data.toList.drop 48 = dktX4_change_2 := dk_seg dksX4_change_1 24 rfl rfl
theorem dX4_change_0 : decode cX4_change 0 = .ok (.aload_n 0, 1) := dk_42 (dk_at dksX4_change_0 0 rfl rfl)
theorem dX4_change_1 : decode cX4_change 1 = .ok (.iload_n 1, 1) := dk_27 (dk_at dksX4_change_0 1 rfl rfl)
theorem dX4_change_2 : decode cX4_change 2 = .ok (.invokevirtual 195, 3) := dk_182 0 195 (dk_at dksX4_change_0 2 rfl rfl)
theorem dX4_change_5 : decode cX4_change 5 = .ok (.ifCond .eq 15, 3) := dk_153 0 15 (dk_at dksX4_change_0 5 rfl rfl)
theorem dX4_change_8 : decode cX4_change 8 = .ok (.iload_n 2, 1) := dk_28 (dk_at dksX4_change_0 8 rfl rfl)
theorem dX4_change_9 : decode cX4_change 9 = .ok (.ifCond .lt 11, 3) := dk_155 0 11 (dk_at dksX4_change_0 9 rfl rfl)
theorem dX4_change_12 : decode cX4_change 12 = .ok (.aload_n 0, 1) := dk_42 (dk_at dksX4_change_0 12 rfl rfl)
theorem dX4_change_13 : decode cX4_change 13 = .ok (.iload_n 3, 1) := dk_29 (dk_at dksX4_change_0 13 rfl rfl)
theorem dX4_change_14 : decode cX4_change 14 = .ok (.invokevirtual 182, 3) := dk_182 0 182 (dk_at dksX4_change_0 14 rfl rfl)
theorem dX4_change_17 : decode cX4_change 17 = .ok (.ifCond .ne 5, 3) := dk_154 0 5 (dk_at dksX4_change_0 17 rfl rfl)
theorem dX4_change_20 : decode cX4_change 20 = .ok (.iconst 0, 1) := dk_3 (dk_at dksX4_change_0 20 rfl rfl)
theorem dX4_change_21 : decode cX4_change 21 = .ok (.ireturn, 1) := dk_172 (dk_at dksX4_change_0 21 rfl rfl)
theorem dX4_change_22 : decode cX4_change 22 = .ok (.aload_n 0, 1) := dk_42 (dk_at dksX4_change_0 22 rfl rfl)
theorem dX4_change_23 : decode cX4_change 23 = .ok (.iload_n 1, 1) := dk_27 (dk_at dksX4_change_0 23 rfl rfl)
theorem dX4_change_24 : decode cX4_change 24 = .ok (.iload_n 2, 1) := dk_28 (dk_at dksX4_change_1 0 rfl rfl)
theorem dX4_change_25 : decode cX4_change 25 = .ok (.invokevirtual 198, 3) := dk_182 0 198 (dk_at dksX4_change_1 1 rfl rfl)
theorem dX4_change_28 : decode cX4_change 28 = .ok (.istore 4, 2) := dk_54 4 (dk_at dksX4_change_1 4 rfl rfl)
theorem dX4_change_30 : decode cX4_change 30 = .ok (.iload 4, 2) := dk_21 4 (dk_at dksX4_change_1 6 rfl rfl)
theorem dX4_change_32 : decode cX4_change 32 = .ok (.iconst (-1), 1) := dk_2 (dk_at dksX4_change_1 8 rfl rfl)
theorem dX4_change_33 : decode cX4_change 33 = .ok (.if_icmp .ne 7, 3) := dk_160 0 7 (dk_at dksX4_change_1 9 rfl rfl)
theorem dX4_change_36 : decode cX4_change 36 = .ok (.iconst 0, 1) := dk_3 (dk_at dksX4_change_1 12 rfl rfl)
theorem dX4_change_37 : decode cX4_change 37 = .ok (.goto 34, 3) := dk_167 0 34 (dk_at dksX4_change_1 13 rfl rfl)
theorem dX4_change_40 : decode cX4_change 40 = .ok (.iload_n 1, 1) := dk_27 (dk_at dksX4_change_1 16 rfl rfl)
theorem dX4_change_41 : decode cX4_change 41 = .ok (.ifCond .ne 18, 3) := dk_154 0 18 (dk_at dksX4_change_1 17 rfl rfl)
theorem dX4_change_44 : decode cX4_change 44 = .ok (.aload_n 0, 1) := dk_42 (dk_at dksX4_change_1 20 rfl rfl)
theorem dX4_change_45 : decode cX4_change 45 = .ok (.getfield 50, 3) := dk_180 0 50 (dk_at dksX4_change_1 21 rfl rfl)
theorem dX4_change_48 : decode cX4_change 48 = .ok (.bipush 6, 2) := dk_16 6 (dk_at dksX4_change_2 0 rfl rfl)
theorem dX4_change_50 : decode cX4_change 50 = .ok (.iload 4, 2) := dk_21 4 (dk_at dksX4_change_2 2 rfl rfl)
theorem dX4_change_52 : decode cX4_change 52 = .ok (.imul, 1) := dk_104 (dk_at dksX4_change_2 4 rfl rfl)
theorem dX4_change_53 : decode cX4_change 53 = .ok (.iload_n 3, 1) := dk_29 (dk_at dksX4_change_2 5 rfl rfl)
theorem dX4_change_54 : decode cX4_change 54 = .ok (.iadd, 1) := dk_96 (dk_at dksX4_change_2 6 rfl rfl)
theorem dX4_change_55 : decode cX4_change 55 = .ok (.iaload, 1) := dk_46 (dk_at dksX4_change_2 7 rfl rfl)
theorem dX4_change_56 : decode cX4_change 56 = .ok (.goto 15, 3) := dk_167 0 15 (dk_at dksX4_change_2 8 rfl rfl)
theorem dX4_change_59 : decode cX4_change 59 = .ok (.aload_n 0, 1) := dk_42 (dk_at dksX4_change_2 11 rfl rfl)
theorem dX4_change_60 : decode cX4_change 60 = .ok (.getfield 66, 3) := dk_180 0 66 (dk_at dksX4_change_2 12 rfl rfl)
theorem dX4_change_63 : decode cX4_change 63 = .ok (.bipush 6, 2) := dk_16 6 (dk_at dksX4_change_2 15 rfl rfl)
theorem dX4_change_65 : decode cX4_change 65 = .ok (.iload 4, 2) := dk_21 4 (dk_at dksX4_change_2 17 rfl rfl)
theorem dX4_change_67 : decode cX4_change 67 = .ok (.imul, 1) := dk_104 (dk_at dksX4_change_2 19 rfl rfl)
theorem dX4_change_68 : decode cX4_change 68 = .ok (.iload_n 3, 1) := dk_29 (dk_at dksX4_change_2 20 rfl rfl)
theorem dX4_change_69 : decode cX4_change 69 = .ok (.iadd, 1) := dk_96 (dk_at dksX4_change_2 21 rfl rfl)
theorem dX4_change_70 : decode cX4_change 70 = .ok (.iaload, 1) := dk_46 (dk_at dksX4_change_2 22 rfl rfl)
theorem dX4_change_71 : decode cX4_change 71 = .ok (.ireturn, 1) := dk_172 (dk_at dksX4_change_2 23 rfl rfl)
abbrev cX4_bound : ByteArray := prog_13_method_52_code
def yX4_bound : MethodName := ⟨RX4, "bound", "()J"⟩
def dkwX4_bound_0 : List UInt8 := [42, 182, 0, 166, 153, 0, 10, 42, 182, 0, 210, 167, 0, 6, 20, 0, 201, 173]
abbrev dktX4_bound_0 : List UInt8 := dkwX4_bound_0 ++ []
theorem dksX4_bound_0 : cX4_bound.data.toList.drop 0 = dktX4_bound_0 := by decide +kernel
theorem dX4_bound_0 : decode cX4_bound 0 = .ok (.aload_n 0, 1) := dk_42 (dk_at dksX4_bound_0 0 rfl rfl)
theorem dX4_bound_1 : decode cX4_bound 1 = .ok (.invokevirtual 166, 3) := dk_182 0 166 (dk_at dksX4_bound_0 1 rfl rfl)
theorem dX4_bound_4 : decode cX4_bound 4 = .ok (.ifCond .eq 10, 3) := dk_153 0 10 (dk_at dksX4_bound_0 4 rfl rfl)
theorem dX4_bound_7 : decode cX4_bound 7 = .ok (.aload_n 0, 1) := dk_42 (dk_at dksX4_bound_0 7 rfl rfl)
theorem dX4_bound_8 : decode cX4_bound 8 = .ok (.invokevirtual 210, 3) := dk_182 0 210 (dk_at dksX4_bound_0 8 rfl rfl)
theorem dX4_bound_11 : decode cX4_bound 11 = .ok (.goto 6, 3) := dk_167 0 6 (dk_at dksX4_bound_0 11 rfl rfl)
theorem dX4_bound_14 : decode cX4_bound 14 = .ok (.ldc2_w 201, 3) := dk_20 0 201 (dk_at dksX4_bound_0 14 rfl rfl)
theorem dX4_bound_17 : decode cX4_bound 17 = .ok (.lreturn, 1) := dk_173 (dk_at dksX4_bound_0 17 rfl rfl)
abbrev cX4_least : ByteArray := prog_13_method_51_code
def yX4_least : MethodName := ⟨RX4, "least", "()J"⟩
def dkwX4_least_8 : List UInt8 := [132, 8, 1, 167, 255, 230, 132, 4, 1, 167, 255, 116, 32, 173]
abbrev dktX4_least_8 : List UInt8 := dkwX4_least_8 ++ []
def dkwX4_least_7 : List UInt8 := [21, 8, 42, 180, 0, 92, 162, 0, 23, 42, 180, 0, 75, 21, 8, 42, 180, 0, 72, 21, 8, 46, 79]
abbrev dktX4_least_7 : List UInt8 := dkwX4_least_7 ++ dktX4_least_8
def dkwX4_least_6 : List UInt8 := [32, 20, 0, 201, 148, 153, 0, 13, 22, 6, 32, 148, 155, 0, 6, 167, 0, 38, 22, 6, 65, 3, 54, 8]
abbrev dktX4_least_6 : List UInt8 := dkwX4_least_6 ++ dktX4_least_7
def dkwX4_least_5 : List UInt8 := [54, 5, 132, 6, 255, 167, 255, 209, 42, 182, 0, 203, 154, 0, 6, 167, 0, 62, 42, 182, 0, 206, 55, 6]
abbrev dktX4_least_5 : List UInt8 := dkwX4_least_5 ++ dktX4_least_6
def dkwX4_least_4 : List UInt8 := [182, 0, 138, 154, 0, 6, 167, 0, 20, 42, 180, 0, 72, 21, 6, 21, 5, 6, 112, 79, 21, 5, 6, 108]
abbrev dktX4_least_4 : List UInt8 := dkwX4_least_4 ++ dktX4_least_5
def dkwX4_least_3 : List UInt8 := [4, 100, 54, 6, 21, 6, 155, 0, 48, 42, 180, 0, 19, 21, 6, 46, 154, 0, 32, 42, 21, 6]
abbrev dktX4_least_3 : List UInt8 := dkwX4_least_3 ++ dktX4_least_4
def dkwX4_least_2 : List UInt8 := [167, 255, 213, 20, 0, 201, 65, 3, 54, 4, 21, 4, 27, 162, 0, 140, 21, 4, 54, 5, 42, 180, 0, 92]
abbrev dktX4_least_2 : List UInt8 := dkwX4_least_2 ++ dktX4_least_3
def dkwX4_least_1 : List UInt8 := [28, 46, 154, 0, 15, 42, 28, 182, 0, 138, 153, 0, 7, 6, 167, 0, 4, 4, 104, 60, 132, 2, 1]
abbrev dktX4_least_1 : List UInt8 := dkwX4_least_1 ++ dktX4_least_2
def dkwX4_least_0 : List UInt8 := [4, 60, 3, 61, 28, 42, 180, 0, 92, 162, 0, 41, 42, 180, 0, 72, 28, 3, 79, 27, 42, 180, 0, 19]
abbrev dktX4_least_0 : List UInt8 := dkwX4_least_0 ++ dktX4_least_1
theorem dksX4_least_0 : cX4_least.data.toList.drop 0 = dktX4_least_0 := by decide +kernel
theorem dksX4_least_1 : cX4_least.data.toList.drop 24 = dktX4_least_1 := dk_seg dksX4_least_0 24 rfl rfl
theorem dksX4_least_2 : cX4_least.data.toList.drop 47 = dktX4_least_2 := dk_seg dksX4_least_1 23 rfl rfl
theorem dksX4_least_3 : cX4_least.data.toList.drop 71 = dktX4_least_3 := dk_seg dksX4_least_2 24 rfl rfl
theorem dksX4_least_4 : cX4_least.data.toList.drop 93 = dktX4_least_4 := dk_seg dksX4_least_3 22 rfl rfl
theorem dksX4_least_5 : cX4_least.data.toList.drop 117 = dktX4_least_5 := dk_seg dksX4_least_4 24 rfl rfl
theorem dksX4_least_6 : cX4_least.data.toList.drop 141 = dktX4_least_6 := dk_seg dksX4_least_5 24 rfl rfl
theorem dksX4_least_7 : cX4_least.data.toList.drop 165 = dktX4_least_7 := dk_seg dksX4_least_6 24 rfl rfl
theorem dksX4_least_8 : cX4_least.data.toList.drop 188 = dktX4_least_8 := dk_seg dksX4_least_7 23 rfl rfl
theorem dX4_least_0 : decode cX4_least 0 = .ok (.iconst 1, 1) := dk_4 (dk_at dksX4_least_0 0 rfl rfl)
theorem dX4_least_1 : decode cX4_least 1 = .ok (.istore_n 1, 1) := dk_60 (dk_at dksX4_least_0 1 rfl rfl)
theorem dX4_least_2 : decode cX4_least 2 = .ok (.iconst 0, 1) := dk_3 (dk_at dksX4_least_0 2 rfl rfl)
theorem dX4_least_3 : decode cX4_least 3 = .ok (.istore_n 2, 1) := dk_61 (dk_at dksX4_least_0 3 rfl rfl)
theorem dX4_least_4 : decode cX4_least 4 = .ok (.iload_n 2, 1) := dk_28 (dk_at dksX4_least_0 4 rfl rfl)
theorem dX4_least_5 : decode cX4_least 5 = .ok (.aload_n 0, 1) := dk_42 (dk_at dksX4_least_0 5 rfl rfl)
theorem dX4_least_6 : decode cX4_least 6 = .ok (.getfield 92, 3) := dk_180 0 92 (dk_at dksX4_least_0 6 rfl rfl)
theorem dX4_least_9 : decode cX4_least 9 = .ok (.if_icmp .ge 41, 3) := dk_162 0 41 (dk_at dksX4_least_0 9 rfl rfl)
theorem dX4_least_12 : decode cX4_least 12 = .ok (.aload_n 0, 1) := dk_42 (dk_at dksX4_least_0 12 rfl rfl)
theorem dX4_least_13 : decode cX4_least 13 = .ok (.getfield 72, 3) := dk_180 0 72 (dk_at dksX4_least_0 13 rfl rfl)
theorem dX4_least_16 : decode cX4_least 16 = .ok (.iload_n 2, 1) := dk_28 (dk_at dksX4_least_0 16 rfl rfl)
theorem dX4_least_17 : decode cX4_least 17 = .ok (.iconst 0, 1) := dk_3 (dk_at dksX4_least_0 17 rfl rfl)
theorem dX4_least_18 : decode cX4_least 18 = .ok (.iastore, 1) := dk_79 (dk_at dksX4_least_0 18 rfl rfl)
theorem dX4_least_19 : decode cX4_least 19 = .ok (.iload_n 1, 1) := dk_27 (dk_at dksX4_least_0 19 rfl rfl)
theorem dX4_least_20 : decode cX4_least 20 = .ok (.aload_n 0, 1) := dk_42 (dk_at dksX4_least_0 20 rfl rfl)
theorem dX4_least_21 : decode cX4_least 21 = .ok (.getfield 19, 3) := dk_180 0 19 (dk_at dksX4_least_0 21 rfl rfl)
theorem dX4_least_24 : decode cX4_least 24 = .ok (.iload_n 2, 1) := dk_28 (dk_at dksX4_least_1 0 rfl rfl)
theorem dX4_least_25 : decode cX4_least 25 = .ok (.iaload, 1) := dk_46 (dk_at dksX4_least_1 1 rfl rfl)
theorem dX4_least_26 : decode cX4_least 26 = .ok (.ifCond .ne 15, 3) := dk_154 0 15 (dk_at dksX4_least_1 2 rfl rfl)
theorem dX4_least_29 : decode cX4_least 29 = .ok (.aload_n 0, 1) := dk_42 (dk_at dksX4_least_1 5 rfl rfl)
theorem dX4_least_30 : decode cX4_least 30 = .ok (.iload_n 2, 1) := dk_28 (dk_at dksX4_least_1 6 rfl rfl)
theorem dX4_least_31 : decode cX4_least 31 = .ok (.invokevirtual 138, 3) := dk_182 0 138 (dk_at dksX4_least_1 7 rfl rfl)
theorem dX4_least_34 : decode cX4_least 34 = .ok (.ifCond .eq 7, 3) := dk_153 0 7 (dk_at dksX4_least_1 10 rfl rfl)
theorem dX4_least_37 : decode cX4_least 37 = .ok (.iconst 3, 1) := dk_6 (dk_at dksX4_least_1 13 rfl rfl)
theorem dX4_least_38 : decode cX4_least 38 = .ok (.goto 4, 3) := dk_167 0 4 (dk_at dksX4_least_1 14 rfl rfl)
theorem dX4_least_41 : decode cX4_least 41 = .ok (.iconst 1, 1) := dk_4 (dk_at dksX4_least_1 17 rfl rfl)
theorem dX4_least_42 : decode cX4_least 42 = .ok (.imul, 1) := dk_104 (dk_at dksX4_least_1 18 rfl rfl)
theorem dX4_least_43 : decode cX4_least 43 = .ok (.istore_n 1, 1) := dk_60 (dk_at dksX4_least_1 19 rfl rfl)
theorem dX4_least_44 : decode cX4_least 44 = .ok (.iinc 2 1, 3) := dk_132 2 1 (dk_at dksX4_least_1 20 rfl rfl)
theorem dX4_least_47 : decode cX4_least 47 = .ok (.goto (-43), 3) := dk_167 255 213 (dk_at dksX4_least_2 0 rfl rfl)
theorem dX4_least_50 : decode cX4_least 50 = .ok (.ldc2_w 201, 3) := dk_20 0 201 (dk_at dksX4_least_2 3 rfl rfl)
theorem dX4_least_53 : decode cX4_least 53 = .ok (.lstore_n 2, 1) := dk_65 (dk_at dksX4_least_2 6 rfl rfl)
theorem dX4_least_54 : decode cX4_least 54 = .ok (.iconst 0, 1) := dk_3 (dk_at dksX4_least_2 7 rfl rfl)
theorem dX4_least_55 : decode cX4_least 55 = .ok (.istore 4, 2) := dk_54 4 (dk_at dksX4_least_2 8 rfl rfl)
theorem dX4_least_57 : decode cX4_least 57 = .ok (.iload 4, 2) := dk_21 4 (dk_at dksX4_least_2 10 rfl rfl)
theorem dX4_least_59 : decode cX4_least 59 = .ok (.iload_n 1, 1) := dk_27 (dk_at dksX4_least_2 12 rfl rfl)
theorem dX4_least_60 : decode cX4_least 60 = .ok (.if_icmp .ge 140, 3) := dk_162 0 140 (dk_at dksX4_least_2 13 rfl rfl)
theorem dX4_least_63 : decode cX4_least 63 = .ok (.iload 4, 2) := dk_21 4 (dk_at dksX4_least_2 16 rfl rfl)
theorem dX4_least_65 : decode cX4_least 65 = .ok (.istore 5, 2) := dk_54 5 (dk_at dksX4_least_2 18 rfl rfl)
theorem dX4_least_67 : decode cX4_least 67 = .ok (.aload_n 0, 1) := dk_42 (dk_at dksX4_least_2 20 rfl rfl)
theorem dX4_least_68 : decode cX4_least 68 = .ok (.getfield 92, 3) := dk_180 0 92 (dk_at dksX4_least_2 21 rfl rfl)
theorem dX4_least_71 : decode cX4_least 71 = .ok (.iconst 1, 1) := dk_4 (dk_at dksX4_least_3 0 rfl rfl)
theorem dX4_least_72 : decode cX4_least 72 = .ok (.isub, 1) := dk_100 (dk_at dksX4_least_3 1 rfl rfl)
theorem dX4_least_73 : decode cX4_least 73 = .ok (.istore 6, 2) := dk_54 6 (dk_at dksX4_least_3 2 rfl rfl)
theorem dX4_least_75 : decode cX4_least 75 = .ok (.iload 6, 2) := dk_21 6 (dk_at dksX4_least_3 4 rfl rfl)
theorem dX4_least_77 : decode cX4_least 77 = .ok (.ifCond .lt 48, 3) := dk_155 0 48 (dk_at dksX4_least_3 6 rfl rfl)
theorem dX4_least_80 : decode cX4_least 80 = .ok (.aload_n 0, 1) := dk_42 (dk_at dksX4_least_3 9 rfl rfl)
theorem dX4_least_81 : decode cX4_least 81 = .ok (.getfield 19, 3) := dk_180 0 19 (dk_at dksX4_least_3 10 rfl rfl)
theorem dX4_least_84 : decode cX4_least 84 = .ok (.iload 6, 2) := dk_21 6 (dk_at dksX4_least_3 13 rfl rfl)
theorem dX4_least_86 : decode cX4_least 86 = .ok (.iaload, 1) := dk_46 (dk_at dksX4_least_3 15 rfl rfl)
theorem dX4_least_87 : decode cX4_least 87 = .ok (.ifCond .ne 32, 3) := dk_154 0 32 (dk_at dksX4_least_3 16 rfl rfl)
theorem dX4_least_90 : decode cX4_least 90 = .ok (.aload_n 0, 1) := dk_42 (dk_at dksX4_least_3 19 rfl rfl)
theorem dX4_least_91 : decode cX4_least 91 = .ok (.iload 6, 2) := dk_21 6 (dk_at dksX4_least_3 20 rfl rfl)
theorem dX4_least_93 : decode cX4_least 93 = .ok (.invokevirtual 138, 3) := dk_182 0 138 (dk_at dksX4_least_4 0 rfl rfl)
theorem dX4_least_96 : decode cX4_least 96 = .ok (.ifCond .ne 6, 3) := dk_154 0 6 (dk_at dksX4_least_4 3 rfl rfl)
theorem dX4_least_99 : decode cX4_least 99 = .ok (.goto 20, 3) := dk_167 0 20 (dk_at dksX4_least_4 6 rfl rfl)
theorem dX4_least_102 : decode cX4_least 102 = .ok (.aload_n 0, 1) := dk_42 (dk_at dksX4_least_4 9 rfl rfl)
theorem dX4_least_103 : decode cX4_least 103 = .ok (.getfield 72, 3) := dk_180 0 72 (dk_at dksX4_least_4 10 rfl rfl)
theorem dX4_least_106 : decode cX4_least 106 = .ok (.iload 6, 2) := dk_21 6 (dk_at dksX4_least_4 13 rfl rfl)
theorem dX4_least_108 : decode cX4_least 108 = .ok (.iload 5, 2) := dk_21 5 (dk_at dksX4_least_4 15 rfl rfl)
theorem dX4_least_110 : decode cX4_least 110 = .ok (.iconst 3, 1) := dk_6 (dk_at dksX4_least_4 17 rfl rfl)
theorem dX4_least_111 : decode cX4_least 111 = .ok (.irem, 1) := dk_112 (dk_at dksX4_least_4 18 rfl rfl)
theorem dX4_least_112 : decode cX4_least 112 = .ok (.iastore, 1) := dk_79 (dk_at dksX4_least_4 19 rfl rfl)
theorem dX4_least_113 : decode cX4_least 113 = .ok (.iload 5, 2) := dk_21 5 (dk_at dksX4_least_4 20 rfl rfl)
theorem dX4_least_115 : decode cX4_least 115 = .ok (.iconst 3, 1) := dk_6 (dk_at dksX4_least_4 22 rfl rfl)
theorem dX4_least_116 : decode cX4_least 116 = .ok (.idiv, 1) := dk_108 (dk_at dksX4_least_4 23 rfl rfl)
theorem dX4_least_117 : decode cX4_least 117 = .ok (.istore 5, 2) := dk_54 5 (dk_at dksX4_least_5 0 rfl rfl)
theorem dX4_least_119 : decode cX4_least 119 = .ok (.iinc 6 (-1), 3) := dk_132 6 255 (dk_at dksX4_least_5 2 rfl rfl)
theorem dX4_least_122 : decode cX4_least 122 = .ok (.goto (-47), 3) := dk_167 255 209 (dk_at dksX4_least_5 5 rfl rfl)
theorem dX4_least_125 : decode cX4_least 125 = .ok (.aload_n 0, 1) := dk_42 (dk_at dksX4_least_5 8 rfl rfl)
theorem dX4_least_126 : decode cX4_least 126 = .ok (.invokevirtual 203, 3) := dk_182 0 203 (dk_at dksX4_least_5 9 rfl rfl)
theorem dX4_least_129 : decode cX4_least 129 = .ok (.ifCond .ne 6, 3) := dk_154 0 6 (dk_at dksX4_least_5 12 rfl rfl)
theorem dX4_least_132 : decode cX4_least 132 = .ok (.goto 62, 3) := dk_167 0 62 (dk_at dksX4_least_5 15 rfl rfl)
theorem dX4_least_135 : decode cX4_least 135 = .ok (.aload_n 0, 1) := dk_42 (dk_at dksX4_least_5 18 rfl rfl)
theorem dX4_least_136 : decode cX4_least 136 = .ok (.invokevirtual 206, 3) := dk_182 0 206 (dk_at dksX4_least_5 19 rfl rfl)
theorem dX4_least_139 : decode cX4_least 139 = .ok (.lstore 6, 2) := dk_55 6 (dk_at dksX4_least_5 22 rfl rfl)
theorem dX4_least_141 : decode cX4_least 141 = .ok (.lload_n 2, 1) := dk_32 (dk_at dksX4_least_6 0 rfl rfl)
theorem dX4_least_142 : decode cX4_least 142 = .ok (.ldc2_w 201, 3) := dk_20 0 201 (dk_at dksX4_least_6 1 rfl rfl)
theorem dX4_least_145 : decode cX4_least 145 = .ok (.lcmp, 1) := dk_148 (dk_at dksX4_least_6 4 rfl rfl)
theorem dX4_least_146 : decode cX4_least 146 = .ok (.ifCond .eq 13, 3) := dk_153 0 13 (dk_at dksX4_least_6 5 rfl rfl)
theorem dX4_least_149 : decode cX4_least 149 = .ok (.lload 6, 2) := dk_22 6 (dk_at dksX4_least_6 8 rfl rfl)
theorem dX4_least_151 : decode cX4_least 151 = .ok (.lload_n 2, 1) := dk_32 (dk_at dksX4_least_6 10 rfl rfl)
theorem dX4_least_152 : decode cX4_least 152 = .ok (.lcmp, 1) := dk_148 (dk_at dksX4_least_6 11 rfl rfl)
theorem dX4_least_153 : decode cX4_least 153 = .ok (.ifCond .lt 6, 3) := dk_155 0 6 (dk_at dksX4_least_6 12 rfl rfl)
theorem dX4_least_156 : decode cX4_least 156 = .ok (.goto 38, 3) := dk_167 0 38 (dk_at dksX4_least_6 15 rfl rfl)
theorem dX4_least_159 : decode cX4_least 159 = .ok (.lload 6, 2) := dk_22 6 (dk_at dksX4_least_6 18 rfl rfl)
theorem dX4_least_161 : decode cX4_least 161 = .ok (.lstore_n 2, 1) := dk_65 (dk_at dksX4_least_6 20 rfl rfl)
theorem dX4_least_162 : decode cX4_least 162 = .ok (.iconst 0, 1) := dk_3 (dk_at dksX4_least_6 21 rfl rfl)
theorem dX4_least_163 : decode cX4_least 163 = .ok (.istore 8, 2) := dk_54 8 (dk_at dksX4_least_6 22 rfl rfl)
theorem dX4_least_165 : decode cX4_least 165 = .ok (.iload 8, 2) := dk_21 8 (dk_at dksX4_least_7 0 rfl rfl)
theorem dX4_least_167 : decode cX4_least 167 = .ok (.aload_n 0, 1) := dk_42 (dk_at dksX4_least_7 2 rfl rfl)
theorem dX4_least_168 : decode cX4_least 168 = .ok (.getfield 92, 3) := dk_180 0 92 (dk_at dksX4_least_7 3 rfl rfl)
theorem dX4_least_171 : decode cX4_least 171 = .ok (.if_icmp .ge 23, 3) := dk_162 0 23 (dk_at dksX4_least_7 6 rfl rfl)
theorem dX4_least_174 : decode cX4_least 174 = .ok (.aload_n 0, 1) := dk_42 (dk_at dksX4_least_7 9 rfl rfl)
theorem dX4_least_175 : decode cX4_least 175 = .ok (.getfield 75, 3) := dk_180 0 75 (dk_at dksX4_least_7 10 rfl rfl)
theorem dX4_least_178 : decode cX4_least 178 = .ok (.iload 8, 2) := dk_21 8 (dk_at dksX4_least_7 13 rfl rfl)
theorem dX4_least_180 : decode cX4_least 180 = .ok (.aload_n 0, 1) := dk_42 (dk_at dksX4_least_7 15 rfl rfl)
theorem dX4_least_181 : decode cX4_least 181 = .ok (.getfield 72, 3) := dk_180 0 72 (dk_at dksX4_least_7 16 rfl rfl)
theorem dX4_least_184 : decode cX4_least 184 = .ok (.iload 8, 2) := dk_21 8 (dk_at dksX4_least_7 19 rfl rfl)
theorem dX4_least_186 : decode cX4_least 186 = .ok (.iaload, 1) := dk_46 (dk_at dksX4_least_7 21 rfl rfl)
theorem dX4_least_187 : decode cX4_least 187 = .ok (.iastore, 1) := dk_79 (dk_at dksX4_least_7 22 rfl rfl)
theorem dX4_least_188 : decode cX4_least 188 = .ok (.iinc 8 1, 3) := dk_132 8 1 (dk_at dksX4_least_8 0 rfl rfl)
theorem dX4_least_191 : decode cX4_least 191 = .ok (.goto (-26), 3) := dk_167 255 230 (dk_at dksX4_least_8 3 rfl rfl)
theorem dX4_least_194 : decode cX4_least 194 = .ok (.iinc 4 1, 3) := dk_132 4 1 (dk_at dksX4_least_8 6 rfl rfl)
theorem dX4_least_197 : decode cX4_least 197 = .ok (.goto (-140), 3) := dk_167 255 116 (dk_at dksX4_least_8 9 rfl rfl)
theorem dX4_least_200 : decode cX4_least 200 = .ok (.lload_n 2, 1) := dk_32 (dk_at dksX4_least_8 12 rfl rfl)
theorem dX4_least_201 : decode cX4_least 201 = .ok (.lreturn, 1) := dk_173 (dk_at dksX4_least_8 13 rfl rfl)
abbrev cX4_covers : ByteArray := prog_13_method_49_code
def yX4_covers : MethodName := ⟨RX4, "covers", "()Z"⟩
def dkwX4_covers_3 : List UInt8 := [167, 255, 189, 4, 172]
abbrev dktX4_covers_3 : List UInt8 := dkwX4_covers_3 ++ []
def dkwX4_covers_2 : List UInt8 := [167, 0, 4, 3, 96, 61, 132, 3, 1, 167, 255, 214, 28, 5, 162, 0, 5, 3, 172, 132, 1, 1]
abbrev dktX4_covers_2 : List UInt8 := dkwX4_covers_2 ++ dktX4_covers_3
def dkwX4_covers_1 : List UInt8 := [180, 0, 19, 29, 46, 154, 0, 21, 42, 29, 27, 182, 0, 125, 153, 0, 12, 42, 180, 0, 72, 29, 46]
abbrev dktX4_covers_1 : List UInt8 := dkwX4_covers_1 ++ dktX4_covers_2
def dkwX4_covers_0 : List UInt8 := [3, 60, 27, 42, 180, 0, 119, 162, 0, 65, 3, 61, 3, 62, 29, 42, 180, 0, 92, 162, 0, 40, 28, 42]
abbrev dktX4_covers_0 : List UInt8 := dkwX4_covers_0 ++ dktX4_covers_1
theorem dksX4_covers_0 : cX4_covers.data.toList.drop 0 = dktX4_covers_0 := by decide +kernel
theorem dksX4_covers_1 : cX4_covers.data.toList.drop 24 = dktX4_covers_1 := dk_seg dksX4_covers_0 24 rfl rfl
theorem dksX4_covers_2 : cX4_covers.data.toList.drop 47 = dktX4_covers_2 := dk_seg dksX4_covers_1 23 rfl rfl
theorem dksX4_covers_3 : cX4_covers.data.toList.drop 69 = dktX4_covers_3 := dk_seg dksX4_covers_2 22 rfl rfl
theorem dX4_covers_0 : decode cX4_covers 0 = .ok (.iconst 0, 1) := dk_3 (dk_at dksX4_covers_0 0 rfl rfl)
theorem dX4_covers_1 : decode cX4_covers 1 = .ok (.istore_n 1, 1) := dk_60 (dk_at dksX4_covers_0 1 rfl rfl)
theorem dX4_covers_2 : decode cX4_covers 2 = .ok (.iload_n 1, 1) := dk_27 (dk_at dksX4_covers_0 2 rfl rfl)
theorem dX4_covers_3 : decode cX4_covers 3 = .ok (.aload_n 0, 1) := dk_42 (dk_at dksX4_covers_0 3 rfl rfl)
theorem dX4_covers_4 : decode cX4_covers 4 = .ok (.getfield 119, 3) := dk_180 0 119 (dk_at dksX4_covers_0 4 rfl rfl)
theorem dX4_covers_7 : decode cX4_covers 7 = .ok (.if_icmp .ge 65, 3) := dk_162 0 65 (dk_at dksX4_covers_0 7 rfl rfl)
theorem dX4_covers_10 : decode cX4_covers 10 = .ok (.iconst 0, 1) := dk_3 (dk_at dksX4_covers_0 10 rfl rfl)
theorem dX4_covers_11 : decode cX4_covers 11 = .ok (.istore_n 2, 1) := dk_61 (dk_at dksX4_covers_0 11 rfl rfl)
theorem dX4_covers_12 : decode cX4_covers 12 = .ok (.iconst 0, 1) := dk_3 (dk_at dksX4_covers_0 12 rfl rfl)
theorem dX4_covers_13 : decode cX4_covers 13 = .ok (.istore_n 3, 1) := dk_62 (dk_at dksX4_covers_0 13 rfl rfl)
theorem dX4_covers_14 : decode cX4_covers 14 = .ok (.iload_n 3, 1) := dk_29 (dk_at dksX4_covers_0 14 rfl rfl)
theorem dX4_covers_15 : decode cX4_covers 15 = .ok (.aload_n 0, 1) := dk_42 (dk_at dksX4_covers_0 15 rfl rfl)
theorem dX4_covers_16 : decode cX4_covers 16 = .ok (.getfield 92, 3) := dk_180 0 92 (dk_at dksX4_covers_0 16 rfl rfl)
theorem dX4_covers_19 : decode cX4_covers 19 = .ok (.if_icmp .ge 40, 3) := dk_162 0 40 (dk_at dksX4_covers_0 19 rfl rfl)
theorem dX4_covers_22 : decode cX4_covers 22 = .ok (.iload_n 2, 1) := dk_28 (dk_at dksX4_covers_0 22 rfl rfl)
theorem dX4_covers_23 : decode cX4_covers 23 = .ok (.aload_n 0, 1) := dk_42 (dk_at dksX4_covers_0 23 rfl rfl)
theorem dX4_covers_24 : decode cX4_covers 24 = .ok (.getfield 19, 3) := dk_180 0 19 (dk_at dksX4_covers_1 0 rfl rfl)
theorem dX4_covers_27 : decode cX4_covers 27 = .ok (.iload_n 3, 1) := dk_29 (dk_at dksX4_covers_1 3 rfl rfl)
theorem dX4_covers_28 : decode cX4_covers 28 = .ok (.iaload, 1) := dk_46 (dk_at dksX4_covers_1 4 rfl rfl)
theorem dX4_covers_29 : decode cX4_covers 29 = .ok (.ifCond .ne 21, 3) := dk_154 0 21 (dk_at dksX4_covers_1 5 rfl rfl)
theorem dX4_covers_32 : decode cX4_covers 32 = .ok (.aload_n 0, 1) := dk_42 (dk_at dksX4_covers_1 8 rfl rfl)
theorem dX4_covers_33 : decode cX4_covers 33 = .ok (.iload_n 3, 1) := dk_29 (dk_at dksX4_covers_1 9 rfl rfl)
theorem dX4_covers_34 : decode cX4_covers 34 = .ok (.iload_n 1, 1) := dk_27 (dk_at dksX4_covers_1 10 rfl rfl)
theorem dX4_covers_35 : decode cX4_covers 35 = .ok (.invokevirtual 125, 3) := dk_182 0 125 (dk_at dksX4_covers_1 11 rfl rfl)
theorem dX4_covers_38 : decode cX4_covers 38 = .ok (.ifCond .eq 12, 3) := dk_153 0 12 (dk_at dksX4_covers_1 14 rfl rfl)
theorem dX4_covers_41 : decode cX4_covers 41 = .ok (.aload_n 0, 1) := dk_42 (dk_at dksX4_covers_1 17 rfl rfl)
theorem dX4_covers_42 : decode cX4_covers 42 = .ok (.getfield 72, 3) := dk_180 0 72 (dk_at dksX4_covers_1 18 rfl rfl)
theorem dX4_covers_45 : decode cX4_covers 45 = .ok (.iload_n 3, 1) := dk_29 (dk_at dksX4_covers_1 21 rfl rfl)
theorem dX4_covers_46 : decode cX4_covers 46 = .ok (.iaload, 1) := dk_46 (dk_at dksX4_covers_1 22 rfl rfl)
theorem dX4_covers_47 : decode cX4_covers 47 = .ok (.goto 4, 3) := dk_167 0 4 (dk_at dksX4_covers_2 0 rfl rfl)
theorem dX4_covers_50 : decode cX4_covers 50 = .ok (.iconst 0, 1) := dk_3 (dk_at dksX4_covers_2 3 rfl rfl)
theorem dX4_covers_51 : decode cX4_covers 51 = .ok (.iadd, 1) := dk_96 (dk_at dksX4_covers_2 4 rfl rfl)
theorem dX4_covers_52 : decode cX4_covers 52 = .ok (.istore_n 2, 1) := dk_61 (dk_at dksX4_covers_2 5 rfl rfl)
theorem dX4_covers_53 : decode cX4_covers 53 = .ok (.iinc 3 1, 3) := dk_132 3 1 (dk_at dksX4_covers_2 6 rfl rfl)
theorem dX4_covers_56 : decode cX4_covers 56 = .ok (.goto (-42), 3) := dk_167 255 214 (dk_at dksX4_covers_2 9 rfl rfl)
theorem dX4_covers_59 : decode cX4_covers 59 = .ok (.iload_n 2, 1) := dk_28 (dk_at dksX4_covers_2 12 rfl rfl)
theorem dX4_covers_60 : decode cX4_covers 60 = .ok (.iconst 2, 1) := dk_5 (dk_at dksX4_covers_2 13 rfl rfl)
theorem dX4_covers_61 : decode cX4_covers 61 = .ok (.if_icmp .ge 5, 3) := dk_162 0 5 (dk_at dksX4_covers_2 14 rfl rfl)
theorem dX4_covers_64 : decode cX4_covers 64 = .ok (.iconst 0, 1) := dk_3 (dk_at dksX4_covers_2 17 rfl rfl)
theorem dX4_covers_65 : decode cX4_covers 65 = .ok (.ireturn, 1) := dk_172 (dk_at dksX4_covers_2 18 rfl rfl)
theorem dX4_covers_66 : decode cX4_covers 66 = .ok (.iinc 1 1, 3) := dk_132 1 1 (dk_at dksX4_covers_2 19 rfl rfl)
theorem dX4_covers_69 : decode cX4_covers 69 = .ok (.goto (-67), 3) := dk_167 255 189 (dk_at dksX4_covers_3 0 rfl rfl)
theorem dX4_covers_72 : decode cX4_covers 72 = .ok (.iconst 1, 1) := dk_4 (dk_at dksX4_covers_3 3 rfl rfl)
theorem dX4_covers_73 : decode cX4_covers 73 = .ok (.ireturn, 1) := dk_172 (dk_at dksX4_covers_3 4 rfl rfl)
abbrev cX4_product : ByteArray := prog_13_method_50_code
def yX4_product : MethodName := ⟨RX4, "product", "()J"⟩
def dkwX4_product_2 : List UInt8 := [132, 3, 1, 167, 255, 210, 31, 173]
abbrev dktX4_product_2 : List UInt8 := dkwX4_product_2 ++ []
def dkwX4_product_1 : List UInt8 := [162, 0, 24, 31, 42, 180, 0, 13, 42, 180, 0, 22, 29, 46, 46, 133, 105, 64, 132, 4, 1, 167, 255, 227]
abbrev dktX4_product_1 : List UInt8 := dkwX4_product_1 ++ dktX4_product_2
def dkwX4_product_0 : List UInt8 := [10, 64, 3, 62, 29, 42, 180, 0, 92, 162, 0, 44, 3, 54, 4, 21, 4, 42, 180, 0, 72, 29, 46]
abbrev dktX4_product_0 : List UInt8 := dkwX4_product_0 ++ dktX4_product_1
theorem dksX4_product_0 : cX4_product.data.toList.drop 0 = dktX4_product_0 := by decide +kernel
theorem dksX4_product_1 : cX4_product.data.toList.drop 23 = dktX4_product_1 := dk_seg dksX4_product_0 23 rfl rfl
theorem dksX4_product_2 : cX4_product.data.toList.drop 47 = dktX4_product_2 := dk_seg dksX4_product_1 24 rfl rfl
theorem dX4_product_0 : decode cX4_product 0 = .ok (.lconst 1, 1) := dk_10 (dk_at dksX4_product_0 0 rfl rfl)
theorem dX4_product_1 : decode cX4_product 1 = .ok (.lstore_n 1, 1) := dk_64 (dk_at dksX4_product_0 1 rfl rfl)
theorem dX4_product_2 : decode cX4_product 2 = .ok (.iconst 0, 1) := dk_3 (dk_at dksX4_product_0 2 rfl rfl)
theorem dX4_product_3 : decode cX4_product 3 = .ok (.istore_n 3, 1) := dk_62 (dk_at dksX4_product_0 3 rfl rfl)
theorem dX4_product_4 : decode cX4_product 4 = .ok (.iload_n 3, 1) := dk_29 (dk_at dksX4_product_0 4 rfl rfl)
theorem dX4_product_5 : decode cX4_product 5 = .ok (.aload_n 0, 1) := dk_42 (dk_at dksX4_product_0 5 rfl rfl)
theorem dX4_product_6 : decode cX4_product 6 = .ok (.getfield 92, 3) := dk_180 0 92 (dk_at dksX4_product_0 6 rfl rfl)
theorem dX4_product_9 : decode cX4_product 9 = .ok (.if_icmp .ge 44, 3) := dk_162 0 44 (dk_at dksX4_product_0 9 rfl rfl)
theorem dX4_product_12 : decode cX4_product 12 = .ok (.iconst 0, 1) := dk_3 (dk_at dksX4_product_0 12 rfl rfl)
theorem dX4_product_13 : decode cX4_product 13 = .ok (.istore 4, 2) := dk_54 4 (dk_at dksX4_product_0 13 rfl rfl)
theorem dX4_product_15 : decode cX4_product 15 = .ok (.iload 4, 2) := dk_21 4 (dk_at dksX4_product_0 15 rfl rfl)
theorem dX4_product_17 : decode cX4_product 17 = .ok (.aload_n 0, 1) := dk_42 (dk_at dksX4_product_0 17 rfl rfl)
theorem dX4_product_18 : decode cX4_product 18 = .ok (.getfield 72, 3) := dk_180 0 72 (dk_at dksX4_product_0 18 rfl rfl)
theorem dX4_product_21 : decode cX4_product 21 = .ok (.iload_n 3, 1) := dk_29 (dk_at dksX4_product_0 21 rfl rfl)
theorem dX4_product_22 : decode cX4_product 22 = .ok (.iaload, 1) := dk_46 (dk_at dksX4_product_0 22 rfl rfl)
theorem dX4_product_23 : decode cX4_product 23 = .ok (.if_icmp .ge 24, 3) := dk_162 0 24 (dk_at dksX4_product_1 0 rfl rfl)
theorem dX4_product_26 : decode cX4_product 26 = .ok (.lload_n 1, 1) := dk_31 (dk_at dksX4_product_1 3 rfl rfl)
theorem dX4_product_27 : decode cX4_product 27 = .ok (.aload_n 0, 1) := dk_42 (dk_at dksX4_product_1 4 rfl rfl)
theorem dX4_product_28 : decode cX4_product 28 = .ok (.getfield 13, 3) := dk_180 0 13 (dk_at dksX4_product_1 5 rfl rfl)
theorem dX4_product_31 : decode cX4_product 31 = .ok (.aload_n 0, 1) := dk_42 (dk_at dksX4_product_1 8 rfl rfl)
theorem dX4_product_32 : decode cX4_product 32 = .ok (.getfield 22, 3) := dk_180 0 22 (dk_at dksX4_product_1 9 rfl rfl)
theorem dX4_product_35 : decode cX4_product 35 = .ok (.iload_n 3, 1) := dk_29 (dk_at dksX4_product_1 12 rfl rfl)
theorem dX4_product_36 : decode cX4_product 36 = .ok (.iaload, 1) := dk_46 (dk_at dksX4_product_1 13 rfl rfl)
theorem dX4_product_37 : decode cX4_product 37 = .ok (.iaload, 1) := dk_46 (dk_at dksX4_product_1 14 rfl rfl)
theorem dX4_product_38 : decode cX4_product 38 = .ok (.i2l, 1) := dk_133 (dk_at dksX4_product_1 15 rfl rfl)
theorem dX4_product_39 : decode cX4_product 39 = .ok (.lmul, 1) := dk_105 (dk_at dksX4_product_1 16 rfl rfl)
theorem dX4_product_40 : decode cX4_product 40 = .ok (.lstore_n 1, 1) := dk_64 (dk_at dksX4_product_1 17 rfl rfl)
theorem dX4_product_41 : decode cX4_product 41 = .ok (.iinc 4 1, 3) := dk_132 4 1 (dk_at dksX4_product_1 18 rfl rfl)
theorem dX4_product_44 : decode cX4_product 44 = .ok (.goto (-29), 3) := dk_167 255 227 (dk_at dksX4_product_1 21 rfl rfl)
theorem dX4_product_47 : decode cX4_product 47 = .ok (.iinc 3 1, 3) := dk_132 3 1 (dk_at dksX4_product_2 0 rfl rfl)
theorem dX4_product_50 : decode cX4_product 50 = .ok (.goto (-46), 3) := dk_167 255 210 (dk_at dksX4_product_2 3 rfl rfl)
theorem dX4_product_53 : decode cX4_product 53 = .ok (.lload_n 1, 1) := dk_31 (dk_at dksX4_product_2 6 rfl rfl)
theorem dX4_product_54 : decode cX4_product 54 = .ok (.lreturn, 1) := dk_173 (dk_at dksX4_product_2 7 rfl rfl)
abbrev cX4_cover : ByteArray := prog_13_method_53_code
def yX4_cover : MethodName := ⟨RX4, "cover", "(I)I"⟩
def dkwX4_cover_2 : List UInt8 := [180, 0, 75, 27, 46, 172]
abbrev dktX4_cover_2 : List UInt8 := dkwX4_cover_2 ++ []
def dkwX4_cover_1 : List UInt8 := [180, 0, 19, 27, 46, 154, 0, 11, 42, 27, 182, 0, 138, 154, 0, 5, 2, 172, 42, 182, 0, 210, 65, 42]
abbrev dktX4_cover_1 : List UInt8 := dkwX4_cover_1 ++ dktX4_cover_2
def dkwX4_cover_0 : List UInt8 := [42, 182, 0, 166, 153, 0, 34, 27, 3, 42, 180, 0, 92, 4, 100, 184, 0, 88, 153, 0, 20, 42]
abbrev dktX4_cover_0 : List UInt8 := dkwX4_cover_0 ++ dktX4_cover_1
theorem dksX4_cover_0 : cX4_cover.data.toList.drop 0 = dktX4_cover_0 := by decide +kernel
theorem dksX4_cover_1 : cX4_cover.data.toList.drop 22 = dktX4_cover_1 := dk_seg dksX4_cover_0 22 rfl rfl
theorem dksX4_cover_2 : cX4_cover.data.toList.drop 46 = dktX4_cover_2 := dk_seg dksX4_cover_1 24 rfl rfl
theorem dX4_cover_0 : decode cX4_cover 0 = .ok (.aload_n 0, 1) := dk_42 (dk_at dksX4_cover_0 0 rfl rfl)
theorem dX4_cover_1 : decode cX4_cover 1 = .ok (.invokevirtual 166, 3) := dk_182 0 166 (dk_at dksX4_cover_0 1 rfl rfl)
theorem dX4_cover_4 : decode cX4_cover 4 = .ok (.ifCond .eq 34, 3) := dk_153 0 34 (dk_at dksX4_cover_0 4 rfl rfl)
theorem dX4_cover_7 : decode cX4_cover 7 = .ok (.iload_n 1, 1) := dk_27 (dk_at dksX4_cover_0 7 rfl rfl)
theorem dX4_cover_8 : decode cX4_cover 8 = .ok (.iconst 0, 1) := dk_3 (dk_at dksX4_cover_0 8 rfl rfl)
theorem dX4_cover_9 : decode cX4_cover 9 = .ok (.aload_n 0, 1) := dk_42 (dk_at dksX4_cover_0 9 rfl rfl)
theorem dX4_cover_10 : decode cX4_cover 10 = .ok (.getfield 92, 3) := dk_180 0 92 (dk_at dksX4_cover_0 10 rfl rfl)
theorem dX4_cover_13 : decode cX4_cover 13 = .ok (.iconst 1, 1) := dk_4 (dk_at dksX4_cover_0 13 rfl rfl)
theorem dX4_cover_14 : decode cX4_cover 14 = .ok (.isub, 1) := dk_100 (dk_at dksX4_cover_0 14 rfl rfl)
theorem dX4_cover_15 : decode cX4_cover 15 = .ok (.invokestatic 88, 3) := dk_184 0 88 (dk_at dksX4_cover_0 15 rfl rfl)
theorem dX4_cover_18 : decode cX4_cover 18 = .ok (.ifCond .eq 20, 3) := dk_153 0 20 (dk_at dksX4_cover_0 18 rfl rfl)
theorem dX4_cover_21 : decode cX4_cover 21 = .ok (.aload_n 0, 1) := dk_42 (dk_at dksX4_cover_0 21 rfl rfl)
theorem dX4_cover_22 : decode cX4_cover 22 = .ok (.getfield 19, 3) := dk_180 0 19 (dk_at dksX4_cover_1 0 rfl rfl)
theorem dX4_cover_25 : decode cX4_cover 25 = .ok (.iload_n 1, 1) := dk_27 (dk_at dksX4_cover_1 3 rfl rfl)
theorem dX4_cover_26 : decode cX4_cover 26 = .ok (.iaload, 1) := dk_46 (dk_at dksX4_cover_1 4 rfl rfl)
theorem dX4_cover_27 : decode cX4_cover 27 = .ok (.ifCond .ne 11, 3) := dk_154 0 11 (dk_at dksX4_cover_1 5 rfl rfl)
theorem dX4_cover_30 : decode cX4_cover 30 = .ok (.aload_n 0, 1) := dk_42 (dk_at dksX4_cover_1 8 rfl rfl)
theorem dX4_cover_31 : decode cX4_cover 31 = .ok (.iload_n 1, 1) := dk_27 (dk_at dksX4_cover_1 9 rfl rfl)
theorem dX4_cover_32 : decode cX4_cover 32 = .ok (.invokevirtual 138, 3) := dk_182 0 138 (dk_at dksX4_cover_1 10 rfl rfl)
theorem dX4_cover_35 : decode cX4_cover 35 = .ok (.ifCond .ne 5, 3) := dk_154 0 5 (dk_at dksX4_cover_1 13 rfl rfl)
theorem dX4_cover_38 : decode cX4_cover 38 = .ok (.iconst (-1), 1) := dk_2 (dk_at dksX4_cover_1 16 rfl rfl)
theorem dX4_cover_39 : decode cX4_cover 39 = .ok (.ireturn, 1) := dk_172 (dk_at dksX4_cover_1 17 rfl rfl)
theorem dX4_cover_40 : decode cX4_cover 40 = .ok (.aload_n 0, 1) := dk_42 (dk_at dksX4_cover_1 18 rfl rfl)
theorem dX4_cover_41 : decode cX4_cover 41 = .ok (.invokevirtual 210, 3) := dk_182 0 210 (dk_at dksX4_cover_1 19 rfl rfl)
theorem dX4_cover_44 : decode cX4_cover 44 = .ok (.lstore_n 2, 1) := dk_65 (dk_at dksX4_cover_1 22 rfl rfl)
theorem dX4_cover_45 : decode cX4_cover 45 = .ok (.aload_n 0, 1) := dk_42 (dk_at dksX4_cover_1 23 rfl rfl)
theorem dX4_cover_46 : decode cX4_cover 46 = .ok (.getfield 75, 3) := dk_180 0 75 (dk_at dksX4_cover_2 0 rfl rfl)
theorem dX4_cover_49 : decode cX4_cover 49 = .ok (.iload_n 1, 1) := dk_27 (dk_at dksX4_cover_2 3 rfl rfl)
theorem dX4_cover_50 : decode cX4_cover 50 = .ok (.iaload, 1) := dk_46 (dk_at dksX4_cover_2 4 rfl rfl)
theorem dX4_cover_51 : decode cX4_cover 51 = .ok (.ireturn, 1) := dk_172 (dk_at dksX4_cover_2 5 rfl rfl)
abbrev cX4_order : ByteArray := prog_13_method_54_code
def yX4_order : MethodName := ⟨RX4, "order", "(II)Z"⟩
def dkwX4_order_2 : List UInt8 := [167, 255, 243, 42, 180, 0, 34, 29, 42, 180, 0, 34, 27, 46, 79, 42, 180, 0, 34, 27, 28, 79, 4, 172]
abbrev dktX4_order_2 : List UInt8 := dkwX4_order_2 ++ []
def dkwX4_order_1 : List UInt8 := [184, 0, 88, 154, 0, 5, 3, 172, 3, 62, 42, 180, 0, 34, 29, 46, 28, 159, 0, 9, 132, 3, 1]
abbrev dktX4_order_1 : List UInt8 := dkwX4_order_1 ++ dktX4_order_2
def dkwX4_order_0 : List UInt8 := [27, 3, 42, 180, 0, 119, 4, 100, 184, 0, 88, 153, 0, 17, 28, 3, 42, 180, 0, 119, 4, 100]
abbrev dktX4_order_0 : List UInt8 := dkwX4_order_0 ++ dktX4_order_1
theorem dksX4_order_0 : cX4_order.data.toList.drop 0 = dktX4_order_0 := by decide +kernel
theorem dksX4_order_1 : cX4_order.data.toList.drop 22 = dktX4_order_1 := dk_seg dksX4_order_0 22 rfl rfl
theorem dksX4_order_2 : cX4_order.data.toList.drop 45 = dktX4_order_2 := dk_seg dksX4_order_1 23 rfl rfl
theorem dX4_order_0 : decode cX4_order 0 = .ok (.iload_n 1, 1) := dk_27 (dk_at dksX4_order_0 0 rfl rfl)
theorem dX4_order_1 : decode cX4_order 1 = .ok (.iconst 0, 1) := dk_3 (dk_at dksX4_order_0 1 rfl rfl)
theorem dX4_order_2 : decode cX4_order 2 = .ok (.aload_n 0, 1) := dk_42 (dk_at dksX4_order_0 2 rfl rfl)
theorem dX4_order_3 : decode cX4_order 3 = .ok (.getfield 119, 3) := dk_180 0 119 (dk_at dksX4_order_0 3 rfl rfl)
theorem dX4_order_6 : decode cX4_order 6 = .ok (.iconst 1, 1) := dk_4 (dk_at dksX4_order_0 6 rfl rfl)
theorem dX4_order_7 : decode cX4_order 7 = .ok (.isub, 1) := dk_100 (dk_at dksX4_order_0 7 rfl rfl)
theorem dX4_order_8 : decode cX4_order 8 = .ok (.invokestatic 88, 3) := dk_184 0 88 (dk_at dksX4_order_0 8 rfl rfl)
theorem dX4_order_11 : decode cX4_order 11 = .ok (.ifCond .eq 17, 3) := dk_153 0 17 (dk_at dksX4_order_0 11 rfl rfl)
theorem dX4_order_14 : decode cX4_order 14 = .ok (.iload_n 2, 1) := dk_28 (dk_at dksX4_order_0 14 rfl rfl)
theorem dX4_order_15 : decode cX4_order 15 = .ok (.iconst 0, 1) := dk_3 (dk_at dksX4_order_0 15 rfl rfl)
theorem dX4_order_16 : decode cX4_order 16 = .ok (.aload_n 0, 1) := dk_42 (dk_at dksX4_order_0 16 rfl rfl)
theorem dX4_order_17 : decode cX4_order 17 = .ok (.getfield 119, 3) := dk_180 0 119 (dk_at dksX4_order_0 17 rfl rfl)
theorem dX4_order_20 : decode cX4_order 20 = .ok (.iconst 1, 1) := dk_4 (dk_at dksX4_order_0 20 rfl rfl)
theorem dX4_order_21 : decode cX4_order 21 = .ok (.isub, 1) := dk_100 (dk_at dksX4_order_0 21 rfl rfl)
theorem dX4_order_22 : decode cX4_order 22 = .ok (.invokestatic 88, 3) := dk_184 0 88 (dk_at dksX4_order_1 0 rfl rfl)
theorem dX4_order_25 : decode cX4_order 25 = .ok (.ifCond .ne 5, 3) := dk_154 0 5 (dk_at dksX4_order_1 3 rfl rfl)
theorem dX4_order_28 : decode cX4_order 28 = .ok (.iconst 0, 1) := dk_3 (dk_at dksX4_order_1 6 rfl rfl)
theorem dX4_order_29 : decode cX4_order 29 = .ok (.ireturn, 1) := dk_172 (dk_at dksX4_order_1 7 rfl rfl)
theorem dX4_order_30 : decode cX4_order 30 = .ok (.iconst 0, 1) := dk_3 (dk_at dksX4_order_1 8 rfl rfl)
theorem dX4_order_31 : decode cX4_order 31 = .ok (.istore_n 3, 1) := dk_62 (dk_at dksX4_order_1 9 rfl rfl)
theorem dX4_order_32 : decode cX4_order 32 = .ok (.aload_n 0, 1) := dk_42 (dk_at dksX4_order_1 10 rfl rfl)
theorem dX4_order_33 : decode cX4_order 33 = .ok (.getfield 34, 3) := dk_180 0 34 (dk_at dksX4_order_1 11 rfl rfl)
theorem dX4_order_36 : decode cX4_order 36 = .ok (.iload_n 3, 1) := dk_29 (dk_at dksX4_order_1 14 rfl rfl)
theorem dX4_order_37 : decode cX4_order 37 = .ok (.iaload, 1) := dk_46 (dk_at dksX4_order_1 15 rfl rfl)
theorem dX4_order_38 : decode cX4_order 38 = .ok (.iload_n 2, 1) := dk_28 (dk_at dksX4_order_1 16 rfl rfl)
theorem dX4_order_39 : decode cX4_order 39 = .ok (.if_icmp .eq 9, 3) := dk_159 0 9 (dk_at dksX4_order_1 17 rfl rfl)
theorem dX4_order_42 : decode cX4_order 42 = .ok (.iinc 3 1, 3) := dk_132 3 1 (dk_at dksX4_order_1 20 rfl rfl)
theorem dX4_order_45 : decode cX4_order 45 = .ok (.goto (-13), 3) := dk_167 255 243 (dk_at dksX4_order_2 0 rfl rfl)
theorem dX4_order_48 : decode cX4_order 48 = .ok (.aload_n 0, 1) := dk_42 (dk_at dksX4_order_2 3 rfl rfl)
theorem dX4_order_49 : decode cX4_order 49 = .ok (.getfield 34, 3) := dk_180 0 34 (dk_at dksX4_order_2 4 rfl rfl)
theorem dX4_order_52 : decode cX4_order 52 = .ok (.iload_n 3, 1) := dk_29 (dk_at dksX4_order_2 7 rfl rfl)
theorem dX4_order_53 : decode cX4_order 53 = .ok (.aload_n 0, 1) := dk_42 (dk_at dksX4_order_2 8 rfl rfl)
theorem dX4_order_54 : decode cX4_order 54 = .ok (.getfield 34, 3) := dk_180 0 34 (dk_at dksX4_order_2 9 rfl rfl)
theorem dX4_order_57 : decode cX4_order 57 = .ok (.iload_n 1, 1) := dk_27 (dk_at dksX4_order_2 12 rfl rfl)
theorem dX4_order_58 : decode cX4_order 58 = .ok (.iaload, 1) := dk_46 (dk_at dksX4_order_2 13 rfl rfl)
theorem dX4_order_59 : decode cX4_order 59 = .ok (.iastore, 1) := dk_79 (dk_at dksX4_order_2 14 rfl rfl)
theorem dX4_order_60 : decode cX4_order 60 = .ok (.aload_n 0, 1) := dk_42 (dk_at dksX4_order_2 15 rfl rfl)
theorem dX4_order_61 : decode cX4_order 61 = .ok (.getfield 34, 3) := dk_180 0 34 (dk_at dksX4_order_2 16 rfl rfl)
theorem dX4_order_64 : decode cX4_order 64 = .ok (.iload_n 1, 1) := dk_27 (dk_at dksX4_order_2 19 rfl rfl)
theorem dX4_order_65 : decode cX4_order 65 = .ok (.iload_n 2, 1) := dk_28 (dk_at dksX4_order_2 20 rfl rfl)
theorem dX4_order_66 : decode cX4_order 66 = .ok (.iastore, 1) := dk_79 (dk_at dksX4_order_2 21 rfl rfl)
theorem dX4_order_67 : decode cX4_order 67 = .ok (.iconst 1, 1) := dk_4 (dk_at dksX4_order_2 22 rfl rfl)
theorem dX4_order_68 : decode cX4_order 68 = .ok (.ireturn, 1) := dk_172 (dk_at dksX4_order_2 23 rfl rfl)
abbrev cX4_best : ByteArray := prog_13_method_56_code
def yX4_best : MethodName := ⟨RX4, "best", "()I"⟩
def dkwX4_best_8 : List UInt8 := [167, 255, 221, 27, 2, 160, 0, 8, 16, 254, 167, 0, 4, 27, 172]
abbrev dktX4_best_8 : List UInt8 := dkwX4_best_8 ++ []
def dkwX4_best_7 : List UInt8 := [160, 0, 12, 42, 180, 0, 78, 29, 46, 167, 0, 9, 42, 180, 0, 81, 29, 46, 79, 132, 3, 1]
abbrev dktX4_best_7 : List UInt8 := dkwX4_best_7 ++ dktX4_best_8
def dkwX4_best_6 : List UInt8 := [182, 0, 213, 61, 167, 255, 168, 3, 62, 29, 16, 6, 162, 0, 35, 42, 180, 0, 34, 29, 27, 2]
abbrev dktX4_best_6 : List UInt8 := dkwX4_best_6 ++ dktX4_best_7
def dkwX4_best_5 : List UInt8 := [162, 0, 23, 42, 180, 0, 81, 21, 4, 42, 180, 0, 34, 21, 4, 46, 79, 132, 4, 1, 167, 255, 232, 42]
abbrev dktX4_best_5 : List UInt8 := dkwX4_best_5 ++ dktX4_best_6
def dkwX4_best_4 : List UInt8 := [167, 255, 234, 27, 2, 159, 0, 8, 29, 27, 162, 0, 35, 29, 60, 3, 54, 4, 21, 4, 16, 6]
abbrev dktX4_best_4 : List UInt8 := dkwX4_best_4 ++ dktX4_best_5
def dkwX4_best_3 : List UInt8 := [54, 4, 21, 4, 42, 180, 0, 119, 162, 0, 19, 29, 42, 180, 0, 43, 21, 4, 46, 96, 62, 132, 4, 1]
abbrev dktX4_best_3 : List UInt8 := dkwX4_best_3 ++ dktX4_best_4
def dkwX4_best_2 : List UInt8 := [132, 1, 1, 167, 255, 228, 2, 60, 4, 61, 28, 153, 0, 90, 42, 182, 0, 170, 153, 0, 75, 3, 62, 3]
abbrev dktX4_best_2 : List UInt8 := dkwX4_best_2 ++ dktX4_best_3
def dkwX4_best_1 : List UInt8 := [162, 0, 28, 42, 180, 0, 78, 27, 42, 180, 0, 34, 27, 46, 79, 42, 180, 0, 34, 27, 27, 79]
abbrev dktX4_best_1 : List UInt8 := dkwX4_best_1 ++ dktX4_best_2
def dkwX4_best_0 : List UInt8 := [42, 182, 0, 166, 153, 0, 11, 42, 180, 0, 119, 7, 164, 0, 5, 2, 172, 3, 60, 27, 16, 6]
abbrev dktX4_best_0 : List UInt8 := dkwX4_best_0 ++ dktX4_best_1
theorem dksX4_best_0 : cX4_best.data.toList.drop 0 = dktX4_best_0 := by decide +kernel
theorem dksX4_best_1 : cX4_best.data.toList.drop 22 = dktX4_best_1 := dk_seg dksX4_best_0 22 rfl rfl
theorem dksX4_best_2 : cX4_best.data.toList.drop 44 = dktX4_best_2 := dk_seg dksX4_best_1 22 rfl rfl
theorem dksX4_best_3 : cX4_best.data.toList.drop 68 = dktX4_best_3 := dk_seg dksX4_best_2 24 rfl rfl
theorem dksX4_best_4 : cX4_best.data.toList.drop 92 = dktX4_best_4 := dk_seg dksX4_best_3 24 rfl rfl
theorem dksX4_best_5 : cX4_best.data.toList.drop 114 = dktX4_best_5 := dk_seg dksX4_best_4 22 rfl rfl
theorem dksX4_best_6 : cX4_best.data.toList.drop 138 = dktX4_best_6 := dk_seg dksX4_best_5 24 rfl rfl
theorem dksX4_best_7 : cX4_best.data.toList.drop 160 = dktX4_best_7 := dk_seg dksX4_best_6 22 rfl rfl
theorem dksX4_best_8 : cX4_best.data.toList.drop 182 = dktX4_best_8 := dk_seg dksX4_best_7 22 rfl rfl
theorem dX4_best_0 : decode cX4_best 0 = .ok (.aload_n 0, 1) := dk_42 (dk_at dksX4_best_0 0 rfl rfl)
theorem dX4_best_1 : decode cX4_best 1 = .ok (.invokevirtual 166, 3) := dk_182 0 166 (dk_at dksX4_best_0 1 rfl rfl)
theorem dX4_best_4 : decode cX4_best 4 = .ok (.ifCond .eq 11, 3) := dk_153 0 11 (dk_at dksX4_best_0 4 rfl rfl)
theorem dX4_best_7 : decode cX4_best 7 = .ok (.aload_n 0, 1) := dk_42 (dk_at dksX4_best_0 7 rfl rfl)
theorem dX4_best_8 : decode cX4_best 8 = .ok (.getfield 119, 3) := dk_180 0 119 (dk_at dksX4_best_0 8 rfl rfl)
theorem dX4_best_11 : decode cX4_best 11 = .ok (.iconst 4, 1) := dk_7 (dk_at dksX4_best_0 11 rfl rfl)
theorem dX4_best_12 : decode cX4_best 12 = .ok (.if_icmp .le 5, 3) := dk_164 0 5 (dk_at dksX4_best_0 12 rfl rfl)
theorem dX4_best_15 : decode cX4_best 15 = .ok (.iconst (-1), 1) := dk_2 (dk_at dksX4_best_0 15 rfl rfl)
theorem dX4_best_16 : decode cX4_best 16 = .ok (.ireturn, 1) := dk_172 (dk_at dksX4_best_0 16 rfl rfl)
theorem dX4_best_17 : decode cX4_best 17 = .ok (.iconst 0, 1) := dk_3 (dk_at dksX4_best_0 17 rfl rfl)
theorem dX4_best_18 : decode cX4_best 18 = .ok (.istore_n 1, 1) := dk_60 (dk_at dksX4_best_0 18 rfl rfl)
theorem dX4_best_19 : decode cX4_best 19 = .ok (.iload_n 1, 1) := dk_27 (dk_at dksX4_best_0 19 rfl rfl)
theorem dX4_best_20 : decode cX4_best 20 = .ok (.bipush 6, 2) := dk_16 6 (dk_at dksX4_best_0 20 rfl rfl)
theorem dX4_best_22 : decode cX4_best 22 = .ok (.if_icmp .ge 28, 3) := dk_162 0 28 (dk_at dksX4_best_1 0 rfl rfl)
theorem dX4_best_25 : decode cX4_best 25 = .ok (.aload_n 0, 1) := dk_42 (dk_at dksX4_best_1 3 rfl rfl)
theorem dX4_best_26 : decode cX4_best 26 = .ok (.getfield 78, 3) := dk_180 0 78 (dk_at dksX4_best_1 4 rfl rfl)
theorem dX4_best_29 : decode cX4_best 29 = .ok (.iload_n 1, 1) := dk_27 (dk_at dksX4_best_1 7 rfl rfl)
theorem dX4_best_30 : decode cX4_best 30 = .ok (.aload_n 0, 1) := dk_42 (dk_at dksX4_best_1 8 rfl rfl)
theorem dX4_best_31 : decode cX4_best 31 = .ok (.getfield 34, 3) := dk_180 0 34 (dk_at dksX4_best_1 9 rfl rfl)
theorem dX4_best_34 : decode cX4_best 34 = .ok (.iload_n 1, 1) := dk_27 (dk_at dksX4_best_1 12 rfl rfl)
theorem dX4_best_35 : decode cX4_best 35 = .ok (.iaload, 1) := dk_46 (dk_at dksX4_best_1 13 rfl rfl)
theorem dX4_best_36 : decode cX4_best 36 = .ok (.iastore, 1) := dk_79 (dk_at dksX4_best_1 14 rfl rfl)
theorem dX4_best_37 : decode cX4_best 37 = .ok (.aload_n 0, 1) := dk_42 (dk_at dksX4_best_1 15 rfl rfl)
theorem dX4_best_38 : decode cX4_best 38 = .ok (.getfield 34, 3) := dk_180 0 34 (dk_at dksX4_best_1 16 rfl rfl)
theorem dX4_best_41 : decode cX4_best 41 = .ok (.iload_n 1, 1) := dk_27 (dk_at dksX4_best_1 19 rfl rfl)
theorem dX4_best_42 : decode cX4_best 42 = .ok (.iload_n 1, 1) := dk_27 (dk_at dksX4_best_1 20 rfl rfl)
theorem dX4_best_43 : decode cX4_best 43 = .ok (.iastore, 1) := dk_79 (dk_at dksX4_best_1 21 rfl rfl)
theorem dX4_best_44 : decode cX4_best 44 = .ok (.iinc 1 1, 3) := dk_132 1 1 (dk_at dksX4_best_2 0 rfl rfl)
theorem dX4_best_47 : decode cX4_best 47 = .ok (.goto (-28), 3) := dk_167 255 228 (dk_at dksX4_best_2 3 rfl rfl)
theorem dX4_best_50 : decode cX4_best 50 = .ok (.iconst (-1), 1) := dk_2 (dk_at dksX4_best_2 6 rfl rfl)
theorem dX4_best_51 : decode cX4_best 51 = .ok (.istore_n 1, 1) := dk_60 (dk_at dksX4_best_2 7 rfl rfl)
theorem dX4_best_52 : decode cX4_best 52 = .ok (.iconst 1, 1) := dk_4 (dk_at dksX4_best_2 8 rfl rfl)
theorem dX4_best_53 : decode cX4_best 53 = .ok (.istore_n 2, 1) := dk_61 (dk_at dksX4_best_2 9 rfl rfl)
theorem dX4_best_54 : decode cX4_best 54 = .ok (.iload_n 2, 1) := dk_28 (dk_at dksX4_best_2 10 rfl rfl)
theorem dX4_best_55 : decode cX4_best 55 = .ok (.ifCond .eq 90, 3) := dk_153 0 90 (dk_at dksX4_best_2 11 rfl rfl)
theorem dX4_best_58 : decode cX4_best 58 = .ok (.aload_n 0, 1) := dk_42 (dk_at dksX4_best_2 14 rfl rfl)
theorem dX4_best_59 : decode cX4_best 59 = .ok (.invokevirtual 170, 3) := dk_182 0 170 (dk_at dksX4_best_2 15 rfl rfl)
theorem dX4_best_62 : decode cX4_best 62 = .ok (.ifCond .eq 75, 3) := dk_153 0 75 (dk_at dksX4_best_2 18 rfl rfl)
theorem dX4_best_65 : decode cX4_best 65 = .ok (.iconst 0, 1) := dk_3 (dk_at dksX4_best_2 21 rfl rfl)
theorem dX4_best_66 : decode cX4_best 66 = .ok (.istore_n 3, 1) := dk_62 (dk_at dksX4_best_2 22 rfl rfl)
theorem dX4_best_67 : decode cX4_best 67 = .ok (.iconst 0, 1) := dk_3 (dk_at dksX4_best_2 23 rfl rfl)
theorem dX4_best_68 : decode cX4_best 68 = .ok (.istore 4, 2) := dk_54 4 (dk_at dksX4_best_3 0 rfl rfl)
theorem dX4_best_70 : decode cX4_best 70 = .ok (.iload 4, 2) := dk_21 4 (dk_at dksX4_best_3 2 rfl rfl)
theorem dX4_best_72 : decode cX4_best 72 = .ok (.aload_n 0, 1) := dk_42 (dk_at dksX4_best_3 4 rfl rfl)
theorem dX4_best_73 : decode cX4_best 73 = .ok (.getfield 119, 3) := dk_180 0 119 (dk_at dksX4_best_3 5 rfl rfl)
theorem dX4_best_76 : decode cX4_best 76 = .ok (.if_icmp .ge 19, 3) := dk_162 0 19 (dk_at dksX4_best_3 8 rfl rfl)
theorem dX4_best_79 : decode cX4_best 79 = .ok (.iload_n 3, 1) := dk_29 (dk_at dksX4_best_3 11 rfl rfl)
theorem dX4_best_80 : decode cX4_best 80 = .ok (.aload_n 0, 1) := dk_42 (dk_at dksX4_best_3 12 rfl rfl)
theorem dX4_best_81 : decode cX4_best 81 = .ok (.getfield 43, 3) := dk_180 0 43 (dk_at dksX4_best_3 13 rfl rfl)
theorem dX4_best_84 : decode cX4_best 84 = .ok (.iload 4, 2) := dk_21 4 (dk_at dksX4_best_3 16 rfl rfl)
theorem dX4_best_86 : decode cX4_best 86 = .ok (.iaload, 1) := dk_46 (dk_at dksX4_best_3 18 rfl rfl)
theorem dX4_best_87 : decode cX4_best 87 = .ok (.iadd, 1) := dk_96 (dk_at dksX4_best_3 19 rfl rfl)
theorem dX4_best_88 : decode cX4_best 88 = .ok (.istore_n 3, 1) := dk_62 (dk_at dksX4_best_3 20 rfl rfl)
theorem dX4_best_89 : decode cX4_best 89 = .ok (.iinc 4 1, 3) := dk_132 4 1 (dk_at dksX4_best_3 21 rfl rfl)
theorem dX4_best_92 : decode cX4_best 92 = .ok (.goto (-22), 3) := dk_167 255 234 (dk_at dksX4_best_4 0 rfl rfl)
theorem dX4_best_95 : decode cX4_best 95 = .ok (.iload_n 1, 1) := dk_27 (dk_at dksX4_best_4 3 rfl rfl)
theorem dX4_best_96 : decode cX4_best 96 = .ok (.iconst (-1), 1) := dk_2 (dk_at dksX4_best_4 4 rfl rfl)
theorem dX4_best_97 : decode cX4_best 97 = .ok (.if_icmp .eq 8, 3) := dk_159 0 8 (dk_at dksX4_best_4 5 rfl rfl)
theorem dX4_best_100 : decode cX4_best 100 = .ok (.iload_n 3, 1) := dk_29 (dk_at dksX4_best_4 8 rfl rfl)
theorem dX4_best_101 : decode cX4_best 101 = .ok (.iload_n 1, 1) := dk_27 (dk_at dksX4_best_4 9 rfl rfl)
theorem dX4_best_102 : decode cX4_best 102 = .ok (.if_icmp .ge 35, 3) := dk_162 0 35 (dk_at dksX4_best_4 10 rfl rfl)
theorem dX4_best_105 : decode cX4_best 105 = .ok (.iload_n 3, 1) := dk_29 (dk_at dksX4_best_4 13 rfl rfl)
theorem dX4_best_106 : decode cX4_best 106 = .ok (.istore_n 1, 1) := dk_60 (dk_at dksX4_best_4 14 rfl rfl)
theorem dX4_best_107 : decode cX4_best 107 = .ok (.iconst 0, 1) := dk_3 (dk_at dksX4_best_4 15 rfl rfl)
theorem dX4_best_108 : decode cX4_best 108 = .ok (.istore 4, 2) := dk_54 4 (dk_at dksX4_best_4 16 rfl rfl)
theorem dX4_best_110 : decode cX4_best 110 = .ok (.iload 4, 2) := dk_21 4 (dk_at dksX4_best_4 18 rfl rfl)
theorem dX4_best_112 : decode cX4_best 112 = .ok (.bipush 6, 2) := dk_16 6 (dk_at dksX4_best_4 20 rfl rfl)
theorem dX4_best_114 : decode cX4_best 114 = .ok (.if_icmp .ge 23, 3) := dk_162 0 23 (dk_at dksX4_best_5 0 rfl rfl)
theorem dX4_best_117 : decode cX4_best 117 = .ok (.aload_n 0, 1) := dk_42 (dk_at dksX4_best_5 3 rfl rfl)
theorem dX4_best_118 : decode cX4_best 118 = .ok (.getfield 81, 3) := dk_180 0 81 (dk_at dksX4_best_5 4 rfl rfl)
theorem dX4_best_121 : decode cX4_best 121 = .ok (.iload 4, 2) := dk_21 4 (dk_at dksX4_best_5 7 rfl rfl)
theorem dX4_best_123 : decode cX4_best 123 = .ok (.aload_n 0, 1) := dk_42 (dk_at dksX4_best_5 9 rfl rfl)
theorem dX4_best_124 : decode cX4_best 124 = .ok (.getfield 34, 3) := dk_180 0 34 (dk_at dksX4_best_5 10 rfl rfl)
theorem dX4_best_127 : decode cX4_best 127 = .ok (.iload 4, 2) := dk_21 4 (dk_at dksX4_best_5 13 rfl rfl)
theorem dX4_best_129 : decode cX4_best 129 = .ok (.iaload, 1) := dk_46 (dk_at dksX4_best_5 15 rfl rfl)
theorem dX4_best_130 : decode cX4_best 130 = .ok (.iastore, 1) := dk_79 (dk_at dksX4_best_5 16 rfl rfl)
theorem dX4_best_131 : decode cX4_best 131 = .ok (.iinc 4 1, 3) := dk_132 4 1 (dk_at dksX4_best_5 17 rfl rfl)
theorem dX4_best_134 : decode cX4_best 134 = .ok (.goto (-24), 3) := dk_167 255 232 (dk_at dksX4_best_5 20 rfl rfl)
theorem dX4_best_137 : decode cX4_best 137 = .ok (.aload_n 0, 1) := dk_42 (dk_at dksX4_best_5 23 rfl rfl)
theorem dX4_best_138 : decode cX4_best 138 = .ok (.invokevirtual 213, 3) := dk_182 0 213 (dk_at dksX4_best_6 0 rfl rfl)
theorem dX4_best_141 : decode cX4_best 141 = .ok (.istore_n 2, 1) := dk_61 (dk_at dksX4_best_6 3 rfl rfl)
theorem dX4_best_142 : decode cX4_best 142 = .ok (.goto (-88), 3) := dk_167 255 168 (dk_at dksX4_best_6 4 rfl rfl)
theorem dX4_best_145 : decode cX4_best 145 = .ok (.iconst 0, 1) := dk_3 (dk_at dksX4_best_6 7 rfl rfl)
theorem dX4_best_146 : decode cX4_best 146 = .ok (.istore_n 3, 1) := dk_62 (dk_at dksX4_best_6 8 rfl rfl)
theorem dX4_best_147 : decode cX4_best 147 = .ok (.iload_n 3, 1) := dk_29 (dk_at dksX4_best_6 9 rfl rfl)
theorem dX4_best_148 : decode cX4_best 148 = .ok (.bipush 6, 2) := dk_16 6 (dk_at dksX4_best_6 10 rfl rfl)
theorem dX4_best_150 : decode cX4_best 150 = .ok (.if_icmp .ge 35, 3) := dk_162 0 35 (dk_at dksX4_best_6 12 rfl rfl)
theorem dX4_best_153 : decode cX4_best 153 = .ok (.aload_n 0, 1) := dk_42 (dk_at dksX4_best_6 15 rfl rfl)
theorem dX4_best_154 : decode cX4_best 154 = .ok (.getfield 34, 3) := dk_180 0 34 (dk_at dksX4_best_6 16 rfl rfl)
theorem dX4_best_157 : decode cX4_best 157 = .ok (.iload_n 3, 1) := dk_29 (dk_at dksX4_best_6 19 rfl rfl)
theorem dX4_best_158 : decode cX4_best 158 = .ok (.iload_n 1, 1) := dk_27 (dk_at dksX4_best_6 20 rfl rfl)
theorem dX4_best_159 : decode cX4_best 159 = .ok (.iconst (-1), 1) := dk_2 (dk_at dksX4_best_6 21 rfl rfl)
theorem dX4_best_160 : decode cX4_best 160 = .ok (.if_icmp .ne 12, 3) := dk_160 0 12 (dk_at dksX4_best_7 0 rfl rfl)
theorem dX4_best_163 : decode cX4_best 163 = .ok (.aload_n 0, 1) := dk_42 (dk_at dksX4_best_7 3 rfl rfl)
theorem dX4_best_164 : decode cX4_best 164 = .ok (.getfield 78, 3) := dk_180 0 78 (dk_at dksX4_best_7 4 rfl rfl)
theorem dX4_best_167 : decode cX4_best 167 = .ok (.iload_n 3, 1) := dk_29 (dk_at dksX4_best_7 7 rfl rfl)
theorem dX4_best_168 : decode cX4_best 168 = .ok (.iaload, 1) := dk_46 (dk_at dksX4_best_7 8 rfl rfl)
theorem dX4_best_169 : decode cX4_best 169 = .ok (.goto 9, 3) := dk_167 0 9 (dk_at dksX4_best_7 9 rfl rfl)
theorem dX4_best_172 : decode cX4_best 172 = .ok (.aload_n 0, 1) := dk_42 (dk_at dksX4_best_7 12 rfl rfl)
theorem dX4_best_173 : decode cX4_best 173 = .ok (.getfield 81, 3) := dk_180 0 81 (dk_at dksX4_best_7 13 rfl rfl)
theorem dX4_best_176 : decode cX4_best 176 = .ok (.iload_n 3, 1) := dk_29 (dk_at dksX4_best_7 16 rfl rfl)
theorem dX4_best_177 : decode cX4_best 177 = .ok (.iaload, 1) := dk_46 (dk_at dksX4_best_7 17 rfl rfl)
theorem dX4_best_178 : decode cX4_best 178 = .ok (.iastore, 1) := dk_79 (dk_at dksX4_best_7 18 rfl rfl)
theorem dX4_best_179 : decode cX4_best 179 = .ok (.iinc 3 1, 3) := dk_132 3 1 (dk_at dksX4_best_7 19 rfl rfl)
theorem dX4_best_182 : decode cX4_best 182 = .ok (.goto (-35), 3) := dk_167 255 221 (dk_at dksX4_best_8 0 rfl rfl)
theorem dX4_best_185 : decode cX4_best 185 = .ok (.iload_n 1, 1) := dk_27 (dk_at dksX4_best_8 3 rfl rfl)
theorem dX4_best_186 : decode cX4_best 186 = .ok (.iconst (-1), 1) := dk_2 (dk_at dksX4_best_8 4 rfl rfl)
theorem dX4_best_187 : decode cX4_best 187 = .ok (.if_icmp .ne 8, 3) := dk_160 0 8 (dk_at dksX4_best_8 5 rfl rfl)
theorem dX4_best_190 : decode cX4_best 190 = .ok (.bipush (-2), 2) := dk_16 254 (dk_at dksX4_best_8 8 rfl rfl)
theorem dX4_best_192 : decode cX4_best 192 = .ok (.goto 4, 3) := dk_167 0 4 (dk_at dksX4_best_8 10 rfl rfl)
theorem dX4_best_195 : decode cX4_best 195 = .ok (.iload_n 1, 1) := dk_27 (dk_at dksX4_best_8 13 rfl rfl)
theorem dX4_best_196 : decode cX4_best 196 = .ok (.ireturn, 1) := dk_172 (dk_at dksX4_best_8 14 rfl rfl)
abbrev cX4_nextOrder : ByteArray := prog_13_method_55_code
def yX4_nextOrder : MethodName := ⟨RX4, "nextOrder", "()Z"⟩
def dkwX4_nextOrder_6 : List UInt8 := [132, 4, 1, 132, 5, 255, 167, 255, 213, 4, 172]
abbrev dktX4_nextOrder_6 : List UInt8 := dkwX4_nextOrder_6 ++ []
def dkwX4_nextOrder_5 : List UInt8 := [46, 62, 42, 180, 0, 34, 21, 4, 42, 180, 0, 34, 21, 5, 46, 79, 42, 180, 0, 34, 21, 5, 29, 79]
abbrev dktX4_nextOrder_5 : List UInt8 := dkwX4_nextOrder_5 ++ dktX4_nextOrder_6
def dkwX4_nextOrder_4 : List UInt8 := [96, 54, 4, 42, 180, 0, 119, 4, 100, 54, 5, 21, 4, 21, 5, 162, 0, 42, 42, 180, 0, 34, 21, 4]
abbrev dktX4_nextOrder_4 : List UInt8 := dkwX4_nextOrder_4 ++ dktX4_nextOrder_5
def dkwX4_nextOrder_3 : List UInt8 := [27, 46, 62, 42, 180, 0, 34, 27, 42, 180, 0, 34, 28, 46, 79, 42, 180, 0, 34, 28, 29, 79, 27, 4]
abbrev dktX4_nextOrder_3 : List UInt8 := dkwX4_nextOrder_3 ++ dktX4_nextOrder_4
def dkwX4_nextOrder_2 : List UInt8 := [180, 0, 34, 28, 46, 42, 180, 0, 34, 27, 46, 162, 0, 9, 132, 2, 255, 167, 255, 238, 42, 180, 0, 34]
abbrev dktX4_nextOrder_2 : List UInt8 := dkwX4_nextOrder_2 ++ dktX4_nextOrder_3
def dkwX4_nextOrder_1 : List UInt8 := [46, 164, 0, 9, 132, 1, 255, 167, 255, 232, 27, 156, 0, 5, 3, 172, 42, 180, 0, 119, 4, 100, 61, 42]
abbrev dktX4_nextOrder_1 : List UInt8 := dkwX4_nextOrder_1 ++ dktX4_nextOrder_2
def dkwX4_nextOrder_0 : List UInt8 := [42, 180, 0, 119, 5, 100, 60, 27, 155, 0, 26, 42, 180, 0, 34, 27, 46, 42, 180, 0, 34, 27, 4, 96]
abbrev dktX4_nextOrder_0 : List UInt8 := dkwX4_nextOrder_0 ++ dktX4_nextOrder_1
theorem dksX4_nextOrder_0 : cX4_nextOrder.data.toList.drop 0 = dktX4_nextOrder_0 := by decide +kernel
theorem dksX4_nextOrder_1 : cX4_nextOrder.data.toList.drop 24 = dktX4_nextOrder_1 := dk_seg dksX4_nextOrder_0 24 rfl rfl
theorem dksX4_nextOrder_2 : cX4_nextOrder.data.toList.drop 48 = dktX4_nextOrder_2 := dk_seg dksX4_nextOrder_1 24 rfl rfl
theorem dksX4_nextOrder_3 : cX4_nextOrder.data.toList.drop 72 = dktX4_nextOrder_3 := dk_seg dksX4_nextOrder_2 24 rfl rfl
theorem dksX4_nextOrder_4 : cX4_nextOrder.data.toList.drop 96 = dktX4_nextOrder_4 := dk_seg dksX4_nextOrder_3 24 rfl rfl
theorem dksX4_nextOrder_5 : cX4_nextOrder.data.toList.drop 120 = dktX4_nextOrder_5 := dk_seg dksX4_nextOrder_4 24 rfl rfl
theorem dksX4_nextOrder_6 : cX4_nextOrder.data.toList.drop 144 = dktX4_nextOrder_6 := dk_seg dksX4_nextOrder_5 24 rfl rfl
theorem dX4_nextOrder_0 : decode cX4_nextOrder 0 = .ok (.aload_n 0, 1) := dk_42 (dk_at dksX4_nextOrder_0 0 rfl rfl)
theorem dX4_nextOrder_1 : decode cX4_nextOrder 1 = .ok (.getfield 119, 3) := dk_180 0 119 (dk_at dksX4_nextOrder_0 1 rfl rfl)
theorem dX4_nextOrder_4 : decode cX4_nextOrder 4 = .ok (.iconst 2, 1) := dk_5 (dk_at dksX4_nextOrder_0 4 rfl rfl)
theorem dX4_nextOrder_5 : decode cX4_nextOrder 5 = .ok (.isub, 1) := dk_100 (dk_at dksX4_nextOrder_0 5 rfl rfl)
theorem dX4_nextOrder_6 : decode cX4_nextOrder 6 = .ok (.istore_n 1, 1) := dk_60 (dk_at dksX4_nextOrder_0 6 rfl rfl)
theorem dX4_nextOrder_7 : decode cX4_nextOrder 7 = .ok (.iload_n 1, 1) := dk_27 (dk_at dksX4_nextOrder_0 7 rfl rfl)
theorem dX4_nextOrder_8 : decode cX4_nextOrder 8 = .ok (.ifCond .lt 26, 3) := dk_155 0 26 (dk_at dksX4_nextOrder_0 8 rfl rfl)
theorem dX4_nextOrder_11 : decode cX4_nextOrder 11 = .ok (.aload_n 0, 1) := dk_42 (dk_at dksX4_nextOrder_0 11 rfl rfl)
theorem dX4_nextOrder_12 : decode cX4_nextOrder 12 = .ok (.getfield 34, 3) := dk_180 0 34 (dk_at dksX4_nextOrder_0 12 rfl rfl)
theorem dX4_nextOrder_15 : decode cX4_nextOrder 15 = .ok (.iload_n 1, 1) := dk_27 (dk_at dksX4_nextOrder_0 15 rfl rfl)
theorem dX4_nextOrder_16 : decode cX4_nextOrder 16 = .ok (.iaload, 1) := dk_46 (dk_at dksX4_nextOrder_0 16 rfl rfl)
theorem dX4_nextOrder_17 : decode cX4_nextOrder 17 = .ok (.aload_n 0, 1) := dk_42 (dk_at dksX4_nextOrder_0 17 rfl rfl)
theorem dX4_nextOrder_18 : decode cX4_nextOrder 18 = .ok (.getfield 34, 3) := dk_180 0 34 (dk_at dksX4_nextOrder_0 18 rfl rfl)
theorem dX4_nextOrder_21 : decode cX4_nextOrder 21 = .ok (.iload_n 1, 1) := dk_27 (dk_at dksX4_nextOrder_0 21 rfl rfl)
theorem dX4_nextOrder_22 : decode cX4_nextOrder 22 = .ok (.iconst 1, 1) := dk_4 (dk_at dksX4_nextOrder_0 22 rfl rfl)
theorem dX4_nextOrder_23 : decode cX4_nextOrder 23 = .ok (.iadd, 1) := dk_96 (dk_at dksX4_nextOrder_0 23 rfl rfl)
theorem dX4_nextOrder_24 : decode cX4_nextOrder 24 = .ok (.iaload, 1) := dk_46 (dk_at dksX4_nextOrder_1 0 rfl rfl)
theorem dX4_nextOrder_25 : decode cX4_nextOrder 25 = .ok (.if_icmp .le 9, 3) := dk_164 0 9 (dk_at dksX4_nextOrder_1 1 rfl rfl)
theorem dX4_nextOrder_28 : decode cX4_nextOrder 28 = .ok (.iinc 1 (-1), 3) := dk_132 1 255 (dk_at dksX4_nextOrder_1 4 rfl rfl)
theorem dX4_nextOrder_31 : decode cX4_nextOrder 31 = .ok (.goto (-24), 3) := dk_167 255 232 (dk_at dksX4_nextOrder_1 7 rfl rfl)
theorem dX4_nextOrder_34 : decode cX4_nextOrder 34 = .ok (.iload_n 1, 1) := dk_27 (dk_at dksX4_nextOrder_1 10 rfl rfl)
theorem dX4_nextOrder_35 : decode cX4_nextOrder 35 = .ok (.ifCond .ge 5, 3) := dk_156 0 5 (dk_at dksX4_nextOrder_1 11 rfl rfl)
theorem dX4_nextOrder_38 : decode cX4_nextOrder 38 = .ok (.iconst 0, 1) := dk_3 (dk_at dksX4_nextOrder_1 14 rfl rfl)
theorem dX4_nextOrder_39 : decode cX4_nextOrder 39 = .ok (.ireturn, 1) := dk_172 (dk_at dksX4_nextOrder_1 15 rfl rfl)
theorem dX4_nextOrder_40 : decode cX4_nextOrder 40 = .ok (.aload_n 0, 1) := dk_42 (dk_at dksX4_nextOrder_1 16 rfl rfl)
theorem dX4_nextOrder_41 : decode cX4_nextOrder 41 = .ok (.getfield 119, 3) := dk_180 0 119 (dk_at dksX4_nextOrder_1 17 rfl rfl)
theorem dX4_nextOrder_44 : decode cX4_nextOrder 44 = .ok (.iconst 1, 1) := dk_4 (dk_at dksX4_nextOrder_1 20 rfl rfl)
theorem dX4_nextOrder_45 : decode cX4_nextOrder 45 = .ok (.isub, 1) := dk_100 (dk_at dksX4_nextOrder_1 21 rfl rfl)
theorem dX4_nextOrder_46 : decode cX4_nextOrder 46 = .ok (.istore_n 2, 1) := dk_61 (dk_at dksX4_nextOrder_1 22 rfl rfl)
theorem dX4_nextOrder_47 : decode cX4_nextOrder 47 = .ok (.aload_n 0, 1) := dk_42 (dk_at dksX4_nextOrder_1 23 rfl rfl)
theorem dX4_nextOrder_48 : decode cX4_nextOrder 48 = .ok (.getfield 34, 3) := dk_180 0 34 (dk_at dksX4_nextOrder_2 0 rfl rfl)
theorem dX4_nextOrder_51 : decode cX4_nextOrder 51 = .ok (.iload_n 2, 1) := dk_28 (dk_at dksX4_nextOrder_2 3 rfl rfl)
theorem dX4_nextOrder_52 : decode cX4_nextOrder 52 = .ok (.iaload, 1) := dk_46 (dk_at dksX4_nextOrder_2 4 rfl rfl)
theorem dX4_nextOrder_53 : decode cX4_nextOrder 53 = .ok (.aload_n 0, 1) := dk_42 (dk_at dksX4_nextOrder_2 5 rfl rfl)
theorem dX4_nextOrder_54 : decode cX4_nextOrder 54 = .ok (.getfield 34, 3) := dk_180 0 34 (dk_at dksX4_nextOrder_2 6 rfl rfl)
theorem dX4_nextOrder_57 : decode cX4_nextOrder 57 = .ok (.iload_n 1, 1) := dk_27 (dk_at dksX4_nextOrder_2 9 rfl rfl)
theorem dX4_nextOrder_58 : decode cX4_nextOrder 58 = .ok (.iaload, 1) := dk_46 (dk_at dksX4_nextOrder_2 10 rfl rfl)
theorem dX4_nextOrder_59 : decode cX4_nextOrder 59 = .ok (.if_icmp .ge 9, 3) := dk_162 0 9 (dk_at dksX4_nextOrder_2 11 rfl rfl)
theorem dX4_nextOrder_62 : decode cX4_nextOrder 62 = .ok (.iinc 2 (-1), 3) := dk_132 2 255 (dk_at dksX4_nextOrder_2 14 rfl rfl)
theorem dX4_nextOrder_65 : decode cX4_nextOrder 65 = .ok (.goto (-18), 3) := dk_167 255 238 (dk_at dksX4_nextOrder_2 17 rfl rfl)
theorem dX4_nextOrder_68 : decode cX4_nextOrder 68 = .ok (.aload_n 0, 1) := dk_42 (dk_at dksX4_nextOrder_2 20 rfl rfl)
theorem dX4_nextOrder_69 : decode cX4_nextOrder 69 = .ok (.getfield 34, 3) := dk_180 0 34 (dk_at dksX4_nextOrder_2 21 rfl rfl)
theorem dX4_nextOrder_72 : decode cX4_nextOrder 72 = .ok (.iload_n 1, 1) := dk_27 (dk_at dksX4_nextOrder_3 0 rfl rfl)
theorem dX4_nextOrder_73 : decode cX4_nextOrder 73 = .ok (.iaload, 1) := dk_46 (dk_at dksX4_nextOrder_3 1 rfl rfl)
theorem dX4_nextOrder_74 : decode cX4_nextOrder 74 = .ok (.istore_n 3, 1) := dk_62 (dk_at dksX4_nextOrder_3 2 rfl rfl)
theorem dX4_nextOrder_75 : decode cX4_nextOrder 75 = .ok (.aload_n 0, 1) := dk_42 (dk_at dksX4_nextOrder_3 3 rfl rfl)
theorem dX4_nextOrder_76 : decode cX4_nextOrder 76 = .ok (.getfield 34, 3) := dk_180 0 34 (dk_at dksX4_nextOrder_3 4 rfl rfl)
theorem dX4_nextOrder_79 : decode cX4_nextOrder 79 = .ok (.iload_n 1, 1) := dk_27 (dk_at dksX4_nextOrder_3 7 rfl rfl)
theorem dX4_nextOrder_80 : decode cX4_nextOrder 80 = .ok (.aload_n 0, 1) := dk_42 (dk_at dksX4_nextOrder_3 8 rfl rfl)
theorem dX4_nextOrder_81 : decode cX4_nextOrder 81 = .ok (.getfield 34, 3) := dk_180 0 34 (dk_at dksX4_nextOrder_3 9 rfl rfl)
theorem dX4_nextOrder_84 : decode cX4_nextOrder 84 = .ok (.iload_n 2, 1) := dk_28 (dk_at dksX4_nextOrder_3 12 rfl rfl)
theorem dX4_nextOrder_85 : decode cX4_nextOrder 85 = .ok (.iaload, 1) := dk_46 (dk_at dksX4_nextOrder_3 13 rfl rfl)
theorem dX4_nextOrder_86 : decode cX4_nextOrder 86 = .ok (.iastore, 1) := dk_79 (dk_at dksX4_nextOrder_3 14 rfl rfl)
theorem dX4_nextOrder_87 : decode cX4_nextOrder 87 = .ok (.aload_n 0, 1) := dk_42 (dk_at dksX4_nextOrder_3 15 rfl rfl)
theorem dX4_nextOrder_88 : decode cX4_nextOrder 88 = .ok (.getfield 34, 3) := dk_180 0 34 (dk_at dksX4_nextOrder_3 16 rfl rfl)
theorem dX4_nextOrder_91 : decode cX4_nextOrder 91 = .ok (.iload_n 2, 1) := dk_28 (dk_at dksX4_nextOrder_3 19 rfl rfl)
theorem dX4_nextOrder_92 : decode cX4_nextOrder 92 = .ok (.iload_n 3, 1) := dk_29 (dk_at dksX4_nextOrder_3 20 rfl rfl)
theorem dX4_nextOrder_93 : decode cX4_nextOrder 93 = .ok (.iastore, 1) := dk_79 (dk_at dksX4_nextOrder_3 21 rfl rfl)
theorem dX4_nextOrder_94 : decode cX4_nextOrder 94 = .ok (.iload_n 1, 1) := dk_27 (dk_at dksX4_nextOrder_3 22 rfl rfl)
theorem dX4_nextOrder_95 : decode cX4_nextOrder 95 = .ok (.iconst 1, 1) := dk_4 (dk_at dksX4_nextOrder_3 23 rfl rfl)
theorem dX4_nextOrder_96 : decode cX4_nextOrder 96 = .ok (.iadd, 1) := dk_96 (dk_at dksX4_nextOrder_4 0 rfl rfl)
theorem dX4_nextOrder_97 : decode cX4_nextOrder 97 = .ok (.istore 4, 2) := dk_54 4 (dk_at dksX4_nextOrder_4 1 rfl rfl)
theorem dX4_nextOrder_99 : decode cX4_nextOrder 99 = .ok (.aload_n 0, 1) := dk_42 (dk_at dksX4_nextOrder_4 3 rfl rfl)
theorem dX4_nextOrder_100 : decode cX4_nextOrder 100 = .ok (.getfield 119, 3) := dk_180 0 119 (dk_at dksX4_nextOrder_4 4 rfl rfl)
theorem dX4_nextOrder_103 : decode cX4_nextOrder 103 = .ok (.iconst 1, 1) := dk_4 (dk_at dksX4_nextOrder_4 7 rfl rfl)
theorem dX4_nextOrder_104 : decode cX4_nextOrder 104 = .ok (.isub, 1) := dk_100 (dk_at dksX4_nextOrder_4 8 rfl rfl)
theorem dX4_nextOrder_105 : decode cX4_nextOrder 105 = .ok (.istore 5, 2) := dk_54 5 (dk_at dksX4_nextOrder_4 9 rfl rfl)
theorem dX4_nextOrder_107 : decode cX4_nextOrder 107 = .ok (.iload 4, 2) := dk_21 4 (dk_at dksX4_nextOrder_4 11 rfl rfl)
theorem dX4_nextOrder_109 : decode cX4_nextOrder 109 = .ok (.iload 5, 2) := dk_21 5 (dk_at dksX4_nextOrder_4 13 rfl rfl)
theorem dX4_nextOrder_111 : decode cX4_nextOrder 111 = .ok (.if_icmp .ge 42, 3) := dk_162 0 42 (dk_at dksX4_nextOrder_4 15 rfl rfl)
theorem dX4_nextOrder_114 : decode cX4_nextOrder 114 = .ok (.aload_n 0, 1) := dk_42 (dk_at dksX4_nextOrder_4 18 rfl rfl)
theorem dX4_nextOrder_115 : decode cX4_nextOrder 115 = .ok (.getfield 34, 3) := dk_180 0 34 (dk_at dksX4_nextOrder_4 19 rfl rfl)
theorem dX4_nextOrder_118 : decode cX4_nextOrder 118 = .ok (.iload 4, 2) := dk_21 4 (dk_at dksX4_nextOrder_4 22 rfl rfl)
theorem dX4_nextOrder_120 : decode cX4_nextOrder 120 = .ok (.iaload, 1) := dk_46 (dk_at dksX4_nextOrder_5 0 rfl rfl)
theorem dX4_nextOrder_121 : decode cX4_nextOrder 121 = .ok (.istore_n 3, 1) := dk_62 (dk_at dksX4_nextOrder_5 1 rfl rfl)
theorem dX4_nextOrder_122 : decode cX4_nextOrder 122 = .ok (.aload_n 0, 1) := dk_42 (dk_at dksX4_nextOrder_5 2 rfl rfl)
theorem dX4_nextOrder_123 : decode cX4_nextOrder 123 = .ok (.getfield 34, 3) := dk_180 0 34 (dk_at dksX4_nextOrder_5 3 rfl rfl)
theorem dX4_nextOrder_126 : decode cX4_nextOrder 126 = .ok (.iload 4, 2) := dk_21 4 (dk_at dksX4_nextOrder_5 6 rfl rfl)
theorem dX4_nextOrder_128 : decode cX4_nextOrder 128 = .ok (.aload_n 0, 1) := dk_42 (dk_at dksX4_nextOrder_5 8 rfl rfl)
theorem dX4_nextOrder_129 : decode cX4_nextOrder 129 = .ok (.getfield 34, 3) := dk_180 0 34 (dk_at dksX4_nextOrder_5 9 rfl rfl)
theorem dX4_nextOrder_132 : decode cX4_nextOrder 132 = .ok (.iload 5, 2) := dk_21 5 (dk_at dksX4_nextOrder_5 12 rfl rfl)
theorem dX4_nextOrder_134 : decode cX4_nextOrder 134 = .ok (.iaload, 1) := dk_46 (dk_at dksX4_nextOrder_5 14 rfl rfl)
theorem dX4_nextOrder_135 : decode cX4_nextOrder 135 = .ok (.iastore, 1) := dk_79 (dk_at dksX4_nextOrder_5 15 rfl rfl)
theorem dX4_nextOrder_136 : decode cX4_nextOrder 136 = .ok (.aload_n 0, 1) := dk_42 (dk_at dksX4_nextOrder_5 16 rfl rfl)
theorem dX4_nextOrder_137 : decode cX4_nextOrder 137 = .ok (.getfield 34, 3) := dk_180 0 34 (dk_at dksX4_nextOrder_5 17 rfl rfl)
theorem dX4_nextOrder_140 : decode cX4_nextOrder 140 = .ok (.iload 5, 2) := dk_21 5 (dk_at dksX4_nextOrder_5 20 rfl rfl)
theorem dX4_nextOrder_142 : decode cX4_nextOrder 142 = .ok (.iload_n 3, 1) := dk_29 (dk_at dksX4_nextOrder_5 22 rfl rfl)
theorem dX4_nextOrder_143 : decode cX4_nextOrder 143 = .ok (.iastore, 1) := dk_79 (dk_at dksX4_nextOrder_5 23 rfl rfl)
theorem dX4_nextOrder_144 : decode cX4_nextOrder 144 = .ok (.iinc 4 1, 3) := dk_132 4 1 (dk_at dksX4_nextOrder_6 0 rfl rfl)
theorem dX4_nextOrder_147 : decode cX4_nextOrder 147 = .ok (.iinc 5 (-1), 3) := dk_132 5 255 (dk_at dksX4_nextOrder_6 3 rfl rfl)
theorem dX4_nextOrder_150 : decode cX4_nextOrder 150 = .ok (.goto (-43), 3) := dk_167 255 213 (dk_at dksX4_nextOrder_6 6 rfl rfl)
theorem dX4_nextOrder_153 : decode cX4_nextOrder 153 = .ok (.iconst 1, 1) := dk_4 (dk_at dksX4_nextOrder_6 9 rfl rfl)
theorem dX4_nextOrder_154 : decode cX4_nextOrder 154 = .ok (.ireturn, 1) := dk_172 (dk_at dksX4_nextOrder_6 10 rfl rfl)
abbrev cX4_rings : ByteArray := prog_13_method_60_code
def yX4_rings : MethodName := ⟨RX4, "rings", "(I)I"⟩
def dkwX4_rings_0 : List UInt8 := [42, 27, 182, 0, 219, 153, 0, 12, 42, 27, 2, 182, 0, 222, 167, 0, 4, 2, 172]
abbrev dktX4_rings_0 : List UInt8 := dkwX4_rings_0 ++ []
theorem dksX4_rings_0 : cX4_rings.data.toList.drop 0 = dktX4_rings_0 := by decide +kernel
theorem dX4_rings_0 : decode cX4_rings 0 = .ok (.aload_n 0, 1) := dk_42 (dk_at dksX4_rings_0 0 rfl rfl)
theorem dX4_rings_1 : decode cX4_rings 1 = .ok (.iload_n 1, 1) := dk_27 (dk_at dksX4_rings_0 1 rfl rfl)
theorem dX4_rings_2 : decode cX4_rings 2 = .ok (.invokevirtual 219, 3) := dk_182 0 219 (dk_at dksX4_rings_0 2 rfl rfl)
theorem dX4_rings_5 : decode cX4_rings 5 = .ok (.ifCond .eq 12, 3) := dk_153 0 12 (dk_at dksX4_rings_0 5 rfl rfl)
theorem dX4_rings_8 : decode cX4_rings 8 = .ok (.aload_n 0, 1) := dk_42 (dk_at dksX4_rings_0 8 rfl rfl)
theorem dX4_rings_9 : decode cX4_rings 9 = .ok (.iload_n 1, 1) := dk_27 (dk_at dksX4_rings_0 9 rfl rfl)
theorem dX4_rings_10 : decode cX4_rings 10 = .ok (.iconst (-1), 1) := dk_2 (dk_at dksX4_rings_0 10 rfl rfl)
theorem dX4_rings_11 : decode cX4_rings 11 = .ok (.invokevirtual 222, 3) := dk_182 0 222 (dk_at dksX4_rings_0 11 rfl rfl)
theorem dX4_rings_14 : decode cX4_rings 14 = .ok (.goto 4, 3) := dk_167 0 4 (dk_at dksX4_rings_0 14 rfl rfl)
theorem dX4_rings_17 : decode cX4_rings 17 = .ok (.iconst (-1), 1) := dk_2 (dk_at dksX4_rings_0 17 rfl rfl)
theorem dX4_rings_18 : decode cX4_rings 18 = .ok (.ireturn, 1) := dk_172 (dk_at dksX4_rings_0 18 rfl rfl)
abbrev cX4_isRinged : ByteArray := prog_13_method_59_code
def yX4_isRinged : MethodName := ⟨RX4, "isRinged", "(I)Z"⟩
def dkwX4_isRinged_0 : List UInt8 := [42, 27, 182, 0, 107, 153, 0, 17, 42, 180, 0, 7, 27, 46, 4, 164, 0, 7, 4, 167, 0, 4, 3, 172]
abbrev dktX4_isRinged_0 : List UInt8 := dkwX4_isRinged_0 ++ []
theorem dksX4_isRinged_0 : cX4_isRinged.data.toList.drop 0 = dktX4_isRinged_0 := by decide +kernel
theorem dX4_isRinged_0 : decode cX4_isRinged 0 = .ok (.aload_n 0, 1) := dk_42 (dk_at dksX4_isRinged_0 0 rfl rfl)
theorem dX4_isRinged_1 : decode cX4_isRinged 1 = .ok (.iload_n 1, 1) := dk_27 (dk_at dksX4_isRinged_0 1 rfl rfl)
theorem dX4_isRinged_2 : decode cX4_isRinged 2 = .ok (.invokevirtual 107, 3) := dk_182 0 107 (dk_at dksX4_isRinged_0 2 rfl rfl)
theorem dX4_isRinged_5 : decode cX4_isRinged 5 = .ok (.ifCond .eq 17, 3) := dk_153 0 17 (dk_at dksX4_isRinged_0 5 rfl rfl)
theorem dX4_isRinged_8 : decode cX4_isRinged 8 = .ok (.aload_n 0, 1) := dk_42 (dk_at dksX4_isRinged_0 8 rfl rfl)
theorem dX4_isRinged_9 : decode cX4_isRinged 9 = .ok (.getfield 7, 3) := dk_180 0 7 (dk_at dksX4_isRinged_0 9 rfl rfl)
theorem dX4_isRinged_12 : decode cX4_isRinged 12 = .ok (.iload_n 1, 1) := dk_27 (dk_at dksX4_isRinged_0 12 rfl rfl)
theorem dX4_isRinged_13 : decode cX4_isRinged 13 = .ok (.iaload, 1) := dk_46 (dk_at dksX4_isRinged_0 13 rfl rfl)
theorem dX4_isRinged_14 : decode cX4_isRinged 14 = .ok (.iconst 1, 1) := dk_4 (dk_at dksX4_isRinged_0 14 rfl rfl)
theorem dX4_isRinged_15 : decode cX4_isRinged 15 = .ok (.if_icmp .le 7, 3) := dk_164 0 7 (dk_at dksX4_isRinged_0 15 rfl rfl)
theorem dX4_isRinged_18 : decode cX4_isRinged 18 = .ok (.iconst 1, 1) := dk_4 (dk_at dksX4_isRinged_0 18 rfl rfl)
theorem dX4_isRinged_19 : decode cX4_isRinged 19 = .ok (.goto 4, 3) := dk_167 0 4 (dk_at dksX4_isRinged_0 19 rfl rfl)
theorem dX4_isRinged_22 : decode cX4_isRinged 22 = .ok (.iconst 0, 1) := dk_3 (dk_at dksX4_isRinged_0 22 rfl rfl)
theorem dX4_isRinged_23 : decode cX4_isRinged 23 = .ok (.ireturn, 1) := dk_172 (dk_at dksX4_isRinged_0 23 rfl rfl)
abbrev cX4_ringsOf : ByteArray := prog_13_method_58_code
def yX4_ringsOf : MethodName := ⟨RX4, "ringsOf", "(II)I"⟩
def dkwX4_ringsOf_10 : List UInt8 := [167, 255, 27, 28, 2, 160, 0, 7, 29, 167, 0, 4, 2, 172]
abbrev dktX4_ringsOf_10 : List UInt8 := dkwX4_ringsOf_10 ++ []
def dkwX4_ringsOf_9 : List UInt8 := [42, 180, 0, 84, 5, 21, 8, 79, 29, 172, 132, 3, 1, 132, 7, 1, 167, 255, 115, 132, 4, 1]
abbrev dktX4_ringsOf_9 : List UInt8 := dkwX4_ringsOf_9 ++ dktX4_ringsOf_10
def dkwX4_ringsOf_8 : List UInt8 := [167, 0, 37, 29, 28, 160, 0, 29, 42, 180, 0, 84, 3, 21, 5, 79, 42, 180, 0, 84, 4, 21, 6, 79]
abbrev dktX4_ringsOf_8 : List UInt8 := dkwX4_ringsOf_8 ++ dktX4_ringsOf_9
def dkwX4_ringsOf_7 : List UInt8 := [156, 0, 59, 21, 8, 21, 6, 159, 0, 52, 42, 27, 21, 8, 21, 5, 182, 0, 216, 154, 0, 6]
abbrev dktX4_ringsOf_7 : List UInt8 := dkwX4_ringsOf_7 ++ dktX4_ringsOf_8
def dkwX4_ringsOf_6 : List UInt8 := [27, 21, 7, 4, 100, 4, 182, 0, 95, 21, 8, 160, 0, 6, 167, 0, 69, 21, 5, 21, 8, 184, 0, 99]
abbrev dktX4_ringsOf_6 : List UInt8 := dkwX4_ringsOf_6 ++ dktX4_ringsOf_7
def dkwX4_ringsOf_5 : List UInt8 := [160, 0, 107, 21, 7, 158, 0, 36, 42, 27, 21, 7, 4, 100, 3, 182, 0, 95, 21, 6, 160, 0, 21, 42]
abbrev dktX4_ringsOf_5 : List UInt8 := dkwX4_ringsOf_5 ++ dktX4_ringsOf_6
def dkwX4_ringsOf_4 : List UInt8 := [162, 0, 136, 42, 27, 21, 7, 4, 182, 0, 95, 54, 8, 42, 27, 21, 7, 3, 182, 0, 95, 21, 6]
abbrev dktX4_ringsOf_4 : List UInt8 := dkwX4_ringsOf_4 ++ dktX4_ringsOf_5
def dkwX4_ringsOf_3 : List UInt8 := [4, 182, 0, 95, 21, 6, 160, 0, 6, 167, 0, 150, 3, 54, 7, 21, 7, 42, 180, 0, 13, 27, 46]
abbrev dktX4_ringsOf_3 : List UInt8 := dkwX4_ringsOf_3 ++ dktX4_ringsOf_4
def dkwX4_ringsOf_2 : List UInt8 := [158, 0, 36, 42, 27, 21, 4, 4, 100, 3, 182, 0, 95, 21, 5, 160, 0, 21, 42, 27, 21, 4, 4, 100]
abbrev dktX4_ringsOf_2 : List UInt8 := dkwX4_ringsOf_2 ++ dktX4_ringsOf_3
def dkwX4_ringsOf_1 : List UInt8 := [54, 5, 42, 27, 21, 4, 4, 182, 0, 95, 54, 6, 21, 5, 21, 6, 184, 0, 99, 156, 0, 188, 21, 4]
abbrev dktX4_ringsOf_1 : List UInt8 := dkwX4_ringsOf_1 ++ dktX4_ringsOf_2
def dkwX4_ringsOf_0 : List UInt8 := [3, 62, 3, 54, 4, 21, 4, 42, 180, 0, 13, 27, 46, 162, 0, 224, 42, 27, 21, 4, 3, 182, 0, 95]
abbrev dktX4_ringsOf_0 : List UInt8 := dkwX4_ringsOf_0 ++ dktX4_ringsOf_1
theorem dksX4_ringsOf_0 : cX4_ringsOf.data.toList.drop 0 = dktX4_ringsOf_0 := by decide +kernel
theorem dksX4_ringsOf_1 : cX4_ringsOf.data.toList.drop 24 = dktX4_ringsOf_1 := dk_seg dksX4_ringsOf_0 24 rfl rfl
theorem dksX4_ringsOf_2 : cX4_ringsOf.data.toList.drop 48 = dktX4_ringsOf_2 := dk_seg dksX4_ringsOf_1 24 rfl rfl
theorem dksX4_ringsOf_3 : cX4_ringsOf.data.toList.drop 72 = dktX4_ringsOf_3 := dk_seg dksX4_ringsOf_2 24 rfl rfl
theorem dksX4_ringsOf_4 : cX4_ringsOf.data.toList.drop 95 = dktX4_ringsOf_4 := dk_seg dksX4_ringsOf_3 23 rfl rfl
theorem dksX4_ringsOf_5 : cX4_ringsOf.data.toList.drop 118 = dktX4_ringsOf_5 := dk_seg dksX4_ringsOf_4 23 rfl rfl
theorem dksX4_ringsOf_6 : cX4_ringsOf.data.toList.drop 142 = dktX4_ringsOf_6 := dk_seg dksX4_ringsOf_5 24 rfl rfl
theorem dksX4_ringsOf_7 : cX4_ringsOf.data.toList.drop 166 = dktX4_ringsOf_7 := dk_seg dksX4_ringsOf_6 24 rfl rfl
theorem dksX4_ringsOf_8 : cX4_ringsOf.data.toList.drop 188 = dktX4_ringsOf_8 := dk_seg dksX4_ringsOf_7 22 rfl rfl
theorem dksX4_ringsOf_9 : cX4_ringsOf.data.toList.drop 212 = dktX4_ringsOf_9 := dk_seg dksX4_ringsOf_8 24 rfl rfl
theorem dksX4_ringsOf_10 : cX4_ringsOf.data.toList.drop 234 = dktX4_ringsOf_10 := dk_seg dksX4_ringsOf_9 22 rfl rfl
theorem dX4_ringsOf_0 : decode cX4_ringsOf 0 = .ok (.iconst 0, 1) := dk_3 (dk_at dksX4_ringsOf_0 0 rfl rfl)
theorem dX4_ringsOf_1 : decode cX4_ringsOf 1 = .ok (.istore_n 3, 1) := dk_62 (dk_at dksX4_ringsOf_0 1 rfl rfl)
theorem dX4_ringsOf_2 : decode cX4_ringsOf 2 = .ok (.iconst 0, 1) := dk_3 (dk_at dksX4_ringsOf_0 2 rfl rfl)
theorem dX4_ringsOf_3 : decode cX4_ringsOf 3 = .ok (.istore 4, 2) := dk_54 4 (dk_at dksX4_ringsOf_0 3 rfl rfl)
theorem dX4_ringsOf_5 : decode cX4_ringsOf 5 = .ok (.iload 4, 2) := dk_21 4 (dk_at dksX4_ringsOf_0 5 rfl rfl)
theorem dX4_ringsOf_7 : decode cX4_ringsOf 7 = .ok (.aload_n 0, 1) := dk_42 (dk_at dksX4_ringsOf_0 7 rfl rfl)
theorem dX4_ringsOf_8 : decode cX4_ringsOf 8 = .ok (.getfield 13, 3) := dk_180 0 13 (dk_at dksX4_ringsOf_0 8 rfl rfl)
theorem dX4_ringsOf_11 : decode cX4_ringsOf 11 = .ok (.iload_n 1, 1) := dk_27 (dk_at dksX4_ringsOf_0 11 rfl rfl)
theorem dX4_ringsOf_12 : decode cX4_ringsOf 12 = .ok (.iaload, 1) := dk_46 (dk_at dksX4_ringsOf_0 12 rfl rfl)
theorem dX4_ringsOf_13 : decode cX4_ringsOf 13 = .ok (.if_icmp .ge 224, 3) := dk_162 0 224 (dk_at dksX4_ringsOf_0 13 rfl rfl)
theorem dX4_ringsOf_16 : decode cX4_ringsOf 16 = .ok (.aload_n 0, 1) := dk_42 (dk_at dksX4_ringsOf_0 16 rfl rfl)
theorem dX4_ringsOf_17 : decode cX4_ringsOf 17 = .ok (.iload_n 1, 1) := dk_27 (dk_at dksX4_ringsOf_0 17 rfl rfl)
theorem dX4_ringsOf_18 : decode cX4_ringsOf 18 = .ok (.iload 4, 2) := dk_21 4 (dk_at dksX4_ringsOf_0 18 rfl rfl)
theorem dX4_ringsOf_20 : decode cX4_ringsOf 20 = .ok (.iconst 0, 1) := dk_3 (dk_at dksX4_ringsOf_0 20 rfl rfl)
theorem dX4_ringsOf_21 : decode cX4_ringsOf 21 = .ok (.invokevirtual 95, 3) := dk_182 0 95 (dk_at dksX4_ringsOf_0 21 rfl rfl)
theorem dX4_ringsOf_24 : decode cX4_ringsOf 24 = .ok (.istore 5, 2) := dk_54 5 (dk_at dksX4_ringsOf_1 0 rfl rfl)
theorem dX4_ringsOf_26 : decode cX4_ringsOf 26 = .ok (.aload_n 0, 1) := dk_42 (dk_at dksX4_ringsOf_1 2 rfl rfl)
theorem dX4_ringsOf_27 : decode cX4_ringsOf 27 = .ok (.iload_n 1, 1) := dk_27 (dk_at dksX4_ringsOf_1 3 rfl rfl)
theorem dX4_ringsOf_28 : decode cX4_ringsOf 28 = .ok (.iload 4, 2) := dk_21 4 (dk_at dksX4_ringsOf_1 4 rfl rfl)
theorem dX4_ringsOf_30 : decode cX4_ringsOf 30 = .ok (.iconst 1, 1) := dk_4 (dk_at dksX4_ringsOf_1 6 rfl rfl)
theorem dX4_ringsOf_31 : decode cX4_ringsOf 31 = .ok (.invokevirtual 95, 3) := dk_182 0 95 (dk_at dksX4_ringsOf_1 7 rfl rfl)
theorem dX4_ringsOf_34 : decode cX4_ringsOf 34 = .ok (.istore 6, 2) := dk_54 6 (dk_at dksX4_ringsOf_1 10 rfl rfl)
theorem dX4_ringsOf_36 : decode cX4_ringsOf 36 = .ok (.iload 5, 2) := dk_21 5 (dk_at dksX4_ringsOf_1 12 rfl rfl)
theorem dX4_ringsOf_38 : decode cX4_ringsOf 38 = .ok (.iload 6, 2) := dk_21 6 (dk_at dksX4_ringsOf_1 14 rfl rfl)
theorem dX4_ringsOf_40 : decode cX4_ringsOf 40 = .ok (.invokestatic 99, 3) := dk_184 0 99 (dk_at dksX4_ringsOf_1 16 rfl rfl)
theorem dX4_ringsOf_43 : decode cX4_ringsOf 43 = .ok (.ifCond .ge 188, 3) := dk_156 0 188 (dk_at dksX4_ringsOf_1 19 rfl rfl)
theorem dX4_ringsOf_46 : decode cX4_ringsOf 46 = .ok (.iload 4, 2) := dk_21 4 (dk_at dksX4_ringsOf_1 22 rfl rfl)
theorem dX4_ringsOf_48 : decode cX4_ringsOf 48 = .ok (.ifCond .le 36, 3) := dk_158 0 36 (dk_at dksX4_ringsOf_2 0 rfl rfl)
theorem dX4_ringsOf_51 : decode cX4_ringsOf 51 = .ok (.aload_n 0, 1) := dk_42 (dk_at dksX4_ringsOf_2 3 rfl rfl)
theorem dX4_ringsOf_52 : decode cX4_ringsOf 52 = .ok (.iload_n 1, 1) := dk_27 (dk_at dksX4_ringsOf_2 4 rfl rfl)
theorem dX4_ringsOf_53 : decode cX4_ringsOf 53 = .ok (.iload 4, 2) := dk_21 4 (dk_at dksX4_ringsOf_2 5 rfl rfl)
theorem dX4_ringsOf_55 : decode cX4_ringsOf 55 = .ok (.iconst 1, 1) := dk_4 (dk_at dksX4_ringsOf_2 7 rfl rfl)
theorem dX4_ringsOf_56 : decode cX4_ringsOf 56 = .ok (.isub, 1) := dk_100 (dk_at dksX4_ringsOf_2 8 rfl rfl)
theorem dX4_ringsOf_57 : decode cX4_ringsOf 57 = .ok (.iconst 0, 1) := dk_3 (dk_at dksX4_ringsOf_2 9 rfl rfl)
theorem dX4_ringsOf_58 : decode cX4_ringsOf 58 = .ok (.invokevirtual 95, 3) := dk_182 0 95 (dk_at dksX4_ringsOf_2 10 rfl rfl)
theorem dX4_ringsOf_61 : decode cX4_ringsOf 61 = .ok (.iload 5, 2) := dk_21 5 (dk_at dksX4_ringsOf_2 13 rfl rfl)
theorem dX4_ringsOf_63 : decode cX4_ringsOf 63 = .ok (.if_icmp .ne 21, 3) := dk_160 0 21 (dk_at dksX4_ringsOf_2 15 rfl rfl)
theorem dX4_ringsOf_66 : decode cX4_ringsOf 66 = .ok (.aload_n 0, 1) := dk_42 (dk_at dksX4_ringsOf_2 18 rfl rfl)
theorem dX4_ringsOf_67 : decode cX4_ringsOf 67 = .ok (.iload_n 1, 1) := dk_27 (dk_at dksX4_ringsOf_2 19 rfl rfl)
theorem dX4_ringsOf_68 : decode cX4_ringsOf 68 = .ok (.iload 4, 2) := dk_21 4 (dk_at dksX4_ringsOf_2 20 rfl rfl)
theorem dX4_ringsOf_70 : decode cX4_ringsOf 70 = .ok (.iconst 1, 1) := dk_4 (dk_at dksX4_ringsOf_2 22 rfl rfl)
theorem dX4_ringsOf_71 : decode cX4_ringsOf 71 = .ok (.isub, 1) := dk_100 (dk_at dksX4_ringsOf_2 23 rfl rfl)
theorem dX4_ringsOf_72 : decode cX4_ringsOf 72 = .ok (.iconst 1, 1) := dk_4 (dk_at dksX4_ringsOf_3 0 rfl rfl)
theorem dX4_ringsOf_73 : decode cX4_ringsOf 73 = .ok (.invokevirtual 95, 3) := dk_182 0 95 (dk_at dksX4_ringsOf_3 1 rfl rfl)
theorem dX4_ringsOf_76 : decode cX4_ringsOf 76 = .ok (.iload 6, 2) := dk_21 6 (dk_at dksX4_ringsOf_3 4 rfl rfl)
theorem dX4_ringsOf_78 : decode cX4_ringsOf 78 = .ok (.if_icmp .ne 6, 3) := dk_160 0 6 (dk_at dksX4_ringsOf_3 6 rfl rfl)
theorem dX4_ringsOf_81 : decode cX4_ringsOf 81 = .ok (.goto 150, 3) := dk_167 0 150 (dk_at dksX4_ringsOf_3 9 rfl rfl)
theorem dX4_ringsOf_84 : decode cX4_ringsOf 84 = .ok (.iconst 0, 1) := dk_3 (dk_at dksX4_ringsOf_3 12 rfl rfl)
theorem dX4_ringsOf_85 : decode cX4_ringsOf 85 = .ok (.istore 7, 2) := dk_54 7 (dk_at dksX4_ringsOf_3 13 rfl rfl)
theorem dX4_ringsOf_87 : decode cX4_ringsOf 87 = .ok (.iload 7, 2) := dk_21 7 (dk_at dksX4_ringsOf_3 15 rfl rfl)
theorem dX4_ringsOf_89 : decode cX4_ringsOf 89 = .ok (.aload_n 0, 1) := dk_42 (dk_at dksX4_ringsOf_3 17 rfl rfl)
theorem dX4_ringsOf_90 : decode cX4_ringsOf 90 = .ok (.getfield 13, 3) := dk_180 0 13 (dk_at dksX4_ringsOf_3 18 rfl rfl)
theorem dX4_ringsOf_93 : decode cX4_ringsOf 93 = .ok (.iload_n 1, 1) := dk_27 (dk_at dksX4_ringsOf_3 21 rfl rfl)
theorem dX4_ringsOf_94 : decode cX4_ringsOf 94 = .ok (.iaload, 1) := dk_46 (dk_at dksX4_ringsOf_3 22 rfl rfl)
theorem dX4_ringsOf_95 : decode cX4_ringsOf 95 = .ok (.if_icmp .ge 136, 3) := dk_162 0 136 (dk_at dksX4_ringsOf_4 0 rfl rfl)
theorem dX4_ringsOf_98 : decode cX4_ringsOf 98 = .ok (.aload_n 0, 1) := dk_42 (dk_at dksX4_ringsOf_4 3 rfl rfl)
theorem dX4_ringsOf_99 : decode cX4_ringsOf 99 = .ok (.iload_n 1, 1) := dk_27 (dk_at dksX4_ringsOf_4 4 rfl rfl)
theorem dX4_ringsOf_100 : decode cX4_ringsOf 100 = .ok (.iload 7, 2) := dk_21 7 (dk_at dksX4_ringsOf_4 5 rfl rfl)
theorem dX4_ringsOf_102 : decode cX4_ringsOf 102 = .ok (.iconst 1, 1) := dk_4 (dk_at dksX4_ringsOf_4 7 rfl rfl)
theorem dX4_ringsOf_103 : decode cX4_ringsOf 103 = .ok (.invokevirtual 95, 3) := dk_182 0 95 (dk_at dksX4_ringsOf_4 8 rfl rfl)
theorem dX4_ringsOf_106 : decode cX4_ringsOf 106 = .ok (.istore 8, 2) := dk_54 8 (dk_at dksX4_ringsOf_4 11 rfl rfl)
theorem dX4_ringsOf_108 : decode cX4_ringsOf 108 = .ok (.aload_n 0, 1) := dk_42 (dk_at dksX4_ringsOf_4 13 rfl rfl)
theorem dX4_ringsOf_109 : decode cX4_ringsOf 109 = .ok (.iload_n 1, 1) := dk_27 (dk_at dksX4_ringsOf_4 14 rfl rfl)
theorem dX4_ringsOf_110 : decode cX4_ringsOf 110 = .ok (.iload 7, 2) := dk_21 7 (dk_at dksX4_ringsOf_4 15 rfl rfl)
theorem dX4_ringsOf_112 : decode cX4_ringsOf 112 = .ok (.iconst 0, 1) := dk_3 (dk_at dksX4_ringsOf_4 17 rfl rfl)
theorem dX4_ringsOf_113 : decode cX4_ringsOf 113 = .ok (.invokevirtual 95, 3) := dk_182 0 95 (dk_at dksX4_ringsOf_4 18 rfl rfl)
theorem dX4_ringsOf_116 : decode cX4_ringsOf 116 = .ok (.iload 6, 2) := dk_21 6 (dk_at dksX4_ringsOf_4 21 rfl rfl)
theorem dX4_ringsOf_118 : decode cX4_ringsOf 118 = .ok (.if_icmp .ne 107, 3) := dk_160 0 107 (dk_at dksX4_ringsOf_5 0 rfl rfl)
theorem dX4_ringsOf_121 : decode cX4_ringsOf 121 = .ok (.iload 7, 2) := dk_21 7 (dk_at dksX4_ringsOf_5 3 rfl rfl)
theorem dX4_ringsOf_123 : decode cX4_ringsOf 123 = .ok (.ifCond .le 36, 3) := dk_158 0 36 (dk_at dksX4_ringsOf_5 5 rfl rfl)
theorem dX4_ringsOf_126 : decode cX4_ringsOf 126 = .ok (.aload_n 0, 1) := dk_42 (dk_at dksX4_ringsOf_5 8 rfl rfl)
theorem dX4_ringsOf_127 : decode cX4_ringsOf 127 = .ok (.iload_n 1, 1) := dk_27 (dk_at dksX4_ringsOf_5 9 rfl rfl)
theorem dX4_ringsOf_128 : decode cX4_ringsOf 128 = .ok (.iload 7, 2) := dk_21 7 (dk_at dksX4_ringsOf_5 10 rfl rfl)
theorem dX4_ringsOf_130 : decode cX4_ringsOf 130 = .ok (.iconst 1, 1) := dk_4 (dk_at dksX4_ringsOf_5 12 rfl rfl)
theorem dX4_ringsOf_131 : decode cX4_ringsOf 131 = .ok (.isub, 1) := dk_100 (dk_at dksX4_ringsOf_5 13 rfl rfl)
theorem dX4_ringsOf_132 : decode cX4_ringsOf 132 = .ok (.iconst 0, 1) := dk_3 (dk_at dksX4_ringsOf_5 14 rfl rfl)
theorem dX4_ringsOf_133 : decode cX4_ringsOf 133 = .ok (.invokevirtual 95, 3) := dk_182 0 95 (dk_at dksX4_ringsOf_5 15 rfl rfl)
theorem dX4_ringsOf_136 : decode cX4_ringsOf 136 = .ok (.iload 6, 2) := dk_21 6 (dk_at dksX4_ringsOf_5 18 rfl rfl)
theorem dX4_ringsOf_138 : decode cX4_ringsOf 138 = .ok (.if_icmp .ne 21, 3) := dk_160 0 21 (dk_at dksX4_ringsOf_5 20 rfl rfl)
theorem dX4_ringsOf_141 : decode cX4_ringsOf 141 = .ok (.aload_n 0, 1) := dk_42 (dk_at dksX4_ringsOf_5 23 rfl rfl)
theorem dX4_ringsOf_142 : decode cX4_ringsOf 142 = .ok (.iload_n 1, 1) := dk_27 (dk_at dksX4_ringsOf_6 0 rfl rfl)
theorem dX4_ringsOf_143 : decode cX4_ringsOf 143 = .ok (.iload 7, 2) := dk_21 7 (dk_at dksX4_ringsOf_6 1 rfl rfl)
theorem dX4_ringsOf_145 : decode cX4_ringsOf 145 = .ok (.iconst 1, 1) := dk_4 (dk_at dksX4_ringsOf_6 3 rfl rfl)
theorem dX4_ringsOf_146 : decode cX4_ringsOf 146 = .ok (.isub, 1) := dk_100 (dk_at dksX4_ringsOf_6 4 rfl rfl)
theorem dX4_ringsOf_147 : decode cX4_ringsOf 147 = .ok (.iconst 1, 1) := dk_4 (dk_at dksX4_ringsOf_6 5 rfl rfl)
theorem dX4_ringsOf_148 : decode cX4_ringsOf 148 = .ok (.invokevirtual 95, 3) := dk_182 0 95 (dk_at dksX4_ringsOf_6 6 rfl rfl)
theorem dX4_ringsOf_151 : decode cX4_ringsOf 151 = .ok (.iload 8, 2) := dk_21 8 (dk_at dksX4_ringsOf_6 9 rfl rfl)
theorem dX4_ringsOf_153 : decode cX4_ringsOf 153 = .ok (.if_icmp .ne 6, 3) := dk_160 0 6 (dk_at dksX4_ringsOf_6 11 rfl rfl)
theorem dX4_ringsOf_156 : decode cX4_ringsOf 156 = .ok (.goto 69, 3) := dk_167 0 69 (dk_at dksX4_ringsOf_6 14 rfl rfl)
theorem dX4_ringsOf_159 : decode cX4_ringsOf 159 = .ok (.iload 5, 2) := dk_21 5 (dk_at dksX4_ringsOf_6 17 rfl rfl)
theorem dX4_ringsOf_161 : decode cX4_ringsOf 161 = .ok (.iload 8, 2) := dk_21 8 (dk_at dksX4_ringsOf_6 19 rfl rfl)
theorem dX4_ringsOf_163 : decode cX4_ringsOf 163 = .ok (.invokestatic 99, 3) := dk_184 0 99 (dk_at dksX4_ringsOf_6 21 rfl rfl)
theorem dX4_ringsOf_166 : decode cX4_ringsOf 166 = .ok (.ifCond .ge 59, 3) := dk_156 0 59 (dk_at dksX4_ringsOf_7 0 rfl rfl)
theorem dX4_ringsOf_169 : decode cX4_ringsOf 169 = .ok (.iload 8, 2) := dk_21 8 (dk_at dksX4_ringsOf_7 3 rfl rfl)
theorem dX4_ringsOf_171 : decode cX4_ringsOf 171 = .ok (.iload 6, 2) := dk_21 6 (dk_at dksX4_ringsOf_7 5 rfl rfl)
theorem dX4_ringsOf_173 : decode cX4_ringsOf 173 = .ok (.if_icmp .eq 52, 3) := dk_159 0 52 (dk_at dksX4_ringsOf_7 7 rfl rfl)
theorem dX4_ringsOf_176 : decode cX4_ringsOf 176 = .ok (.aload_n 0, 1) := dk_42 (dk_at dksX4_ringsOf_7 10 rfl rfl)
theorem dX4_ringsOf_177 : decode cX4_ringsOf 177 = .ok (.iload_n 1, 1) := dk_27 (dk_at dksX4_ringsOf_7 11 rfl rfl)
theorem dX4_ringsOf_178 : decode cX4_ringsOf 178 = .ok (.iload 8, 2) := dk_21 8 (dk_at dksX4_ringsOf_7 12 rfl rfl)
theorem dX4_ringsOf_180 : decode cX4_ringsOf 180 = .ok (.iload 5, 2) := dk_21 5 (dk_at dksX4_ringsOf_7 14 rfl rfl)
theorem dX4_ringsOf_182 : decode cX4_ringsOf 182 = .ok (.invokevirtual 216, 3) := dk_182 0 216 (dk_at dksX4_ringsOf_7 16 rfl rfl)
theorem dX4_ringsOf_185 : decode cX4_ringsOf 185 = .ok (.ifCond .ne 6, 3) := dk_154 0 6 (dk_at dksX4_ringsOf_7 19 rfl rfl)
theorem dX4_ringsOf_188 : decode cX4_ringsOf 188 = .ok (.goto 37, 3) := dk_167 0 37 (dk_at dksX4_ringsOf_8 0 rfl rfl)
theorem dX4_ringsOf_191 : decode cX4_ringsOf 191 = .ok (.iload_n 3, 1) := dk_29 (dk_at dksX4_ringsOf_8 3 rfl rfl)
theorem dX4_ringsOf_192 : decode cX4_ringsOf 192 = .ok (.iload_n 2, 1) := dk_28 (dk_at dksX4_ringsOf_8 4 rfl rfl)
theorem dX4_ringsOf_193 : decode cX4_ringsOf 193 = .ok (.if_icmp .ne 29, 3) := dk_160 0 29 (dk_at dksX4_ringsOf_8 5 rfl rfl)
theorem dX4_ringsOf_196 : decode cX4_ringsOf 196 = .ok (.aload_n 0, 1) := dk_42 (dk_at dksX4_ringsOf_8 8 rfl rfl)
theorem dX4_ringsOf_197 : decode cX4_ringsOf 197 = .ok (.getfield 84, 3) := dk_180 0 84 (dk_at dksX4_ringsOf_8 9 rfl rfl)
theorem dX4_ringsOf_200 : decode cX4_ringsOf 200 = .ok (.iconst 0, 1) := dk_3 (dk_at dksX4_ringsOf_8 12 rfl rfl)
theorem dX4_ringsOf_201 : decode cX4_ringsOf 201 = .ok (.iload 5, 2) := dk_21 5 (dk_at dksX4_ringsOf_8 13 rfl rfl)
theorem dX4_ringsOf_203 : decode cX4_ringsOf 203 = .ok (.iastore, 1) := dk_79 (dk_at dksX4_ringsOf_8 15 rfl rfl)
theorem dX4_ringsOf_204 : decode cX4_ringsOf 204 = .ok (.aload_n 0, 1) := dk_42 (dk_at dksX4_ringsOf_8 16 rfl rfl)
theorem dX4_ringsOf_205 : decode cX4_ringsOf 205 = .ok (.getfield 84, 3) := dk_180 0 84 (dk_at dksX4_ringsOf_8 17 rfl rfl)
theorem dX4_ringsOf_208 : decode cX4_ringsOf 208 = .ok (.iconst 1, 1) := dk_4 (dk_at dksX4_ringsOf_8 20 rfl rfl)
theorem dX4_ringsOf_209 : decode cX4_ringsOf 209 = .ok (.iload 6, 2) := dk_21 6 (dk_at dksX4_ringsOf_8 21 rfl rfl)
theorem dX4_ringsOf_211 : decode cX4_ringsOf 211 = .ok (.iastore, 1) := dk_79 (dk_at dksX4_ringsOf_8 23 rfl rfl)
theorem dX4_ringsOf_212 : decode cX4_ringsOf 212 = .ok (.aload_n 0, 1) := dk_42 (dk_at dksX4_ringsOf_9 0 rfl rfl)
theorem dX4_ringsOf_213 : decode cX4_ringsOf 213 = .ok (.getfield 84, 3) := dk_180 0 84 (dk_at dksX4_ringsOf_9 1 rfl rfl)
theorem dX4_ringsOf_216 : decode cX4_ringsOf 216 = .ok (.iconst 2, 1) := dk_5 (dk_at dksX4_ringsOf_9 4 rfl rfl)
theorem dX4_ringsOf_217 : decode cX4_ringsOf 217 = .ok (.iload 8, 2) := dk_21 8 (dk_at dksX4_ringsOf_9 5 rfl rfl)
theorem dX4_ringsOf_219 : decode cX4_ringsOf 219 = .ok (.iastore, 1) := dk_79 (dk_at dksX4_ringsOf_9 7 rfl rfl)
theorem dX4_ringsOf_220 : decode cX4_ringsOf 220 = .ok (.iload_n 3, 1) := dk_29 (dk_at dksX4_ringsOf_9 8 rfl rfl)
theorem dX4_ringsOf_221 : decode cX4_ringsOf 221 = .ok (.ireturn, 1) := dk_172 (dk_at dksX4_ringsOf_9 9 rfl rfl)
theorem dX4_ringsOf_222 : decode cX4_ringsOf 222 = .ok (.iinc 3 1, 3) := dk_132 3 1 (dk_at dksX4_ringsOf_9 10 rfl rfl)
theorem dX4_ringsOf_225 : decode cX4_ringsOf 225 = .ok (.iinc 7 1, 3) := dk_132 7 1 (dk_at dksX4_ringsOf_9 13 rfl rfl)
theorem dX4_ringsOf_228 : decode cX4_ringsOf 228 = .ok (.goto (-141), 3) := dk_167 255 115 (dk_at dksX4_ringsOf_9 16 rfl rfl)
theorem dX4_ringsOf_231 : decode cX4_ringsOf 231 = .ok (.iinc 4 1, 3) := dk_132 4 1 (dk_at dksX4_ringsOf_9 19 rfl rfl)
theorem dX4_ringsOf_234 : decode cX4_ringsOf 234 = .ok (.goto (-229), 3) := dk_167 255 27 (dk_at dksX4_ringsOf_10 0 rfl rfl)
theorem dX4_ringsOf_237 : decode cX4_ringsOf 237 = .ok (.iload_n 2, 1) := dk_28 (dk_at dksX4_ringsOf_10 3 rfl rfl)
theorem dX4_ringsOf_238 : decode cX4_ringsOf 238 = .ok (.iconst (-1), 1) := dk_2 (dk_at dksX4_ringsOf_10 4 rfl rfl)
theorem dX4_ringsOf_239 : decode cX4_ringsOf 239 = .ok (.if_icmp .ne 7, 3) := dk_160 0 7 (dk_at dksX4_ringsOf_10 5 rfl rfl)
theorem dX4_ringsOf_242 : decode cX4_ringsOf 242 = .ok (.iload_n 3, 1) := dk_29 (dk_at dksX4_ringsOf_10 8 rfl rfl)
theorem dX4_ringsOf_243 : decode cX4_ringsOf 243 = .ok (.goto 4, 3) := dk_167 0 4 (dk_at dksX4_ringsOf_10 9 rfl rfl)
theorem dX4_ringsOf_246 : decode cX4_ringsOf 246 = .ok (.iconst (-1), 1) := dk_2 (dk_at dksX4_ringsOf_10 12 rfl rfl)
theorem dX4_ringsOf_247 : decode cX4_ringsOf 247 = .ok (.ireturn, 1) := dk_172 (dk_at dksX4_ringsOf_10 13 rfl rfl)
abbrev cX4_begins : ByteArray := prog_13_method_57_code
def yX4_begins : MethodName := ⟨RX4, "begins", "(III)Z"⟩
def dkwX4_begins_2 : List UInt8 := [172]
abbrev dktX4_begins_2 : List UInt8 := dkwX4_begins_2 ++ []
def dkwX4_begins_1 : List UInt8 := [160, 0, 17, 42, 27, 21, 4, 4, 182, 0, 95, 29, 160, 0, 5, 4, 172, 132, 4, 1, 167, 255, 216, 3]
abbrev dktX4_begins_1 : List UInt8 := dkwX4_begins_1 ++ dktX4_begins_2
def dkwX4_begins_0 : List UInt8 := [3, 54, 4, 21, 4, 42, 180, 0, 13, 27, 46, 162, 0, 35, 42, 27, 21, 4, 3, 182, 0, 95, 28]
abbrev dktX4_begins_0 : List UInt8 := dkwX4_begins_0 ++ dktX4_begins_1
theorem dksX4_begins_0 : cX4_begins.data.toList.drop 0 = dktX4_begins_0 := by decide +kernel
theorem dksX4_begins_1 : cX4_begins.data.toList.drop 23 = dktX4_begins_1 := dk_seg dksX4_begins_0 23 rfl rfl
theorem dksX4_begins_2 : cX4_begins.data.toList.drop 47 = dktX4_begins_2 := dk_seg dksX4_begins_1 24 rfl rfl
theorem dX4_begins_0 : decode cX4_begins 0 = .ok (.iconst 0, 1) := dk_3 (dk_at dksX4_begins_0 0 rfl rfl)
theorem dX4_begins_1 : decode cX4_begins 1 = .ok (.istore 4, 2) := dk_54 4 (dk_at dksX4_begins_0 1 rfl rfl)
theorem dX4_begins_3 : decode cX4_begins 3 = .ok (.iload 4, 2) := dk_21 4 (dk_at dksX4_begins_0 3 rfl rfl)
theorem dX4_begins_5 : decode cX4_begins 5 = .ok (.aload_n 0, 1) := dk_42 (dk_at dksX4_begins_0 5 rfl rfl)
theorem dX4_begins_6 : decode cX4_begins 6 = .ok (.getfield 13, 3) := dk_180 0 13 (dk_at dksX4_begins_0 6 rfl rfl)
theorem dX4_begins_9 : decode cX4_begins 9 = .ok (.iload_n 1, 1) := dk_27 (dk_at dksX4_begins_0 9 rfl rfl)
theorem dX4_begins_10 : decode cX4_begins 10 = .ok (.iaload, 1) := dk_46 (dk_at dksX4_begins_0 10 rfl rfl)
theorem dX4_begins_11 : decode cX4_begins 11 = .ok (.if_icmp .ge 35, 3) := dk_162 0 35 (dk_at dksX4_begins_0 11 rfl rfl)
theorem dX4_begins_14 : decode cX4_begins 14 = .ok (.aload_n 0, 1) := dk_42 (dk_at dksX4_begins_0 14 rfl rfl)
theorem dX4_begins_15 : decode cX4_begins 15 = .ok (.iload_n 1, 1) := dk_27 (dk_at dksX4_begins_0 15 rfl rfl)
theorem dX4_begins_16 : decode cX4_begins 16 = .ok (.iload 4, 2) := dk_21 4 (dk_at dksX4_begins_0 16 rfl rfl)
theorem dX4_begins_18 : decode cX4_begins 18 = .ok (.iconst 0, 1) := dk_3 (dk_at dksX4_begins_0 18 rfl rfl)
theorem dX4_begins_19 : decode cX4_begins 19 = .ok (.invokevirtual 95, 3) := dk_182 0 95 (dk_at dksX4_begins_0 19 rfl rfl)
theorem dX4_begins_22 : decode cX4_begins 22 = .ok (.iload_n 2, 1) := dk_28 (dk_at dksX4_begins_0 22 rfl rfl)
theorem dX4_begins_23 : decode cX4_begins 23 = .ok (.if_icmp .ne 17, 3) := dk_160 0 17 (dk_at dksX4_begins_1 0 rfl rfl)
theorem dX4_begins_26 : decode cX4_begins 26 = .ok (.aload_n 0, 1) := dk_42 (dk_at dksX4_begins_1 3 rfl rfl)
theorem dX4_begins_27 : decode cX4_begins 27 = .ok (.iload_n 1, 1) := dk_27 (dk_at dksX4_begins_1 4 rfl rfl)
theorem dX4_begins_28 : decode cX4_begins 28 = .ok (.iload 4, 2) := dk_21 4 (dk_at dksX4_begins_1 5 rfl rfl)
theorem dX4_begins_30 : decode cX4_begins 30 = .ok (.iconst 1, 1) := dk_4 (dk_at dksX4_begins_1 7 rfl rfl)
theorem dX4_begins_31 : decode cX4_begins 31 = .ok (.invokevirtual 95, 3) := dk_182 0 95 (dk_at dksX4_begins_1 8 rfl rfl)
theorem dX4_begins_34 : decode cX4_begins 34 = .ok (.iload_n 3, 1) := dk_29 (dk_at dksX4_begins_1 11 rfl rfl)
theorem dX4_begins_35 : decode cX4_begins 35 = .ok (.if_icmp .ne 5, 3) := dk_160 0 5 (dk_at dksX4_begins_1 12 rfl rfl)
theorem dX4_begins_38 : decode cX4_begins 38 = .ok (.iconst 1, 1) := dk_4 (dk_at dksX4_begins_1 15 rfl rfl)
theorem dX4_begins_39 : decode cX4_begins 39 = .ok (.ireturn, 1) := dk_172 (dk_at dksX4_begins_1 16 rfl rfl)
theorem dX4_begins_40 : decode cX4_begins 40 = .ok (.iinc 4 1, 3) := dk_132 4 1 (dk_at dksX4_begins_1 17 rfl rfl)
theorem dX4_begins_43 : decode cX4_begins 43 = .ok (.goto (-40), 3) := dk_167 255 216 (dk_at dksX4_begins_1 20 rfl rfl)
theorem dX4_begins_46 : decode cX4_begins 46 = .ok (.iconst 0, 1) := dk_3 (dk_at dksX4_begins_1 23 rfl rfl)
theorem dX4_begins_47 : decode cX4_begins 47 = .ok (.ireturn, 1) := dk_172 (dk_at dksX4_begins_2 0 rfl rfl)
abbrev cX4_ring : ByteArray := prog_13_method_61_code
def yX4_ring : MethodName := ⟨RX4, "ring", "(III)I"⟩
def dkwX4_ring_1 : List UInt8 := [182, 0, 222, 2, 159, 0, 12, 42, 180, 0, 84, 29, 46, 167, 0, 4, 3, 172]
abbrev dktX4_ring_1 : List UInt8 := dkwX4_ring_1 ++ []
def dkwX4_ring_0 : List UInt8 := [42, 27, 182, 0, 219, 153, 0, 35, 28, 155, 0, 31, 29, 3, 5, 184, 0, 88, 153, 0, 22, 42, 27, 28]
abbrev dktX4_ring_0 : List UInt8 := dkwX4_ring_0 ++ dktX4_ring_1
theorem dksX4_ring_0 : cX4_ring.data.toList.drop 0 = dktX4_ring_0 := by decide +kernel
theorem dksX4_ring_1 : cX4_ring.data.toList.drop 24 = dktX4_ring_1 := dk_seg dksX4_ring_0 24 rfl rfl
theorem dX4_ring_0 : decode cX4_ring 0 = .ok (.aload_n 0, 1) := dk_42 (dk_at dksX4_ring_0 0 rfl rfl)
theorem dX4_ring_1 : decode cX4_ring 1 = .ok (.iload_n 1, 1) := dk_27 (dk_at dksX4_ring_0 1 rfl rfl)
theorem dX4_ring_2 : decode cX4_ring 2 = .ok (.invokevirtual 219, 3) := dk_182 0 219 (dk_at dksX4_ring_0 2 rfl rfl)
theorem dX4_ring_5 : decode cX4_ring 5 = .ok (.ifCond .eq 35, 3) := dk_153 0 35 (dk_at dksX4_ring_0 5 rfl rfl)
theorem dX4_ring_8 : decode cX4_ring 8 = .ok (.iload_n 2, 1) := dk_28 (dk_at dksX4_ring_0 8 rfl rfl)
theorem dX4_ring_9 : decode cX4_ring 9 = .ok (.ifCond .lt 31, 3) := dk_155 0 31 (dk_at dksX4_ring_0 9 rfl rfl)
theorem dX4_ring_12 : decode cX4_ring 12 = .ok (.iload_n 3, 1) := dk_29 (dk_at dksX4_ring_0 12 rfl rfl)
theorem dX4_ring_13 : decode cX4_ring 13 = .ok (.iconst 0, 1) := dk_3 (dk_at dksX4_ring_0 13 rfl rfl)
theorem dX4_ring_14 : decode cX4_ring 14 = .ok (.iconst 2, 1) := dk_5 (dk_at dksX4_ring_0 14 rfl rfl)
theorem dX4_ring_15 : decode cX4_ring 15 = .ok (.invokestatic 88, 3) := dk_184 0 88 (dk_at dksX4_ring_0 15 rfl rfl)
theorem dX4_ring_18 : decode cX4_ring 18 = .ok (.ifCond .eq 22, 3) := dk_153 0 22 (dk_at dksX4_ring_0 18 rfl rfl)
theorem dX4_ring_21 : decode cX4_ring 21 = .ok (.aload_n 0, 1) := dk_42 (dk_at dksX4_ring_0 21 rfl rfl)
theorem dX4_ring_22 : decode cX4_ring 22 = .ok (.iload_n 1, 1) := dk_27 (dk_at dksX4_ring_0 22 rfl rfl)
theorem dX4_ring_23 : decode cX4_ring 23 = .ok (.iload_n 2, 1) := dk_28 (dk_at dksX4_ring_0 23 rfl rfl)
theorem dX4_ring_24 : decode cX4_ring 24 = .ok (.invokevirtual 222, 3) := dk_182 0 222 (dk_at dksX4_ring_1 0 rfl rfl)
theorem dX4_ring_27 : decode cX4_ring 27 = .ok (.iconst (-1), 1) := dk_2 (dk_at dksX4_ring_1 3 rfl rfl)
theorem dX4_ring_28 : decode cX4_ring 28 = .ok (.if_icmp .eq 12, 3) := dk_159 0 12 (dk_at dksX4_ring_1 4 rfl rfl)
theorem dX4_ring_31 : decode cX4_ring 31 = .ok (.aload_n 0, 1) := dk_42 (dk_at dksX4_ring_1 7 rfl rfl)
theorem dX4_ring_32 : decode cX4_ring 32 = .ok (.getfield 84, 3) := dk_180 0 84 (dk_at dksX4_ring_1 8 rfl rfl)
theorem dX4_ring_35 : decode cX4_ring 35 = .ok (.iload_n 3, 1) := dk_29 (dk_at dksX4_ring_1 11 rfl rfl)
theorem dX4_ring_36 : decode cX4_ring 36 = .ok (.iaload, 1) := dk_46 (dk_at dksX4_ring_1 12 rfl rfl)
theorem dX4_ring_37 : decode cX4_ring 37 = .ok (.goto 4, 3) := dk_167 0 4 (dk_at dksX4_ring_1 13 rfl rfl)
theorem dX4_ring_40 : decode cX4_ring 40 = .ok (.iconst 0, 1) := dk_3 (dk_at dksX4_ring_1 16 rfl rfl)
theorem dX4_ring_41 : decode cX4_ring 41 = .ok (.ireturn, 1) := dk_172 (dk_at dksX4_ring_1 17 rfl rfl)
abbrev cX4_count : ByteArray := prog_13_method_62_code
def yX4_count : MethodName := ⟨RX4, "count", "(I)I"⟩
def dkwX4_count_4 : List UInt8 := [153, 0, 7, 4, 167, 0, 4, 3, 172, 2, 172]
abbrev dktX4_count_4 : List UInt8 := dkwX4_count_4 ++ []
def dkwX4_count_3 : List UInt8 := [42, 180, 0, 119, 172, 42, 180, 0, 92, 172, 42, 180, 0, 46, 172, 42, 180, 0, 63, 172, 42, 182, 0, 166]
abbrev dktX4_count_3 : List UInt8 := dkwX4_count_3 ++ dktX4_count_4
def dkwX4_count_2 : List UInt8 := [170, 0, 0, 0, 0, 0, 0, 69, 0, 0, 0, 0, 0, 0, 0, 4, 0, 0, 0, 36, 0, 0, 0, 41, 0, 0, 0, 46, 0, 0, 0, 51, 0, 0, 0, 56]
abbrev dktX4_count_2 : List UInt8 := dkwX4_count_2 ++ dktX4_count_3
def dkwX4_count_1 : List UInt8 := [100, 46, 172, 27]
abbrev dktX4_count_1 : List UInt8 := dkwX4_count_1 ++ dktX4_count_2
def dkwX4_count_0 : List UInt8 := [27, 16, 10, 100, 3, 42, 180, 0, 119, 4, 100, 184, 0, 88, 153, 0, 13, 42, 180, 0, 34, 27, 16, 10]
abbrev dktX4_count_0 : List UInt8 := dkwX4_count_0 ++ dktX4_count_1
theorem dksX4_count_0 : cX4_count.data.toList.drop 0 = dktX4_count_0 := by decide +kernel
theorem dksX4_count_1 : cX4_count.data.toList.drop 24 = dktX4_count_1 := dk_seg dksX4_count_0 24 rfl rfl
theorem dksX4_count_2 : cX4_count.data.toList.drop 28 = dktX4_count_2 := dk_seg dksX4_count_1 4 rfl rfl
theorem dksX4_count_3 : cX4_count.data.toList.drop 64 = dktX4_count_3 := dk_seg dksX4_count_2 36 rfl rfl
theorem dksX4_count_4 : cX4_count.data.toList.drop 88 = dktX4_count_4 := dk_seg dksX4_count_3 24 rfl rfl
theorem dX4_count_0 : decode cX4_count 0 = .ok (.iload_n 1, 1) := dk_27 (dk_at dksX4_count_0 0 rfl rfl)
theorem dX4_count_1 : decode cX4_count 1 = .ok (.bipush 10, 2) := dk_16 10 (dk_at dksX4_count_0 1 rfl rfl)
theorem dX4_count_3 : decode cX4_count 3 = .ok (.isub, 1) := dk_100 (dk_at dksX4_count_0 3 rfl rfl)
theorem dX4_count_4 : decode cX4_count 4 = .ok (.iconst 0, 1) := dk_3 (dk_at dksX4_count_0 4 rfl rfl)
theorem dX4_count_5 : decode cX4_count 5 = .ok (.aload_n 0, 1) := dk_42 (dk_at dksX4_count_0 5 rfl rfl)
theorem dX4_count_6 : decode cX4_count 6 = .ok (.getfield 119, 3) := dk_180 0 119 (dk_at dksX4_count_0 6 rfl rfl)
theorem dX4_count_9 : decode cX4_count 9 = .ok (.iconst 1, 1) := dk_4 (dk_at dksX4_count_0 9 rfl rfl)
theorem dX4_count_10 : decode cX4_count 10 = .ok (.isub, 1) := dk_100 (dk_at dksX4_count_0 10 rfl rfl)
theorem dX4_count_11 : decode cX4_count 11 = .ok (.invokestatic 88, 3) := dk_184 0 88 (dk_at dksX4_count_0 11 rfl rfl)
theorem dX4_count_14 : decode cX4_count 14 = .ok (.ifCond .eq 13, 3) := dk_153 0 13 (dk_at dksX4_count_0 14 rfl rfl)
theorem dX4_count_17 : decode cX4_count 17 = .ok (.aload_n 0, 1) := dk_42 (dk_at dksX4_count_0 17 rfl rfl)
theorem dX4_count_18 : decode cX4_count 18 = .ok (.getfield 34, 3) := dk_180 0 34 (dk_at dksX4_count_0 18 rfl rfl)
theorem dX4_count_21 : decode cX4_count 21 = .ok (.iload_n 1, 1) := dk_27 (dk_at dksX4_count_0 21 rfl rfl)
theorem dX4_count_22 : decode cX4_count 22 = .ok (.bipush 10, 2) := dk_16 10 (dk_at dksX4_count_0 22 rfl rfl)
theorem dX4_count_24 : decode cX4_count 24 = .ok (.isub, 1) := dk_100 (dk_at dksX4_count_1 0 rfl rfl)
theorem dX4_count_25 : decode cX4_count 25 = .ok (.iaload, 1) := dk_46 (dk_at dksX4_count_1 1 rfl rfl)
theorem dX4_count_26 : decode cX4_count 26 = .ok (.ireturn, 1) := dk_172 (dk_at dksX4_count_1 2 rfl rfl)
theorem dX4_count_27 : decode cX4_count 27 = .ok (.iload_n 1, 1) := dk_27 (dk_at dksX4_count_1 3 rfl rfl)
theorem dX4_count_28 : decode cX4_count 28 = .ok (.tableswitch 69 0 4 #[36, 41, 46, 51, 56], 36) := by decide +kernel
theorem dX4_count_64 : decode cX4_count 64 = .ok (.aload_n 0, 1) := dk_42 (dk_at dksX4_count_3 0 rfl rfl)
theorem dX4_count_65 : decode cX4_count 65 = .ok (.getfield 119, 3) := dk_180 0 119 (dk_at dksX4_count_3 1 rfl rfl)
theorem dX4_count_68 : decode cX4_count 68 = .ok (.ireturn, 1) := dk_172 (dk_at dksX4_count_3 4 rfl rfl)
theorem dX4_count_69 : decode cX4_count 69 = .ok (.aload_n 0, 1) := dk_42 (dk_at dksX4_count_3 5 rfl rfl)
theorem dX4_count_70 : decode cX4_count 70 = .ok (.getfield 92, 3) := dk_180 0 92 (dk_at dksX4_count_3 6 rfl rfl)
theorem dX4_count_73 : decode cX4_count 73 = .ok (.ireturn, 1) := dk_172 (dk_at dksX4_count_3 9 rfl rfl)
theorem dX4_count_74 : decode cX4_count 74 = .ok (.aload_n 0, 1) := dk_42 (dk_at dksX4_count_3 10 rfl rfl)
theorem dX4_count_75 : decode cX4_count 75 = .ok (.getfield 46, 3) := dk_180 0 46 (dk_at dksX4_count_3 11 rfl rfl)
theorem dX4_count_78 : decode cX4_count 78 = .ok (.ireturn, 1) := dk_172 (dk_at dksX4_count_3 14 rfl rfl)
theorem dX4_count_79 : decode cX4_count 79 = .ok (.aload_n 0, 1) := dk_42 (dk_at dksX4_count_3 15 rfl rfl)
theorem dX4_count_80 : decode cX4_count 80 = .ok (.getfield 63, 3) := dk_180 0 63 (dk_at dksX4_count_3 16 rfl rfl)
theorem dX4_count_83 : decode cX4_count 83 = .ok (.ireturn, 1) := dk_172 (dk_at dksX4_count_3 19 rfl rfl)
theorem dX4_count_84 : decode cX4_count 84 = .ok (.aload_n 0, 1) := dk_42 (dk_at dksX4_count_3 20 rfl rfl)
theorem dX4_count_85 : decode cX4_count 85 = .ok (.invokevirtual 166, 3) := dk_182 0 166 (dk_at dksX4_count_3 21 rfl rfl)
theorem dX4_count_88 : decode cX4_count 88 = .ok (.ifCond .eq 7, 3) := dk_153 0 7 (dk_at dksX4_count_4 0 rfl rfl)
theorem dX4_count_91 : decode cX4_count 91 = .ok (.iconst 1, 1) := dk_4 (dk_at dksX4_count_4 3 rfl rfl)
theorem dX4_count_92 : decode cX4_count 92 = .ok (.goto 4, 3) := dk_167 0 4 (dk_at dksX4_count_4 4 rfl rfl)
theorem dX4_count_95 : decode cX4_count 95 = .ok (.iconst 0, 1) := dk_3 (dk_at dksX4_count_4 7 rfl rfl)
theorem dX4_count_96 : decode cX4_count 96 = .ok (.ireturn, 1) := dk_172 (dk_at dksX4_count_4 8 rfl rfl)
theorem dX4_count_97 : decode cX4_count 97 = .ok (.iconst (-1), 1) := dk_2 (dk_at dksX4_count_4 9 rfl rfl)
theorem dX4_count_98 : decode cX4_count 98 = .ok (.ireturn, 1) := dk_172 (dk_at dksX4_count_4 10 rfl rfl)
theorem q61 : (Jvm.Cond.initialized "JoinLoomModel") ∈ lw_all := lw_g (lw_at lw_m1 5 rfl) rfl
theorem q760 : (Jvm.Cond.instantiable "JoinLoomModel" (31 : Nat)) ∈ lw_all := lw_g (lw_at lw_m3 224 rfl) rfl
theorem q762 : (Jvm.Cond.instanceMethod ({ cls := "JoinLoomModel", name := "<init>", desc := "()V" } : Jvm.MethodName)) ∈ lw_all := lw_g (lw_at lw_m3 226 rfl) rfl
theorem q763 : (Jvm.Cond.code ({ cls := "JoinLoomModel", name := "<init>", desc := "()V" } : Jvm.MethodName) prog_13_method_1_code (1 : Nat) (Option.none : Option Jvm.ClassFile.FieldType)) ∈ lw_all := lw_g (lw_at lw_m3 227 rfl) rfl
theorem q764 : (Jvm.Cond.methodLink "JoinLoomModel" (1 : Nat) ({ cls := "java/lang/Object", name := "<init>", desc := "()V" } : Jvm.MethodName)) ∈ lw_all := lw_g (lw_at lw_m3 228 rfl) rfl
theorem q765 : (Jvm.Cond.fieldLink "JoinLoomModel" (7 : Nat) "JoinLoomModel" "columns" "[I") ∈ lw_all := lw_g (lw_at lw_m3 229 rfl) rfl
theorem q766 : (Jvm.Cond.fieldLink "JoinLoomModel" (13 : Nat) "JoinLoomModel" "many" "[I") ∈ lw_all := lw_g (lw_at lw_m3 230 rfl) rfl
theorem q767 : (Jvm.Cond.fieldLink "JoinLoomModel" (16 : Nat) "JoinLoomModel" "table" "[I") ∈ lw_all := lw_g (lw_at lw_m3 231 rfl) rfl
theorem q768 : (Jvm.Cond.fieldLink "JoinLoomModel" (119 : Nat) "JoinLoomModel" "names" "I") ∈ lw_all := lw_g (lw_at lw_m3 232 rfl) rfl
theorem q769 : (Jvm.Cond.fieldLink "JoinLoomModel" (92 : Nat) "JoinLoomModel" "parts" "I") ∈ lw_all := lw_g (lw_at lw_m3 233 rfl) rfl
theorem q770 : (Jvm.Cond.fieldLink "JoinLoomModel" (19 : Nat) "JoinLoomModel" "kind" "[I") ∈ lw_all := lw_g (lw_at lw_m3 234 rfl) rfl
theorem q771 : (Jvm.Cond.fieldLink "JoinLoomModel" (22 : Nat) "JoinLoomModel" "of" "[I") ∈ lw_all := lw_g (lw_at lw_m3 235 rfl) rfl
theorem q772 : (Jvm.Cond.fieldLink "JoinLoomModel" (25 : Nat) "JoinLoomModel" "places" "[I") ∈ lw_all := lw_g (lw_at lw_m3 236 rfl) rfl
theorem q773 : (Jvm.Cond.fieldLink "JoinLoomModel" (28 : Nat) "JoinLoomModel" "placeName" "[I") ∈ lw_all := lw_g (lw_at lw_m3 237 rfl) rfl
theorem q774 : (Jvm.Cond.fieldLink "JoinLoomModel" (31 : Nat) "JoinLoomModel" "placeValue" "[I") ∈ lw_all := lw_g (lw_at lw_m3 238 rfl) rfl
theorem q775 : (Jvm.Cond.fieldLink "JoinLoomModel" (34 : Nat) "JoinLoomModel" "order" "[I") ∈ lw_all := lw_g (lw_at lw_m3 239 rfl) rfl
theorem q776 : (Jvm.Cond.fieldLink "JoinLoomModel" (37 : Nat) "JoinLoomModel" "rows" "[I") ∈ lw_all := lw_g (lw_at lw_m4 0 rfl) rfl
theorem q777 : (Jvm.Cond.fieldLink "JoinLoomModel" (40 : Nat) "JoinLoomModel" "next" "[I") ∈ lw_all := lw_g (lw_at lw_m4 1 rfl) rfl
theorem q778 : (Jvm.Cond.fieldLink "JoinLoomModel" (153 : Nat) "JoinLoomModel" "rowMany" "I") ∈ lw_all := lw_g (lw_at lw_m4 2 rfl) rfl
theorem q779 : (Jvm.Cond.fieldLink "JoinLoomModel" (43 : Nat) "JoinLoomModel" "metMany" "[I") ∈ lw_all := lw_g (lw_at lw_m4 3 rfl) rfl
theorem q780 : (Jvm.Cond.fieldLink "JoinLoomModel" (173 : Nat) "JoinLoomModel" "wovenNames" "I") ∈ lw_all := lw_g (lw_at lw_m4 4 rfl) rfl
theorem q781 : (Jvm.Cond.fieldLink "JoinLoomModel" (46 : Nat) "JoinLoomModel" "wovenMany" "I") ∈ lw_all := lw_g (lw_at lw_m4 5 rfl) rfl
theorem q782 : (Jvm.Cond.fieldLink "JoinLoomModel" (176 : Nat) "JoinLoomModel" "wovenParts" "I") ∈ lw_all := lw_g (lw_at lw_m4 6 rfl) rfl
theorem q783 : (Jvm.Cond.fieldLink "JoinLoomModel" (50 : Nat) "JoinLoomModel" "woven" "[I") ∈ lw_all := lw_g (lw_at lw_m4 7 rfl) rfl
theorem q784 : (Jvm.Cond.fieldLink "JoinLoomModel" (53 : Nat) "JoinLoomModel" "wovenMet" "[I") ∈ lw_all := lw_g (lw_at lw_m4 8 rfl) rfl
theorem q785 : (Jvm.Cond.fieldLink "JoinLoomModel" (56 : Nat) "JoinLoomModel" "wovenRow" "[I") ∈ lw_all := lw_g (lw_at lw_m4 9 rfl) rfl
theorem q786 : (Jvm.Cond.fieldLink "JoinLoomModel" (59 : Nat) "JoinLoomModel" "wovenHas" "[Z") ∈ lw_all := lw_g (lw_at lw_m4 10 rfl) rfl
theorem q787 : (Jvm.Cond.fieldLink "JoinLoomModel" (188 : Nat) "JoinLoomModel" "keptNames" "I") ∈ lw_all := lw_g (lw_at lw_m4 11 rfl) rfl
theorem q788 : (Jvm.Cond.fieldLink "JoinLoomModel" (63 : Nat) "JoinLoomModel" "keptMany" "I") ∈ lw_all := lw_g (lw_at lw_m4 12 rfl) rfl
theorem q789 : (Jvm.Cond.fieldLink "JoinLoomModel" (66 : Nat) "JoinLoomModel" "kept" "[I") ∈ lw_all := lw_g (lw_at lw_m4 13 rfl) rfl
theorem q790 : (Jvm.Cond.fieldLink "JoinLoomModel" (69 : Nat) "JoinLoomModel" "at" "[I") ∈ lw_all := lw_g (lw_at lw_m4 14 rfl) rfl
theorem q791 : (Jvm.Cond.fieldLink "JoinLoomModel" (72 : Nat) "JoinLoomModel" "share" "[I") ∈ lw_all := lw_g (lw_at lw_m4 15 rfl) rfl
theorem q792 : (Jvm.Cond.fieldLink "JoinLoomModel" (75 : Nat) "JoinLoomModel" "cover" "[I") ∈ lw_all := lw_g (lw_at lw_m4 16 rfl) rfl
theorem q793 : (Jvm.Cond.fieldLink "JoinLoomModel" (78 : Nat) "JoinLoomModel" "was" "[I") ∈ lw_all := lw_g (lw_at lw_m4 17 rfl) rfl
theorem q794 : (Jvm.Cond.fieldLink "JoinLoomModel" (81 : Nat) "JoinLoomModel" "bestOrder" "[I") ∈ lw_all := lw_g (lw_at lw_m4 18 rfl) rfl
theorem q795 : (Jvm.Cond.fieldLink "JoinLoomModel" (84 : Nat) "JoinLoomModel" "found" "[I") ∈ lw_all := lw_g (lw_at lw_m4 19 rfl) rfl
theorem q796 : (Jvm.Cond.laysFinal "JoinLoomModel" "JoinLoomModel" "columns" "[I") ∈ lw_all := lw_g (lw_at lw_m4 20 rfl) rfl
theorem q797 : (Jvm.Cond.soleField "JoinLoomModel" "columns") ∈ lw_all := lw_g (lw_at lw_m4 21 rfl) rfl
theorem q798 : (Jvm.Cond.laysFinal "JoinLoomModel" "JoinLoomModel" "many" "[I") ∈ lw_all := lw_g (lw_at lw_m4 22 rfl) rfl
theorem q799 : (Jvm.Cond.soleField "JoinLoomModel" "many") ∈ lw_all := lw_g (lw_at lw_m4 23 rfl) rfl
theorem q800 : (Jvm.Cond.laysFinal "JoinLoomModel" "JoinLoomModel" "table" "[I") ∈ lw_all := lw_g (lw_at lw_m4 24 rfl) rfl
theorem q801 : (Jvm.Cond.soleField "JoinLoomModel" "table") ∈ lw_all := lw_g (lw_at lw_m4 25 rfl) rfl
theorem q802 : (Jvm.Cond.lays "JoinLoomModel" "JoinLoomModel" "names" "I") ∈ lw_all := lw_g (lw_at lw_m4 26 rfl) rfl
theorem q803 : (Jvm.Cond.soleField "JoinLoomModel" "names") ∈ lw_all := lw_g (lw_at lw_m4 27 rfl) rfl
theorem q804 : (Jvm.Cond.lays "JoinLoomModel" "JoinLoomModel" "parts" "I") ∈ lw_all := lw_g (lw_at lw_m4 28 rfl) rfl
theorem q805 : (Jvm.Cond.soleField "JoinLoomModel" "parts") ∈ lw_all := lw_g (lw_at lw_m4 29 rfl) rfl
theorem q806 : (Jvm.Cond.laysFinal "JoinLoomModel" "JoinLoomModel" "kind" "[I") ∈ lw_all := lw_g (lw_at lw_m4 30 rfl) rfl
theorem q807 : (Jvm.Cond.soleField "JoinLoomModel" "kind") ∈ lw_all := lw_g (lw_at lw_m4 31 rfl) rfl
theorem q808 : (Jvm.Cond.laysFinal "JoinLoomModel" "JoinLoomModel" "of" "[I") ∈ lw_all := lw_g (lw_at lw_m4 32 rfl) rfl
theorem q809 : (Jvm.Cond.soleField "JoinLoomModel" "of") ∈ lw_all := lw_g (lw_at lw_m4 33 rfl) rfl
theorem q810 : (Jvm.Cond.laysFinal "JoinLoomModel" "JoinLoomModel" "places" "[I") ∈ lw_all := lw_g (lw_at lw_m4 34 rfl) rfl
theorem q811 : (Jvm.Cond.soleField "JoinLoomModel" "places") ∈ lw_all := lw_g (lw_at lw_m4 35 rfl) rfl
theorem q812 : (Jvm.Cond.laysFinal "JoinLoomModel" "JoinLoomModel" "placeName" "[I") ∈ lw_all := lw_g (lw_at lw_m4 36 rfl) rfl
theorem q813 : (Jvm.Cond.soleField "JoinLoomModel" "placeName") ∈ lw_all := lw_g (lw_at lw_m4 37 rfl) rfl
theorem q814 : (Jvm.Cond.laysFinal "JoinLoomModel" "JoinLoomModel" "placeValue" "[I") ∈ lw_all := lw_g (lw_at lw_m4 38 rfl) rfl
theorem q815 : (Jvm.Cond.soleField "JoinLoomModel" "placeValue") ∈ lw_all := lw_g (lw_at lw_m4 39 rfl) rfl
theorem q816 : (Jvm.Cond.laysFinal "JoinLoomModel" "JoinLoomModel" "order" "[I") ∈ lw_all := lw_g (lw_at lw_m4 40 rfl) rfl
theorem q817 : (Jvm.Cond.soleField "JoinLoomModel" "order") ∈ lw_all := lw_g (lw_at lw_m4 41 rfl) rfl
theorem q818 : (Jvm.Cond.laysFinal "JoinLoomModel" "JoinLoomModel" "rows" "[I") ∈ lw_all := lw_g (lw_at lw_m4 42 rfl) rfl
theorem q819 : (Jvm.Cond.soleField "JoinLoomModel" "rows") ∈ lw_all := lw_g (lw_at lw_m4 43 rfl) rfl
theorem q820 : (Jvm.Cond.laysFinal "JoinLoomModel" "JoinLoomModel" "next" "[I") ∈ lw_all := lw_g (lw_at lw_m4 44 rfl) rfl
theorem q821 : (Jvm.Cond.soleField "JoinLoomModel" "next") ∈ lw_all := lw_g (lw_at lw_m4 45 rfl) rfl
theorem q822 : (Jvm.Cond.lays "JoinLoomModel" "JoinLoomModel" "rowMany" "I") ∈ lw_all := lw_g (lw_at lw_m4 46 rfl) rfl
theorem q823 : (Jvm.Cond.soleField "JoinLoomModel" "rowMany") ∈ lw_all := lw_g (lw_at lw_m4 47 rfl) rfl
theorem q824 : (Jvm.Cond.laysFinal "JoinLoomModel" "JoinLoomModel" "metMany" "[I") ∈ lw_all := lw_g (lw_at lw_m4 48 rfl) rfl
theorem q825 : (Jvm.Cond.soleField "JoinLoomModel" "metMany") ∈ lw_all := lw_g (lw_at lw_m4 49 rfl) rfl
theorem q826 : (Jvm.Cond.lays "JoinLoomModel" "JoinLoomModel" "wovenNames" "I") ∈ lw_all := lw_g (lw_at lw_m4 50 rfl) rfl
theorem q827 : (Jvm.Cond.soleField "JoinLoomModel" "wovenNames") ∈ lw_all := lw_g (lw_at lw_m4 51 rfl) rfl
theorem q828 : (Jvm.Cond.lays "JoinLoomModel" "JoinLoomModel" "wovenMany" "I") ∈ lw_all := lw_g (lw_at lw_m4 52 rfl) rfl
theorem q829 : (Jvm.Cond.soleField "JoinLoomModel" "wovenMany") ∈ lw_all := lw_g (lw_at lw_m4 53 rfl) rfl
theorem q830 : (Jvm.Cond.lays "JoinLoomModel" "JoinLoomModel" "wovenParts" "I") ∈ lw_all := lw_g (lw_at lw_m4 54 rfl) rfl
theorem q831 : (Jvm.Cond.soleField "JoinLoomModel" "wovenParts") ∈ lw_all := lw_g (lw_at lw_m4 55 rfl) rfl
theorem q832 : (Jvm.Cond.laysFinal "JoinLoomModel" "JoinLoomModel" "woven" "[I") ∈ lw_all := lw_g (lw_at lw_m4 56 rfl) rfl
theorem q833 : (Jvm.Cond.soleField "JoinLoomModel" "woven") ∈ lw_all := lw_g (lw_at lw_m4 57 rfl) rfl
theorem q834 : (Jvm.Cond.laysFinal "JoinLoomModel" "JoinLoomModel" "wovenMet" "[I") ∈ lw_all := lw_g (lw_at lw_m4 58 rfl) rfl
theorem q835 : (Jvm.Cond.soleField "JoinLoomModel" "wovenMet") ∈ lw_all := lw_g (lw_at lw_m4 59 rfl) rfl
theorem q836 : (Jvm.Cond.laysFinal "JoinLoomModel" "JoinLoomModel" "wovenRow" "[I") ∈ lw_all := lw_g (lw_at lw_m4 60 rfl) rfl
theorem q837 : (Jvm.Cond.soleField "JoinLoomModel" "wovenRow") ∈ lw_all := lw_g (lw_at lw_m4 61 rfl) rfl
theorem q838 : (Jvm.Cond.laysFinal "JoinLoomModel" "JoinLoomModel" "wovenHas" "[Z") ∈ lw_all := lw_g (lw_at lw_m4 62 rfl) rfl
theorem q839 : (Jvm.Cond.soleField "JoinLoomModel" "wovenHas") ∈ lw_all := lw_g (lw_at lw_m4 63 rfl) rfl
theorem q840 : (Jvm.Cond.lays "JoinLoomModel" "JoinLoomModel" "keptNames" "I") ∈ lw_all := lw_g (lw_at lw_m4 64 rfl) rfl
theorem q841 : (Jvm.Cond.soleField "JoinLoomModel" "keptNames") ∈ lw_all := lw_g (lw_at lw_m4 65 rfl) rfl
theorem q842 : (Jvm.Cond.lays "JoinLoomModel" "JoinLoomModel" "keptMany" "I") ∈ lw_all := lw_g (lw_at lw_m4 66 rfl) rfl
theorem q843 : (Jvm.Cond.soleField "JoinLoomModel" "keptMany") ∈ lw_all := lw_g (lw_at lw_m4 67 rfl) rfl
theorem q844 : (Jvm.Cond.laysFinal "JoinLoomModel" "JoinLoomModel" "kept" "[I") ∈ lw_all := lw_g (lw_at lw_m4 68 rfl) rfl
theorem q845 : (Jvm.Cond.soleField "JoinLoomModel" "kept") ∈ lw_all := lw_g (lw_at lw_m4 69 rfl) rfl
theorem q846 : (Jvm.Cond.laysFinal "JoinLoomModel" "JoinLoomModel" "at" "[I") ∈ lw_all := lw_g (lw_at lw_m4 70 rfl) rfl
theorem q847 : (Jvm.Cond.soleField "JoinLoomModel" "at") ∈ lw_all := lw_g (lw_at lw_m4 71 rfl) rfl
theorem q848 : (Jvm.Cond.laysFinal "JoinLoomModel" "JoinLoomModel" "share" "[I") ∈ lw_all := lw_g (lw_at lw_m4 72 rfl) rfl
theorem q849 : (Jvm.Cond.soleField "JoinLoomModel" "share") ∈ lw_all := lw_g (lw_at lw_m4 73 rfl) rfl
theorem q850 : (Jvm.Cond.laysFinal "JoinLoomModel" "JoinLoomModel" "cover" "[I") ∈ lw_all := lw_g (lw_at lw_m4 74 rfl) rfl
theorem q851 : (Jvm.Cond.soleField "JoinLoomModel" "cover") ∈ lw_all := lw_g (lw_at lw_m4 75 rfl) rfl
theorem q852 : (Jvm.Cond.laysFinal "JoinLoomModel" "JoinLoomModel" "was" "[I") ∈ lw_all := lw_g (lw_at lw_m4 76 rfl) rfl
theorem q853 : (Jvm.Cond.soleField "JoinLoomModel" "was") ∈ lw_all := lw_g (lw_at lw_m4 77 rfl) rfl
theorem q854 : (Jvm.Cond.laysFinal "JoinLoomModel" "JoinLoomModel" "bestOrder" "[I") ∈ lw_all := lw_g (lw_at lw_m4 78 rfl) rfl
theorem q855 : (Jvm.Cond.soleField "JoinLoomModel" "bestOrder") ∈ lw_all := lw_g (lw_at lw_m4 79 rfl) rfl
theorem q856 : (Jvm.Cond.laysFinal "JoinLoomModel" "JoinLoomModel" "found" "[I") ∈ lw_all := lw_g (lw_at lw_m4 80 rfl) rfl
theorem q857 : (Jvm.Cond.soleField "JoinLoomModel" "found") ∈ lw_all := lw_g (lw_at lw_m4 81 rfl) rfl
theorem q858 : (Jvm.Cond.superclass "JoinLoomModel" "java/lang/Object") ∈ lw_all := lw_g (lw_at lw_m4 82 rfl) rfl
theorem q861 : (Jvm.Cond.instanceMethod ({ cls := "JoinLoomModel", name := "table", desc := "(II)Z" } : Jvm.MethodName)) ∈ lw_all := lw_g (lw_at lw_m4 85 rfl) rfl
theorem q862 : (Jvm.Cond.selects "JoinLoomModel" ({ cls := "JoinLoomModel", name := "table", desc := "(II)Z" } : Jvm.MethodName) ({ cls := "JoinLoomModel", name := "table", desc := "(II)Z" } : Jvm.MethodName)) ∈ lw_all := lw_g (lw_at lw_m4 86 rfl) rfl
theorem q863 : (Jvm.Cond.code ({ cls := "JoinLoomModel", name := "table", desc := "(II)Z" } : Jvm.MethodName) prog_13_method_5_code (4 : Nat) (Option.some Jvm.ClassFile.FieldType.boolean)) ∈ lw_all := lw_g (lw_at lw_m4 87 rfl) rfl
theorem q864 : (Jvm.Cond.methodLink "JoinLoomModel" (88 : Nat) ({ cls := "JoinLoomModel", name := "lies", desc := "(III)Z" } : Jvm.MethodName)) ∈ lw_all := lw_g (lw_at lw_m4 88 rfl) rfl
theorem q865 : (Jvm.Cond.static ({ cls := "JoinLoomModel", name := "lies", desc := "(III)Z" } : Jvm.MethodName)) ∈ lw_all := lw_g (lw_at lw_m4 89 rfl) rfl
theorem q866 : (Jvm.Cond.code ({ cls := "JoinLoomModel", name := "lies", desc := "(III)Z" } : Jvm.MethodName) prog_13_method_2_code (3 : Nat) (Option.some Jvm.ClassFile.FieldType.boolean)) ∈ lw_all := lw_g (lw_at lw_m4 90 rfl) rfl
theorem q868 : (Jvm.Cond.instanceMethod ({ cls := "JoinLoomModel", name := "put", desc := "(IIII)I" } : Jvm.MethodName)) ∈ lw_all := lw_g (lw_at lw_m4 92 rfl) rfl
theorem q869 : (Jvm.Cond.selects "JoinLoomModel" ({ cls := "JoinLoomModel", name := "put", desc := "(IIII)I" } : Jvm.MethodName) ({ cls := "JoinLoomModel", name := "put", desc := "(IIII)I" } : Jvm.MethodName)) ∈ lw_all := lw_g (lw_at lw_m4 93 rfl) rfl
theorem q870 : (Jvm.Cond.code ({ cls := "JoinLoomModel", name := "put", desc := "(IIII)I" } : Jvm.MethodName) prog_13_method_10_code (6 : Nat) (Option.some Jvm.ClassFile.FieldType.int)) ∈ lw_all := lw_g (lw_at lw_m4 94 rfl) rfl
theorem q871 : (Jvm.Cond.methodLink "JoinLoomModel" (107 : Nat) ({ cls := "JoinLoomModel", name := "isTable", desc := "(I)Z" } : Jvm.MethodName)) ∈ lw_all := lw_g (lw_at lw_m4 95 rfl) rfl
theorem q872 : (Jvm.Cond.privateMethod ({ cls := "JoinLoomModel", name := "isTable", desc := "(I)Z" } : Jvm.MethodName)) ∈ lw_tbl := lw_at lw_m4 96 rfl
theorem q873 : (Jvm.Cond.instanceMethod ({ cls := "JoinLoomModel", name := "isTable", desc := "(I)Z" } : Jvm.MethodName)) ∈ lw_all := lw_g (lw_at lw_m4 97 rfl) rfl
theorem q874 : (Jvm.Cond.code ({ cls := "JoinLoomModel", name := "isTable", desc := "(I)Z" } : Jvm.MethodName) prog_13_method_4_code (2 : Nat) (Option.some Jvm.ClassFile.FieldType.boolean)) ∈ lw_all := lw_g (lw_at lw_m4 98 rfl) rfl
theorem q875 : (Jvm.Cond.methodLink "JoinLoomModel" (111 : Nat) ({ cls := "JoinLoomModel", name := "find", desc := "(IIII)I" } : Jvm.MethodName)) ∈ lw_all := lw_g (lw_at lw_m4 99 rfl) rfl
theorem q876 : (Jvm.Cond.privateMethod ({ cls := "JoinLoomModel", name := "find", desc := "(IIII)I" } : Jvm.MethodName)) ∈ lw_tbl := lw_at lw_m4 100 rfl
theorem q877 : (Jvm.Cond.instanceMethod ({ cls := "JoinLoomModel", name := "find", desc := "(IIII)I" } : Jvm.MethodName)) ∈ lw_all := lw_g (lw_at lw_m4 101 rfl) rfl
theorem q878 : (Jvm.Cond.code ({ cls := "JoinLoomModel", name := "find", desc := "(IIII)I" } : Jvm.MethodName) prog_13_method_8_code (6 : Nat) (Option.some Jvm.ClassFile.FieldType.int)) ∈ lw_all := lw_g (lw_at lw_m4 102 rfl) rfl
theorem q879 : (Jvm.Cond.methodLink "JoinLoomModel" (103 : Nat) ({ cls := "JoinLoomModel", name := "against", desc := "(IIIII)I" } : Jvm.MethodName)) ∈ lw_all := lw_g (lw_at lw_m4 103 rfl) rfl
theorem q880 : (Jvm.Cond.privateMethod ({ cls := "JoinLoomModel", name := "against", desc := "(IIIII)I" } : Jvm.MethodName)) ∈ lw_tbl := lw_at lw_m4 104 rfl
theorem q881 : (Jvm.Cond.instanceMethod ({ cls := "JoinLoomModel", name := "against", desc := "(IIIII)I" } : Jvm.MethodName)) ∈ lw_all := lw_g (lw_at lw_m4 105 rfl) rfl
theorem q882 : (Jvm.Cond.code ({ cls := "JoinLoomModel", name := "against", desc := "(IIIII)I" } : Jvm.MethodName) prog_13_method_7_code (8 : Nat) (Option.some Jvm.ClassFile.FieldType.int)) ∈ lw_all := lw_g (lw_at lw_m4 106 rfl) rfl
theorem q883 : (Jvm.Cond.methodLink "JoinLoomModel" (95 : Nat) ({ cls := "JoinLoomModel", name := "cell", desc := "(III)I" } : Jvm.MethodName)) ∈ lw_all := lw_g (lw_at lw_m4 107 rfl) rfl
theorem q884 : (Jvm.Cond.privateMethod ({ cls := "JoinLoomModel", name := "cell", desc := "(III)I" } : Jvm.MethodName)) ∈ lw_tbl := lw_at lw_m4 108 rfl
theorem q885 : (Jvm.Cond.instanceMethod ({ cls := "JoinLoomModel", name := "cell", desc := "(III)I" } : Jvm.MethodName)) ∈ lw_all := lw_g (lw_at lw_m4 109 rfl) rfl
theorem q886 : (Jvm.Cond.code ({ cls := "JoinLoomModel", name := "cell", desc := "(III)I" } : Jvm.MethodName) prog_13_method_6_code (4 : Nat) (Option.some Jvm.ClassFile.FieldType.int)) ∈ lw_all := lw_g (lw_at lw_m4 110 rfl) rfl
theorem q887 : (Jvm.Cond.methodLink "JoinLoomModel" (99 : Nat) ({ cls := "JoinLoomModel", name := "rank", desc := "(II)I" } : Jvm.MethodName)) ∈ lw_all := lw_g (lw_at lw_m4 111 rfl) rfl
theorem q888 : (Jvm.Cond.static ({ cls := "JoinLoomModel", name := "rank", desc := "(II)I" } : Jvm.MethodName)) ∈ lw_all := lw_g (lw_at lw_m4 112 rfl) rfl
theorem q889 : (Jvm.Cond.code ({ cls := "JoinLoomModel", name := "rank", desc := "(II)I" } : Jvm.MethodName) prog_13_method_3_code (2 : Nat) (Option.some Jvm.ClassFile.FieldType.int)) ∈ lw_all := lw_g (lw_at lw_m4 113 rfl) rfl
theorem q890 : (Jvm.Cond.constant "JoinLoomModel" (87 : Nat) (-2147483648 : Int32)) ∈ lw_all := lw_g (lw_at lw_m4 114 rfl) rfl
theorem q891 : (Jvm.Cond.methodLink "JoinLoomModel" (115 : Nat) ({ cls := "JoinLoomModel", name := "moves", desc := "(III)V" } : Jvm.MethodName)) ∈ lw_all := lw_g (lw_at lw_m4 115 rfl) rfl
theorem q892 : (Jvm.Cond.privateMethod ({ cls := "JoinLoomModel", name := "moves", desc := "(III)V" } : Jvm.MethodName)) ∈ lw_tbl := lw_at lw_m4 116 rfl
theorem q893 : (Jvm.Cond.instanceMethod ({ cls := "JoinLoomModel", name := "moves", desc := "(III)V" } : Jvm.MethodName)) ∈ lw_all := lw_g (lw_at lw_m4 117 rfl) rfl
theorem q894 : (Jvm.Cond.code ({ cls := "JoinLoomModel", name := "moves", desc := "(III)V" } : Jvm.MethodName) prog_13_method_9_code (5 : Nat) (Option.none : Option Jvm.ClassFile.FieldType)) ∈ lw_all := lw_g (lw_at lw_m4 118 rfl) rfl
theorem q896 : (Jvm.Cond.instanceMethod ({ cls := "JoinLoomModel", name := "drop", desc := "(IIII)Z" } : Jvm.MethodName)) ∈ lw_all := lw_g (lw_at lw_m4 120 rfl) rfl
theorem q897 : (Jvm.Cond.selects "JoinLoomModel" ({ cls := "JoinLoomModel", name := "drop", desc := "(IIII)Z" } : Jvm.MethodName) ({ cls := "JoinLoomModel", name := "drop", desc := "(IIII)Z" } : Jvm.MethodName)) ∈ lw_all := lw_g (lw_at lw_m4 121 rfl) rfl
theorem q898 : (Jvm.Cond.code ({ cls := "JoinLoomModel", name := "drop", desc := "(IIII)Z" } : Jvm.MethodName) prog_13_method_11_code (7 : Nat) (Option.some Jvm.ClassFile.FieldType.boolean)) ∈ lw_all := lw_g (lw_at lw_m4 122 rfl) rfl
theorem q900 : (Jvm.Cond.instanceMethod ({ cls := "JoinLoomModel", name := "rows", desc := "(I)I" } : Jvm.MethodName)) ∈ lw_all := lw_g (lw_at lw_m4 124 rfl) rfl
theorem q901 : (Jvm.Cond.selects "JoinLoomModel" ({ cls := "JoinLoomModel", name := "rows", desc := "(I)I" } : Jvm.MethodName) ({ cls := "JoinLoomModel", name := "rows", desc := "(I)I" } : Jvm.MethodName)) ∈ lw_all := lw_g (lw_at lw_m4 125 rfl) rfl
theorem q902 : (Jvm.Cond.code ({ cls := "JoinLoomModel", name := "rows", desc := "(I)I" } : Jvm.MethodName) prog_13_method_12_code (2 : Nat) (Option.some Jvm.ClassFile.FieldType.int)) ∈ lw_all := lw_g (lw_at lw_m4 126 rfl) rfl
theorem q904 : (Jvm.Cond.instanceMethod ({ cls := "JoinLoomModel", name := "row", desc := "(III)I" } : Jvm.MethodName)) ∈ lw_all := lw_g (lw_at lw_m4 128 rfl) rfl
theorem q905 : (Jvm.Cond.selects "JoinLoomModel" ({ cls := "JoinLoomModel", name := "row", desc := "(III)I" } : Jvm.MethodName) ({ cls := "JoinLoomModel", name := "row", desc := "(III)I" } : Jvm.MethodName)) ∈ lw_all := lw_g (lw_at lw_m4 129 rfl) rfl
theorem q906 : (Jvm.Cond.code ({ cls := "JoinLoomModel", name := "row", desc := "(III)I" } : Jvm.MethodName) prog_13_method_13_code (4 : Nat) (Option.some Jvm.ClassFile.FieldType.int)) ∈ lw_all := lw_g (lw_at lw_m4 130 rfl) rfl
theorem q908 : (Jvm.Cond.instanceMethod ({ cls := "JoinLoomModel", name := "ask", desc := "(I)Z" } : Jvm.MethodName)) ∈ lw_all := lw_g (lw_at lw_m4 132 rfl) rfl
theorem q909 : (Jvm.Cond.selects "JoinLoomModel" ({ cls := "JoinLoomModel", name := "ask", desc := "(I)Z" } : Jvm.MethodName) ({ cls := "JoinLoomModel", name := "ask", desc := "(I)Z" } : Jvm.MethodName)) ∈ lw_all := lw_g (lw_at lw_m4 133 rfl) rfl
theorem q910 : (Jvm.Cond.code ({ cls := "JoinLoomModel", name := "ask", desc := "(I)Z" } : Jvm.MethodName) prog_13_method_14_code (3 : Nat) (Option.some Jvm.ClassFile.FieldType.boolean)) ∈ lw_all := lw_g (lw_at lw_m4 134 rfl) rfl
theorem q912 : (Jvm.Cond.instanceMethod ({ cls := "JoinLoomModel", name := "part", desc := "(II)I" } : Jvm.MethodName)) ∈ lw_all := lw_g (lw_at lw_m4 136 rfl) rfl
theorem q913 : (Jvm.Cond.selects "JoinLoomModel" ({ cls := "JoinLoomModel", name := "part", desc := "(II)I" } : Jvm.MethodName) ({ cls := "JoinLoomModel", name := "part", desc := "(II)I" } : Jvm.MethodName)) ∈ lw_all := lw_g (lw_at lw_m4 137 rfl) rfl
theorem q914 : (Jvm.Cond.code ({ cls := "JoinLoomModel", name := "part", desc := "(II)I" } : Jvm.MethodName) prog_13_method_15_code (5 : Nat) (Option.some Jvm.ClassFile.FieldType.int)) ∈ lw_all := lw_g (lw_at lw_m4 138 rfl) rfl
theorem q916 : (Jvm.Cond.instanceMethod ({ cls := "JoinLoomModel", name := "name", desc := "(I)I" } : Jvm.MethodName)) ∈ lw_all := lw_g (lw_at lw_m4 140 rfl) rfl
theorem q917 : (Jvm.Cond.selects "JoinLoomModel" ({ cls := "JoinLoomModel", name := "name", desc := "(I)I" } : Jvm.MethodName) ({ cls := "JoinLoomModel", name := "name", desc := "(I)I" } : Jvm.MethodName)) ∈ lw_all := lw_g (lw_at lw_m4 141 rfl) rfl
theorem q918 : (Jvm.Cond.code ({ cls := "JoinLoomModel", name := "name", desc := "(I)I" } : Jvm.MethodName) prog_13_method_17_code (2 : Nat) (Option.some Jvm.ClassFile.FieldType.int)) ∈ lw_all := lw_g (lw_at lw_m4 142 rfl) rfl
theorem q919 : (Jvm.Cond.methodLink "JoinLoomModel" (122 : Nat) ({ cls := "JoinLoomModel", name := "place", desc := "(II)I" } : Jvm.MethodName)) ∈ lw_all := lw_g (lw_at lw_m4 143 rfl) rfl
theorem q920 : (Jvm.Cond.privateMethod ({ cls := "JoinLoomModel", name := "place", desc := "(II)I" } : Jvm.MethodName)) ∈ lw_tbl := lw_at lw_m4 144 rfl
theorem q921 : (Jvm.Cond.instanceMethod ({ cls := "JoinLoomModel", name := "place", desc := "(II)I" } : Jvm.MethodName)) ∈ lw_all := lw_g (lw_at lw_m4 145 rfl) rfl
theorem q922 : (Jvm.Cond.code ({ cls := "JoinLoomModel", name := "place", desc := "(II)I" } : Jvm.MethodName) prog_13_method_16_code (4 : Nat) (Option.some Jvm.ClassFile.FieldType.int)) ∈ lw_all := lw_g (lw_at lw_m4 146 rfl) rfl
theorem q924 : (Jvm.Cond.instanceMethod ({ cls := "JoinLoomModel", name := "value", desc := "(I)I" } : Jvm.MethodName)) ∈ lw_all := lw_g (lw_at lw_m4 148 rfl) rfl
theorem q925 : (Jvm.Cond.selects "JoinLoomModel" ({ cls := "JoinLoomModel", name := "value", desc := "(I)I" } : Jvm.MethodName) ({ cls := "JoinLoomModel", name := "value", desc := "(I)I" } : Jvm.MethodName)) ∈ lw_all := lw_g (lw_at lw_m4 149 rfl) rfl
theorem q926 : (Jvm.Cond.code ({ cls := "JoinLoomModel", name := "value", desc := "(I)I" } : Jvm.MethodName) prog_13_method_18_code (2 : Nat) (Option.some Jvm.ClassFile.FieldType.int)) ∈ lw_all := lw_g (lw_at lw_m4 150 rfl) rfl
theorem q928 : (Jvm.Cond.instanceMethod ({ cls := "JoinLoomModel", name := "compare", desc := "(IIZI)I" } : Jvm.MethodName)) ∈ lw_all := lw_g (lw_at lw_m4 152 rfl) rfl
theorem q929 : (Jvm.Cond.selects "JoinLoomModel" ({ cls := "JoinLoomModel", name := "compare", desc := "(IIZI)I" } : Jvm.MethodName) ({ cls := "JoinLoomModel", name := "compare", desc := "(IIZI)I" } : Jvm.MethodName)) ∈ lw_all := lw_g (lw_at lw_m4 153 rfl) rfl
theorem q930 : (Jvm.Cond.code ({ cls := "JoinLoomModel", name := "compare", desc := "(IIZI)I" } : Jvm.MethodName) prog_13_method_19_code (5 : Nat) (Option.some Jvm.ClassFile.FieldType.int)) ∈ lw_all := lw_g (lw_at lw_m4 154 rfl) rfl
theorem q932 : (Jvm.Cond.instanceMethod ({ cls := "JoinLoomModel", name := "weave", desc := "()I" } : Jvm.MethodName)) ∈ lw_all := lw_g (lw_at lw_m4 156 rfl) rfl
theorem q933 : (Jvm.Cond.selects "JoinLoomModel" ({ cls := "JoinLoomModel", name := "weave", desc := "()I" } : Jvm.MethodName) ({ cls := "JoinLoomModel", name := "weave", desc := "()I" } : Jvm.MethodName)) ∈ lw_all := lw_g (lw_at lw_m4 157 rfl) rfl
theorem q934 : (Jvm.Cond.code ({ cls := "JoinLoomModel", name := "weave", desc := "()I" } : Jvm.MethodName) prog_13_method_35_code (4 : Nat) (Option.some Jvm.ClassFile.FieldType.int)) ∈ lw_all := lw_g (lw_at lw_m4 158 rfl) rfl
theorem q935 : (Jvm.Cond.methodLink "JoinLoomModel" (166 : Nat) ({ cls := "JoinLoomModel", name := "holds", desc := "()Z" } : Jvm.MethodName)) ∈ lw_all := lw_g (lw_at lw_m4 159 rfl) rfl
theorem q936 : (Jvm.Cond.privateMethod ({ cls := "JoinLoomModel", name := "holds", desc := "()Z" } : Jvm.MethodName)) ∈ lw_tbl := lw_at lw_m4 160 rfl
theorem q937 : (Jvm.Cond.instanceMethod ({ cls := "JoinLoomModel", name := "holds", desc := "()Z" } : Jvm.MethodName)) ∈ lw_all := lw_g (lw_at lw_m4 161 rfl) rfl
theorem q938 : (Jvm.Cond.code ({ cls := "JoinLoomModel", name := "holds", desc := "()Z" } : Jvm.MethodName) prog_13_method_22_code (4 : Nat) (Option.some Jvm.ClassFile.FieldType.boolean)) ∈ lw_all := lw_g (lw_at lw_m4 162 rfl) rfl
theorem q939 : (Jvm.Cond.methodLink "JoinLoomModel" (125 : Nat) ({ cls := "JoinLoomModel", name := "hasName", desc := "(II)Z" } : Jvm.MethodName)) ∈ lw_all := lw_g (lw_at lw_m4 163 rfl) rfl
theorem q940 : (Jvm.Cond.privateMethod ({ cls := "JoinLoomModel", name := "hasName", desc := "(II)Z" } : Jvm.MethodName)) ∈ lw_tbl := lw_at lw_m4 164 rfl
theorem q941 : (Jvm.Cond.instanceMethod ({ cls := "JoinLoomModel", name := "hasName", desc := "(II)Z" } : Jvm.MethodName)) ∈ lw_all := lw_g (lw_at lw_m4 165 rfl) rfl
theorem q942 : (Jvm.Cond.code ({ cls := "JoinLoomModel", name := "hasName", desc := "(II)Z" } : Jvm.MethodName) prog_13_method_20_code (4 : Nat) (Option.some Jvm.ClassFile.FieldType.boolean)) ∈ lw_all := lw_g (lw_at lw_m4 166 rfl) rfl
theorem q943 : (Jvm.Cond.methodLink "JoinLoomModel" (170 : Nat) ({ cls := "JoinLoomModel", name := "meets", desc := "()Z" } : Jvm.MethodName)) ∈ lw_all := lw_g (lw_at lw_m4 167 rfl) rfl
theorem q944 : (Jvm.Cond.privateMethod ({ cls := "JoinLoomModel", name := "meets", desc := "()Z" } : Jvm.MethodName)) ∈ lw_tbl := lw_at lw_m4 168 rfl
theorem q945 : (Jvm.Cond.instanceMethod ({ cls := "JoinLoomModel", name := "meets", desc := "()Z" } : Jvm.MethodName)) ∈ lw_all := lw_g (lw_at lw_m4 169 rfl) rfl
theorem q946 : (Jvm.Cond.code ({ cls := "JoinLoomModel", name := "meets", desc := "()Z" } : Jvm.MethodName) prog_13_method_33_code (10 : Nat) (Option.some Jvm.ClassFile.FieldType.boolean)) ∈ lw_all := lw_g (lw_at lw_m4 170 rfl) rfl
theorem q947 : (Jvm.Cond.methodLink "JoinLoomModel" (156 : Nat) ({ cls := "JoinLoomModel", name := "columnOf", desc := "(I)I" } : Jvm.MethodName)) ∈ lw_all := lw_g (lw_at lw_m4 171 rfl) rfl
theorem q948 : (Jvm.Cond.privateMethod ({ cls := "JoinLoomModel", name := "columnOf", desc := "(I)I" } : Jvm.MethodName)) ∈ lw_tbl := lw_at lw_m4 172 rfl
theorem q949 : (Jvm.Cond.instanceMethod ({ cls := "JoinLoomModel", name := "columnOf", desc := "(I)I" } : Jvm.MethodName)) ∈ lw_all := lw_g (lw_at lw_m4 173 rfl) rfl
theorem q950 : (Jvm.Cond.code ({ cls := "JoinLoomModel", name := "columnOf", desc := "(I)I" } : Jvm.MethodName) prog_13_method_31_code (4 : Nat) (Option.some Jvm.ClassFile.FieldType.int)) ∈ lw_all := lw_g (lw_at lw_m4 174 rfl) rfl
theorem q951 : (Jvm.Cond.methodLink "JoinLoomModel" (160 : Nat) ({ cls := "JoinLoomModel", name := "isAgain", desc := "(III)Z" } : Jvm.MethodName)) ∈ lw_all := lw_g (lw_at lw_m4 175 rfl) rfl
theorem q952 : (Jvm.Cond.privateMethod ({ cls := "JoinLoomModel", name := "isAgain", desc := "(III)Z" } : Jvm.MethodName)) ∈ lw_tbl := lw_at lw_m4 176 rfl
theorem q953 : (Jvm.Cond.instanceMethod ({ cls := "JoinLoomModel", name := "isAgain", desc := "(III)Z" } : Jvm.MethodName)) ∈ lw_all := lw_g (lw_at lw_m4 177 rfl) rfl
theorem q954 : (Jvm.Cond.code ({ cls := "JoinLoomModel", name := "isAgain", desc := "(III)Z" } : Jvm.MethodName) prog_13_method_32_code (5 : Nat) (Option.some Jvm.ClassFile.FieldType.boolean)) ∈ lw_all := lw_g (lw_at lw_m4 178 rfl) rfl
theorem q955 : (Jvm.Cond.methodLink "JoinLoomModel" (163 : Nat) ({ cls := "JoinLoomModel", name := "areTrue", desc := "(I)Z" } : Jvm.MethodName)) ∈ lw_all := lw_g (lw_at lw_m4 179 rfl) rfl
theorem q956 : (Jvm.Cond.privateMethod ({ cls := "JoinLoomModel", name := "areTrue", desc := "(I)Z" } : Jvm.MethodName)) ∈ lw_tbl := lw_at lw_m4 180 rfl
theorem q957 : (Jvm.Cond.instanceMethod ({ cls := "JoinLoomModel", name := "areTrue", desc := "(I)Z" } : Jvm.MethodName)) ∈ lw_all := lw_g (lw_at lw_m4 181 rfl) rfl
theorem q958 : (Jvm.Cond.code ({ cls := "JoinLoomModel", name := "areTrue", desc := "(I)Z" } : Jvm.MethodName) prog_13_method_30_code (3 : Nat) (Option.some Jvm.ClassFile.FieldType.boolean)) ∈ lw_all := lw_g (lw_at lw_m4 182 rfl) rfl
theorem q959 : (Jvm.Cond.methodLink "JoinLoomModel" (150 : Nat) ({ cls := "JoinLoomModel", name := "isTrue", desc := "(II)Z" } : Jvm.MethodName)) ∈ lw_all := lw_g (lw_at lw_m4 183 rfl) rfl
theorem q960 : (Jvm.Cond.privateMethod ({ cls := "JoinLoomModel", name := "isTrue", desc := "(II)Z" } : Jvm.MethodName)) ∈ lw_tbl := lw_at lw_m4 184 rfl
theorem q961 : (Jvm.Cond.instanceMethod ({ cls := "JoinLoomModel", name := "isTrue", desc := "(II)Z" } : Jvm.MethodName)) ∈ lw_all := lw_g (lw_at lw_m4 185 rfl) rfl
theorem q962 : (Jvm.Cond.code ({ cls := "JoinLoomModel", name := "isTrue", desc := "(II)Z" } : Jvm.MethodName) prog_13_method_29_code (3 : Nat) (Option.some Jvm.ClassFile.FieldType.boolean)) ∈ lw_all := lw_g (lw_at lw_m4 186 rfl) rfl
theorem q963 : (Jvm.Cond.methodLink "JoinLoomModel" (138 : Nat) ({ cls := "JoinLoomModel", name := "isNamed", desc := "(I)Z" } : Jvm.MethodName)) ∈ lw_all := lw_g (lw_at lw_m4 187 rfl) rfl
theorem q964 : (Jvm.Cond.privateMethod ({ cls := "JoinLoomModel", name := "isNamed", desc := "(I)Z" } : Jvm.MethodName)) ∈ lw_tbl := lw_at lw_m4 188 rfl
theorem q965 : (Jvm.Cond.instanceMethod ({ cls := "JoinLoomModel", name := "isNamed", desc := "(I)Z" } : Jvm.MethodName)) ∈ lw_all := lw_g (lw_at lw_m4 189 rfl) rfl
theorem q966 : (Jvm.Cond.code ({ cls := "JoinLoomModel", name := "isNamed", desc := "(I)Z" } : Jvm.MethodName) prog_13_method_21_code (3 : Nat) (Option.some Jvm.ClassFile.FieldType.boolean)) ∈ lw_all := lw_g (lw_at lw_m4 190 rfl) rfl
theorem q967 : (Jvm.Cond.methodLink "JoinLoomModel" (141 : Nat) ({ cls := "JoinLoomModel", name := "touches", desc := "(II)Z" } : Jvm.MethodName)) ∈ lw_all := lw_g (lw_at lw_m4 191 rfl) rfl
theorem q968 : (Jvm.Cond.privateMethod ({ cls := "JoinLoomModel", name := "touches", desc := "(II)Z" } : Jvm.MethodName)) ∈ lw_tbl := lw_at lw_m4 192 rfl
theorem q969 : (Jvm.Cond.instanceMethod ({ cls := "JoinLoomModel", name := "touches", desc := "(II)Z" } : Jvm.MethodName)) ∈ lw_all := lw_g (lw_at lw_m4 193 rfl) rfl
theorem q970 : (Jvm.Cond.code ({ cls := "JoinLoomModel", name := "touches", desc := "(II)Z" } : Jvm.MethodName) prog_13_method_28_code (4 : Nat) (Option.some Jvm.ClassFile.FieldType.boolean)) ∈ lw_all := lw_g (lw_at lw_m4 194 rfl) rfl
theorem q971 : (Jvm.Cond.methodLink "JoinLoomModel" (129 : Nat) ({ cls := "JoinLoomModel", name := "isSet", desc := "(II)Z" } : Jvm.MethodName)) ∈ lw_all := lw_g (lw_at lw_m4 195 rfl) rfl
theorem q972 : (Jvm.Cond.privateMethod ({ cls := "JoinLoomModel", name := "isSet", desc := "(II)Z" } : Jvm.MethodName)) ∈ lw_tbl := lw_at lw_m4 196 rfl
theorem q973 : (Jvm.Cond.instanceMethod ({ cls := "JoinLoomModel", name := "isSet", desc := "(II)Z" } : Jvm.MethodName)) ∈ lw_all := lw_g (lw_at lw_m4 197 rfl) rfl
theorem q974 : (Jvm.Cond.code ({ cls := "JoinLoomModel", name := "isSet", desc := "(II)Z" } : Jvm.MethodName) prog_13_method_23_code (3 : Nat) (Option.some Jvm.ClassFile.FieldType.boolean)) ∈ lw_all := lw_g (lw_at lw_m4 198 rfl) rfl
theorem q975 : (Jvm.Cond.methodLink "JoinLoomModel" (144 : Nat) ({ cls := "JoinLoomModel", name := "rowOf", desc := "(II)I" } : Jvm.MethodName)) ∈ lw_all := lw_g (lw_at lw_m4 199 rfl) rfl
theorem q976 : (Jvm.Cond.privateMethod ({ cls := "JoinLoomModel", name := "rowOf", desc := "(II)I" } : Jvm.MethodName)) ∈ lw_tbl := lw_at lw_m4 200 rfl
theorem q977 : (Jvm.Cond.instanceMethod ({ cls := "JoinLoomModel", name := "rowOf", desc := "(II)I" } : Jvm.MethodName)) ∈ lw_all := lw_g (lw_at lw_m4 201 rfl) rfl
theorem q978 : (Jvm.Cond.code ({ cls := "JoinLoomModel", name := "rowOf", desc := "(II)I" } : Jvm.MethodName) prog_13_method_27_code (4 : Nat) (Option.some Jvm.ClassFile.FieldType.int)) ∈ lw_all := lw_g (lw_at lw_m4 202 rfl) rfl
theorem q979 : (Jvm.Cond.methodLink "JoinLoomModel" (135 : Nat) ({ cls := "JoinLoomModel", name := "agrees", desc := "(III)Z" } : Jvm.MethodName)) ∈ lw_all := lw_g (lw_at lw_m4 203 rfl) rfl
theorem q980 : (Jvm.Cond.privateMethod ({ cls := "JoinLoomModel", name := "agrees", desc := "(III)Z" } : Jvm.MethodName)) ∈ lw_tbl := lw_at lw_m4 204 rfl
theorem q981 : (Jvm.Cond.instanceMethod ({ cls := "JoinLoomModel", name := "agrees", desc := "(III)Z" } : Jvm.MethodName)) ∈ lw_all := lw_g (lw_at lw_m4 205 rfl) rfl
theorem q982 : (Jvm.Cond.code ({ cls := "JoinLoomModel", name := "agrees", desc := "(III)Z" } : Jvm.MethodName) prog_13_method_26_code (8 : Nat) (Option.some Jvm.ClassFile.FieldType.boolean)) ∈ lw_all := lw_g (lw_at lw_m4 206 rfl) rfl
theorem q983 : (Jvm.Cond.methodLink "JoinLoomModel" (132 : Nat) ({ cls := "JoinLoomModel", name := "told", desc := "(II)I" } : Jvm.MethodName)) ∈ lw_all := lw_g (lw_at lw_m4 207 rfl) rfl
theorem q984 : (Jvm.Cond.privateMethod ({ cls := "JoinLoomModel", name := "told", desc := "(II)I" } : Jvm.MethodName)) ∈ lw_tbl := lw_at lw_m4 208 rfl
theorem q985 : (Jvm.Cond.instanceMethod ({ cls := "JoinLoomModel", name := "told", desc := "(II)I" } : Jvm.MethodName)) ∈ lw_all := lw_g (lw_at lw_m4 209 rfl) rfl
theorem q986 : (Jvm.Cond.code ({ cls := "JoinLoomModel", name := "told", desc := "(II)I" } : Jvm.MethodName) prog_13_method_25_code (3 : Nat) (Option.some Jvm.ClassFile.FieldType.int)) ∈ lw_all := lw_g (lw_at lw_m4 210 rfl) rfl
theorem q987 : (Jvm.Cond.methodLink "JoinLoomModel" (147 : Nat) ({ cls := "JoinLoomModel", name := "isWhole", desc := "(II)Z" } : Jvm.MethodName)) ∈ lw_all := lw_g (lw_at lw_m4 211 rfl) rfl
theorem q988 : (Jvm.Cond.privateMethod ({ cls := "JoinLoomModel", name := "isWhole", desc := "(II)Z" } : Jvm.MethodName)) ∈ lw_tbl := lw_at lw_m4 212 rfl
theorem q989 : (Jvm.Cond.instanceMethod ({ cls := "JoinLoomModel", name := "isWhole", desc := "(II)Z" } : Jvm.MethodName)) ∈ lw_all := lw_g (lw_at lw_m4 213 rfl) rfl
theorem q990 : (Jvm.Cond.code ({ cls := "JoinLoomModel", name := "isWhole", desc := "(II)Z" } : Jvm.MethodName) prog_13_method_24_code (4 : Nat) (Option.some Jvm.ClassFile.FieldType.boolean)) ∈ lw_all := lw_g (lw_at lw_m4 214 rfl) rfl
theorem q991 : (Jvm.Cond.methodLink "JoinLoomModel" (179 : Nat) ({ cls := "JoinLoomModel", name := "against", desc := "([II[III)I" } : Jvm.MethodName)) ∈ lw_all := lw_g (lw_at lw_m4 215 rfl) rfl
theorem q992 : (Jvm.Cond.static ({ cls := "JoinLoomModel", name := "against", desc := "([II[III)I" } : Jvm.MethodName)) ∈ lw_all := lw_g (lw_at lw_m4 216 rfl) rfl
theorem q993 : (Jvm.Cond.code ({ cls := "JoinLoomModel", name := "against", desc := "([II[III)I" } : Jvm.MethodName) prog_13_method_34_code (7 : Nat) (Option.some Jvm.ClassFile.FieldType.int)) ∈ lw_all := lw_g (lw_at lw_m4 217 rfl) rfl
theorem q995 : (Jvm.Cond.instanceMethod ({ cls := "JoinLoomModel", name := "answer", desc := "(II)I" } : Jvm.MethodName)) ∈ lw_all := lw_g (lw_at lw_m4 219 rfl) rfl
theorem q996 : (Jvm.Cond.selects "JoinLoomModel" ({ cls := "JoinLoomModel", name := "answer", desc := "(II)I" } : Jvm.MethodName) ({ cls := "JoinLoomModel", name := "answer", desc := "(II)I" } : Jvm.MethodName)) ∈ lw_all := lw_g (lw_at lw_m4 220 rfl) rfl
theorem q997 : (Jvm.Cond.code ({ cls := "JoinLoomModel", name := "answer", desc := "(II)I" } : Jvm.MethodName) prog_13_method_37_code (3 : Nat) (Option.some Jvm.ClassFile.FieldType.int)) ∈ lw_all := lw_g (lw_at lw_m4 221 rfl) rfl
theorem q998 : (Jvm.Cond.methodLink "JoinLoomModel" (182 : Nat) ({ cls := "JoinLoomModel", name := "isName", desc := "(I)Z" } : Jvm.MethodName)) ∈ lw_all := lw_g (lw_at lw_m4 222 rfl) rfl
theorem q999 : (Jvm.Cond.privateMethod ({ cls := "JoinLoomModel", name := "isName", desc := "(I)Z" } : Jvm.MethodName)) ∈ lw_tbl := lw_at lw_m4 223 rfl
theorem q1000 : (Jvm.Cond.instanceMethod ({ cls := "JoinLoomModel", name := "isName", desc := "(I)Z" } : Jvm.MethodName)) ∈ lw_all := lw_g (lw_at lw_m4 224 rfl) rfl
theorem q1001 : (Jvm.Cond.code ({ cls := "JoinLoomModel", name := "isName", desc := "(I)Z" } : Jvm.MethodName) prog_13_method_36_code (2 : Nat) (Option.some Jvm.ClassFile.FieldType.boolean)) ∈ lw_all := lw_g (lw_at lw_m4 225 rfl) rfl
theorem q1003 : (Jvm.Cond.instanceMethod ({ cls := "JoinLoomModel", name := "meetings", desc := "(I)I" } : Jvm.MethodName)) ∈ lw_all := lw_g (lw_at lw_m4 227 rfl) rfl
theorem q1004 : (Jvm.Cond.selects "JoinLoomModel" ({ cls := "JoinLoomModel", name := "meetings", desc := "(I)I" } : Jvm.MethodName) ({ cls := "JoinLoomModel", name := "meetings", desc := "(I)I" } : Jvm.MethodName)) ∈ lw_all := lw_g (lw_at lw_m4 228 rfl) rfl
theorem q1005 : (Jvm.Cond.code ({ cls := "JoinLoomModel", name := "meetings", desc := "(I)I" } : Jvm.MethodName) prog_13_method_38_code (2 : Nat) (Option.some Jvm.ClassFile.FieldType.int)) ∈ lw_all := lw_g (lw_at lw_m4 229 rfl) rfl
theorem q1007 : (Jvm.Cond.instanceMethod ({ cls := "JoinLoomModel", name := "witness", desc := "(II)I" } : Jvm.MethodName)) ∈ lw_all := lw_g (lw_at lw_m4 231 rfl) rfl
theorem q1008 : (Jvm.Cond.selects "JoinLoomModel" ({ cls := "JoinLoomModel", name := "witness", desc := "(II)I" } : Jvm.MethodName) ({ cls := "JoinLoomModel", name := "witness", desc := "(II)I" } : Jvm.MethodName)) ∈ lw_all := lw_g (lw_at lw_m4 232 rfl) rfl
theorem q1009 : (Jvm.Cond.code ({ cls := "JoinLoomModel", name := "witness", desc := "(II)I" } : Jvm.MethodName) prog_13_method_39_code (3 : Nat) (Option.some Jvm.ClassFile.FieldType.int)) ∈ lw_all := lw_g (lw_at lw_m4 233 rfl) rfl
theorem q1011 : (Jvm.Cond.instanceMethod ({ cls := "JoinLoomModel", name := "sum", desc := "(II)J" } : Jvm.MethodName)) ∈ lw_all := lw_g (lw_at lw_m4 235 rfl) rfl
theorem q1012 : (Jvm.Cond.selects "JoinLoomModel" ({ cls := "JoinLoomModel", name := "sum", desc := "(II)J" } : Jvm.MethodName) ({ cls := "JoinLoomModel", name := "sum", desc := "(II)J" } : Jvm.MethodName)) ∈ lw_all := lw_g (lw_at lw_m4 236 rfl) rfl
theorem q1013 : (Jvm.Cond.code ({ cls := "JoinLoomModel", name := "sum", desc := "(II)J" } : Jvm.MethodName) prog_13_method_41_code (11 : Nat) (Option.some Jvm.ClassFile.FieldType.long)) ∈ lw_all := lw_g (lw_at lw_m4 237 rfl) rfl
theorem q1014 : (Jvm.Cond.methodLink "JoinLoomModel" (185 : Nat) ({ cls := "JoinLoomModel", name := "isNew", desc := "(II)Z" } : Jvm.MethodName)) ∈ lw_all := lw_g (lw_at lw_m4 238 rfl) rfl
theorem q1015 : (Jvm.Cond.privateMethod ({ cls := "JoinLoomModel", name := "isNew", desc := "(II)Z" } : Jvm.MethodName)) ∈ lw_tbl := lw_at lw_m4 239 rfl
theorem q1016 : (Jvm.Cond.instanceMethod ({ cls := "JoinLoomModel", name := "isNew", desc := "(II)Z" } : Jvm.MethodName)) ∈ lw_all := lw_g (lw_at lw_m5 0 rfl) rfl
theorem q1017 : (Jvm.Cond.code ({ cls := "JoinLoomModel", name := "isNew", desc := "(II)Z" } : Jvm.MethodName) prog_13_method_40_code (4 : Nat) (Option.some Jvm.ClassFile.FieldType.boolean)) ∈ lw_all := lw_g (lw_at lw_m5 1 rfl) rfl
theorem q1019 : (Jvm.Cond.instanceMethod ({ cls := "JoinLoomModel", name := "group", desc := "(IIII)J" } : Jvm.MethodName)) ∈ lw_all := lw_g (lw_at lw_m5 3 rfl) rfl
theorem q1020 : (Jvm.Cond.selects "JoinLoomModel" ({ cls := "JoinLoomModel", name := "group", desc := "(IIII)J" } : Jvm.MethodName) ({ cls := "JoinLoomModel", name := "group", desc := "(IIII)J" } : Jvm.MethodName)) ∈ lw_all := lw_g (lw_at lw_m5 4 rfl) rfl
theorem q1021 : (Jvm.Cond.code ({ cls := "JoinLoomModel", name := "group", desc := "(IIII)J" } : Jvm.MethodName) prog_13_method_42_code (9 : Nat) (Option.some Jvm.ClassFile.FieldType.long)) ∈ lw_all := lw_g (lw_at lw_m5 5 rfl) rfl
theorem q1023 : (Jvm.Cond.instanceMethod ({ cls := "JoinLoomModel", name := "keep", desc := "()I" } : Jvm.MethodName)) ∈ lw_all := lw_g (lw_at lw_m5 7 rfl) rfl
theorem q1024 : (Jvm.Cond.selects "JoinLoomModel" ({ cls := "JoinLoomModel", name := "keep", desc := "()I" } : Jvm.MethodName) ({ cls := "JoinLoomModel", name := "keep", desc := "()I" } : Jvm.MethodName)) ∈ lw_all := lw_g (lw_at lw_m5 8 rfl) rfl
theorem q1025 : (Jvm.Cond.code ({ cls := "JoinLoomModel", name := "keep", desc := "()I" } : Jvm.MethodName) prog_13_method_43_code (2 : Nat) (Option.some Jvm.ClassFile.FieldType.int)) ∈ lw_all := lw_g (lw_at lw_m5 9 rfl) rfl
theorem q1027 : (Jvm.Cond.instanceMethod ({ cls := "JoinLoomModel", name := "delta", desc := "(I)I" } : Jvm.MethodName)) ∈ lw_all := lw_g (lw_at lw_m5 11 rfl) rfl
theorem q1028 : (Jvm.Cond.selects "JoinLoomModel" ({ cls := "JoinLoomModel", name := "delta", desc := "(I)I" } : Jvm.MethodName) ({ cls := "JoinLoomModel", name := "delta", desc := "(I)I" } : Jvm.MethodName)) ∈ lw_all := lw_g (lw_at lw_m5 12 rfl) rfl
theorem q1029 : (Jvm.Cond.code ({ cls := "JoinLoomModel", name := "delta", desc := "(I)I" } : Jvm.MethodName) prog_13_method_47_code (2 : Nat) (Option.some Jvm.ClassFile.FieldType.int)) ∈ lw_all := lw_g (lw_at lw_m5 13 rfl) rfl
theorem q1030 : (Jvm.Cond.methodLink "JoinLoomModel" (195 : Nat) ({ cls := "JoinLoomModel", name := "differ", desc := "(I)Z" } : Jvm.MethodName)) ∈ lw_all := lw_g (lw_at lw_m5 14 rfl) rfl
theorem q1031 : (Jvm.Cond.privateMethod ({ cls := "JoinLoomModel", name := "differ", desc := "(I)Z" } : Jvm.MethodName)) ∈ lw_tbl := lw_at lw_m5 15 rfl
theorem q1032 : (Jvm.Cond.instanceMethod ({ cls := "JoinLoomModel", name := "differ", desc := "(I)Z" } : Jvm.MethodName)) ∈ lw_all := lw_g (lw_at lw_m5 16 rfl) rfl
theorem q1033 : (Jvm.Cond.code ({ cls := "JoinLoomModel", name := "differ", desc := "(I)Z" } : Jvm.MethodName) prog_13_method_46_code (2 : Nat) (Option.some Jvm.ClassFile.FieldType.boolean)) ∈ lw_all := lw_g (lw_at lw_m5 17 rfl) rfl
theorem q1034 : (Jvm.Cond.methodLink "JoinLoomModel" (198 : Nat) ({ cls := "JoinLoomModel", name := "differs", desc := "(II)I" } : Jvm.MethodName)) ∈ lw_all := lw_g (lw_at lw_m5 18 rfl) rfl
theorem q1035 : (Jvm.Cond.privateMethod ({ cls := "JoinLoomModel", name := "differs", desc := "(II)I" } : Jvm.MethodName)) ∈ lw_tbl := lw_at lw_m5 19 rfl
theorem q1036 : (Jvm.Cond.instanceMethod ({ cls := "JoinLoomModel", name := "differs", desc := "(II)I" } : Jvm.MethodName)) ∈ lw_all := lw_g (lw_at lw_m5 20 rfl) rfl
theorem q1037 : (Jvm.Cond.code ({ cls := "JoinLoomModel", name := "differs", desc := "(II)I" } : Jvm.MethodName) prog_13_method_45_code (6 : Nat) (Option.some Jvm.ClassFile.FieldType.int)) ∈ lw_all := lw_g (lw_at lw_m5 21 rfl) rfl
theorem q1038 : (Jvm.Cond.methodLink "JoinLoomModel" (191 : Nat) ({ cls := "JoinLoomModel", name := "isAmong", desc := "([II[III)Z" } : Jvm.MethodName)) ∈ lw_all := lw_g (lw_at lw_m5 22 rfl) rfl
theorem q1039 : (Jvm.Cond.static ({ cls := "JoinLoomModel", name := "isAmong", desc := "([II[III)Z" } : Jvm.MethodName)) ∈ lw_all := lw_g (lw_at lw_m5 23 rfl) rfl
theorem q1040 : (Jvm.Cond.code ({ cls := "JoinLoomModel", name := "isAmong", desc := "([II[III)Z" } : Jvm.MethodName) prog_13_method_44_code (6 : Nat) (Option.some Jvm.ClassFile.FieldType.boolean)) ∈ lw_all := lw_g (lw_at lw_m5 24 rfl) rfl
theorem q1042 : (Jvm.Cond.instanceMethod ({ cls := "JoinLoomModel", name := "change", desc := "(III)I" } : Jvm.MethodName)) ∈ lw_all := lw_g (lw_at lw_m5 26 rfl) rfl
theorem q1043 : (Jvm.Cond.selects "JoinLoomModel" ({ cls := "JoinLoomModel", name := "change", desc := "(III)I" } : Jvm.MethodName) ({ cls := "JoinLoomModel", name := "change", desc := "(III)I" } : Jvm.MethodName)) ∈ lw_all := lw_g (lw_at lw_m5 27 rfl) rfl
theorem q1044 : (Jvm.Cond.code ({ cls := "JoinLoomModel", name := "change", desc := "(III)I" } : Jvm.MethodName) prog_13_method_48_code (5 : Nat) (Option.some Jvm.ClassFile.FieldType.int)) ∈ lw_all := lw_g (lw_at lw_m5 28 rfl) rfl
theorem q1046 : (Jvm.Cond.instanceMethod ({ cls := "JoinLoomModel", name := "bound", desc := "()J" } : Jvm.MethodName)) ∈ lw_all := lw_g (lw_at lw_m5 30 rfl) rfl
theorem q1047 : (Jvm.Cond.selects "JoinLoomModel" ({ cls := "JoinLoomModel", name := "bound", desc := "()J" } : Jvm.MethodName) ({ cls := "JoinLoomModel", name := "bound", desc := "()J" } : Jvm.MethodName)) ∈ lw_all := lw_g (lw_at lw_m5 31 rfl) rfl
theorem q1048 : (Jvm.Cond.code ({ cls := "JoinLoomModel", name := "bound", desc := "()J" } : Jvm.MethodName) prog_13_method_52_code (1 : Nat) (Option.some Jvm.ClassFile.FieldType.long)) ∈ lw_all := lw_g (lw_at lw_m5 32 rfl) rfl
theorem q1049 : (Jvm.Cond.methodLink "JoinLoomModel" (210 : Nat) ({ cls := "JoinLoomModel", name := "least", desc := "()J" } : Jvm.MethodName)) ∈ lw_all := lw_g (lw_at lw_m5 33 rfl) rfl
theorem q1050 : (Jvm.Cond.privateMethod ({ cls := "JoinLoomModel", name := "least", desc := "()J" } : Jvm.MethodName)) ∈ lw_tbl := lw_at lw_m5 34 rfl
theorem q1051 : (Jvm.Cond.instanceMethod ({ cls := "JoinLoomModel", name := "least", desc := "()J" } : Jvm.MethodName)) ∈ lw_all := lw_g (lw_at lw_m5 35 rfl) rfl
theorem q1052 : (Jvm.Cond.code ({ cls := "JoinLoomModel", name := "least", desc := "()J" } : Jvm.MethodName) prog_13_method_51_code (9 : Nat) (Option.some Jvm.ClassFile.FieldType.long)) ∈ lw_all := lw_g (lw_at lw_m5 36 rfl) rfl
theorem q1053 : (Jvm.Cond.constantLong "JoinLoomModel" (201 : Nat) (-1 : Int64)) ∈ lw_all := lw_g (lw_at lw_m5 37 rfl) rfl
theorem q1054 : (Jvm.Cond.methodLink "JoinLoomModel" (203 : Nat) ({ cls := "JoinLoomModel", name := "covers", desc := "()Z" } : Jvm.MethodName)) ∈ lw_all := lw_g (lw_at lw_m5 38 rfl) rfl
theorem q1055 : (Jvm.Cond.privateMethod ({ cls := "JoinLoomModel", name := "covers", desc := "()Z" } : Jvm.MethodName)) ∈ lw_tbl := lw_at lw_m5 39 rfl
theorem q1056 : (Jvm.Cond.instanceMethod ({ cls := "JoinLoomModel", name := "covers", desc := "()Z" } : Jvm.MethodName)) ∈ lw_all := lw_g (lw_at lw_m5 40 rfl) rfl
theorem q1057 : (Jvm.Cond.code ({ cls := "JoinLoomModel", name := "covers", desc := "()Z" } : Jvm.MethodName) prog_13_method_49_code (4 : Nat) (Option.some Jvm.ClassFile.FieldType.boolean)) ∈ lw_all := lw_g (lw_at lw_m5 41 rfl) rfl
theorem q1058 : (Jvm.Cond.methodLink "JoinLoomModel" (206 : Nat) ({ cls := "JoinLoomModel", name := "product", desc := "()J" } : Jvm.MethodName)) ∈ lw_all := lw_g (lw_at lw_m5 42 rfl) rfl
theorem q1059 : (Jvm.Cond.privateMethod ({ cls := "JoinLoomModel", name := "product", desc := "()J" } : Jvm.MethodName)) ∈ lw_tbl := lw_at lw_m5 43 rfl
theorem q1060 : (Jvm.Cond.instanceMethod ({ cls := "JoinLoomModel", name := "product", desc := "()J" } : Jvm.MethodName)) ∈ lw_all := lw_g (lw_at lw_m5 44 rfl) rfl
theorem q1061 : (Jvm.Cond.code ({ cls := "JoinLoomModel", name := "product", desc := "()J" } : Jvm.MethodName) prog_13_method_50_code (5 : Nat) (Option.some Jvm.ClassFile.FieldType.long)) ∈ lw_all := lw_g (lw_at lw_m5 45 rfl) rfl
theorem q1063 : (Jvm.Cond.instanceMethod ({ cls := "JoinLoomModel", name := "cover", desc := "(I)I" } : Jvm.MethodName)) ∈ lw_all := lw_g (lw_at lw_m5 47 rfl) rfl
theorem q1064 : (Jvm.Cond.selects "JoinLoomModel" ({ cls := "JoinLoomModel", name := "cover", desc := "(I)I" } : Jvm.MethodName) ({ cls := "JoinLoomModel", name := "cover", desc := "(I)I" } : Jvm.MethodName)) ∈ lw_all := lw_g (lw_at lw_m5 48 rfl) rfl
theorem q1065 : (Jvm.Cond.code ({ cls := "JoinLoomModel", name := "cover", desc := "(I)I" } : Jvm.MethodName) prog_13_method_53_code (4 : Nat) (Option.some Jvm.ClassFile.FieldType.int)) ∈ lw_all := lw_g (lw_at lw_m5 49 rfl) rfl
theorem q1067 : (Jvm.Cond.instanceMethod ({ cls := "JoinLoomModel", name := "order", desc := "(II)Z" } : Jvm.MethodName)) ∈ lw_all := lw_g (lw_at lw_m5 51 rfl) rfl
theorem q1068 : (Jvm.Cond.selects "JoinLoomModel" ({ cls := "JoinLoomModel", name := "order", desc := "(II)Z" } : Jvm.MethodName) ({ cls := "JoinLoomModel", name := "order", desc := "(II)Z" } : Jvm.MethodName)) ∈ lw_all := lw_g (lw_at lw_m5 52 rfl) rfl
theorem q1069 : (Jvm.Cond.code ({ cls := "JoinLoomModel", name := "order", desc := "(II)Z" } : Jvm.MethodName) prog_13_method_54_code (4 : Nat) (Option.some Jvm.ClassFile.FieldType.boolean)) ∈ lw_all := lw_g (lw_at lw_m5 53 rfl) rfl
theorem q1071 : (Jvm.Cond.instanceMethod ({ cls := "JoinLoomModel", name := "best", desc := "()I" } : Jvm.MethodName)) ∈ lw_all := lw_g (lw_at lw_m5 55 rfl) rfl
theorem q1072 : (Jvm.Cond.selects "JoinLoomModel" ({ cls := "JoinLoomModel", name := "best", desc := "()I" } : Jvm.MethodName) ({ cls := "JoinLoomModel", name := "best", desc := "()I" } : Jvm.MethodName)) ∈ lw_all := lw_g (lw_at lw_m5 56 rfl) rfl
theorem q1073 : (Jvm.Cond.code ({ cls := "JoinLoomModel", name := "best", desc := "()I" } : Jvm.MethodName) prog_13_method_56_code (5 : Nat) (Option.some Jvm.ClassFile.FieldType.int)) ∈ lw_all := lw_g (lw_at lw_m5 57 rfl) rfl
theorem q1074 : (Jvm.Cond.methodLink "JoinLoomModel" (213 : Nat) ({ cls := "JoinLoomModel", name := "nextOrder", desc := "()Z" } : Jvm.MethodName)) ∈ lw_all := lw_g (lw_at lw_m5 58 rfl) rfl
theorem q1075 : (Jvm.Cond.privateMethod ({ cls := "JoinLoomModel", name := "nextOrder", desc := "()Z" } : Jvm.MethodName)) ∈ lw_tbl := lw_at lw_m5 59 rfl
theorem q1076 : (Jvm.Cond.instanceMethod ({ cls := "JoinLoomModel", name := "nextOrder", desc := "()Z" } : Jvm.MethodName)) ∈ lw_all := lw_g (lw_at lw_m5 60 rfl) rfl
theorem q1077 : (Jvm.Cond.code ({ cls := "JoinLoomModel", name := "nextOrder", desc := "()Z" } : Jvm.MethodName) prog_13_method_55_code (6 : Nat) (Option.some Jvm.ClassFile.FieldType.boolean)) ∈ lw_all := lw_g (lw_at lw_m5 61 rfl) rfl
theorem q1079 : (Jvm.Cond.instanceMethod ({ cls := "JoinLoomModel", name := "rings", desc := "(I)I" } : Jvm.MethodName)) ∈ lw_all := lw_g (lw_at lw_m5 63 rfl) rfl
theorem q1080 : (Jvm.Cond.selects "JoinLoomModel" ({ cls := "JoinLoomModel", name := "rings", desc := "(I)I" } : Jvm.MethodName) ({ cls := "JoinLoomModel", name := "rings", desc := "(I)I" } : Jvm.MethodName)) ∈ lw_all := lw_g (lw_at lw_m5 64 rfl) rfl
theorem q1081 : (Jvm.Cond.code ({ cls := "JoinLoomModel", name := "rings", desc := "(I)I" } : Jvm.MethodName) prog_13_method_60_code (2 : Nat) (Option.some Jvm.ClassFile.FieldType.int)) ∈ lw_all := lw_g (lw_at lw_m5 65 rfl) rfl
theorem q1082 : (Jvm.Cond.methodLink "JoinLoomModel" (219 : Nat) ({ cls := "JoinLoomModel", name := "isRinged", desc := "(I)Z" } : Jvm.MethodName)) ∈ lw_all := lw_g (lw_at lw_m5 66 rfl) rfl
theorem q1083 : (Jvm.Cond.privateMethod ({ cls := "JoinLoomModel", name := "isRinged", desc := "(I)Z" } : Jvm.MethodName)) ∈ lw_tbl := lw_at lw_m5 67 rfl
theorem q1084 : (Jvm.Cond.instanceMethod ({ cls := "JoinLoomModel", name := "isRinged", desc := "(I)Z" } : Jvm.MethodName)) ∈ lw_all := lw_g (lw_at lw_m5 68 rfl) rfl
theorem q1085 : (Jvm.Cond.code ({ cls := "JoinLoomModel", name := "isRinged", desc := "(I)Z" } : Jvm.MethodName) prog_13_method_59_code (2 : Nat) (Option.some Jvm.ClassFile.FieldType.boolean)) ∈ lw_all := lw_g (lw_at lw_m5 69 rfl) rfl
theorem q1086 : (Jvm.Cond.methodLink "JoinLoomModel" (222 : Nat) ({ cls := "JoinLoomModel", name := "ringsOf", desc := "(II)I" } : Jvm.MethodName)) ∈ lw_all := lw_g (lw_at lw_m5 70 rfl) rfl
theorem q1087 : (Jvm.Cond.privateMethod ({ cls := "JoinLoomModel", name := "ringsOf", desc := "(II)I" } : Jvm.MethodName)) ∈ lw_tbl := lw_at lw_m5 71 rfl
theorem q1088 : (Jvm.Cond.instanceMethod ({ cls := "JoinLoomModel", name := "ringsOf", desc := "(II)I" } : Jvm.MethodName)) ∈ lw_all := lw_g (lw_at lw_m5 72 rfl) rfl
theorem q1089 : (Jvm.Cond.code ({ cls := "JoinLoomModel", name := "ringsOf", desc := "(II)I" } : Jvm.MethodName) prog_13_method_58_code (9 : Nat) (Option.some Jvm.ClassFile.FieldType.int)) ∈ lw_all := lw_g (lw_at lw_m5 73 rfl) rfl
theorem q1090 : (Jvm.Cond.methodLink "JoinLoomModel" (216 : Nat) ({ cls := "JoinLoomModel", name := "begins", desc := "(III)Z" } : Jvm.MethodName)) ∈ lw_all := lw_g (lw_at lw_m5 74 rfl) rfl
theorem q1091 : (Jvm.Cond.privateMethod ({ cls := "JoinLoomModel", name := "begins", desc := "(III)Z" } : Jvm.MethodName)) ∈ lw_tbl := lw_at lw_m5 75 rfl
theorem q1092 : (Jvm.Cond.instanceMethod ({ cls := "JoinLoomModel", name := "begins", desc := "(III)Z" } : Jvm.MethodName)) ∈ lw_all := lw_g (lw_at lw_m5 76 rfl) rfl
theorem q1093 : (Jvm.Cond.code ({ cls := "JoinLoomModel", name := "begins", desc := "(III)Z" } : Jvm.MethodName) prog_13_method_57_code (5 : Nat) (Option.some Jvm.ClassFile.FieldType.boolean)) ∈ lw_all := lw_g (lw_at lw_m5 77 rfl) rfl
theorem q1095 : (Jvm.Cond.instanceMethod ({ cls := "JoinLoomModel", name := "ring", desc := "(III)I" } : Jvm.MethodName)) ∈ lw_all := lw_g (lw_at lw_m5 79 rfl) rfl
theorem q1096 : (Jvm.Cond.selects "JoinLoomModel" ({ cls := "JoinLoomModel", name := "ring", desc := "(III)I" } : Jvm.MethodName) ({ cls := "JoinLoomModel", name := "ring", desc := "(III)I" } : Jvm.MethodName)) ∈ lw_all := lw_g (lw_at lw_m5 80 rfl) rfl
theorem q1097 : (Jvm.Cond.code ({ cls := "JoinLoomModel", name := "ring", desc := "(III)I" } : Jvm.MethodName) prog_13_method_61_code (4 : Nat) (Option.some Jvm.ClassFile.FieldType.int)) ∈ lw_all := lw_g (lw_at lw_m5 81 rfl) rfl
theorem q1099 : (Jvm.Cond.instanceMethod ({ cls := "JoinLoomModel", name := "count", desc := "(I)I" } : Jvm.MethodName)) ∈ lw_all := lw_g (lw_at lw_m5 83 rfl) rfl
theorem q1100 : (Jvm.Cond.selects "JoinLoomModel" ({ cls := "JoinLoomModel", name := "count", desc := "(I)I" } : Jvm.MethodName) ({ cls := "JoinLoomModel", name := "count", desc := "(I)I" } : Jvm.MethodName)) ∈ lw_all := lw_g (lw_at lw_m5 84 rfl) rfl
theorem q1101 : (Jvm.Cond.code ({ cls := "JoinLoomModel", name := "count", desc := "(I)I" } : Jvm.MethodName) prog_13_method_62_code (2 : Nat) (Option.some Jvm.ClassFile.FieldType.int)) ∈ lw_all := lw_g (lw_at lw_m5 85 rfl) rfl
theorem in_X4 : ∀ w ∈ wsX40, w ∈ lw_all := lw_in wsX40 [796, 798, 800, 802, 804, 806, 808, 810, 812, 814, 816, 818, 820, 822, 824, 826, 828, 830, 832, 834, 836, 838, 840, 842, 844, 846, 848, 850, 852, 854, 856] (by decide +kernel) (by decide +kernel)
