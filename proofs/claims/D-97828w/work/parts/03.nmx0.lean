/-! CarryFair -/
set_option maxRecDepth 100000
def RX0 : String := "CarryFair"
def TX0 : u_T := fun k => match k with
  | 0 => ("CarryFair", "refusal", "LCarryFair$Refusal;", true)
  | 1 => ("CarryFair", "reader", "LCarryFair$Reader;", true)
  | 2 => ("CarryFair", "taped", "I", false)
  | 3 => ("CarryFair", "d", "LCarryFair$World;", true)
  | 4 => ("CarryFair", "kept", "LCarryFair$World;", true)
  | 5 => ("CarryFair", "aside", "LCarryFair$World;", true)
  | 6 => ("CarryFair", "isKept", "Z", false)
  | 7 => ("CarryFair", "carriers", "[LCarryFair$Slot;", true)
  | 8 => ("CarryFair", "spots", "[LCarryFair$Slot;", true)
  | 9 => ("CarryFair", "sheets", "[LCarryFair$Slot;", true)
  | 10 => ("CarryFair", "findings", "[I", true)
  | 11 => ("CarryFair", "plain", "[[I", true)
  | 12 => ("CarryFair", "fars", "[[I", true)
  | 13 => ("CarryFair", "members", "[I", true)
  | 14 => ("CarryFair", "many", "I", false)
  | 15 => ("CarryFair", "power", "[I", true)
  | 16 => ("CarryFair", "least", "[[I", true)
  | 17 => ("CarryFair", "bestSet", "I", false)
  | 18 => ("CarryFair", "bestPart", "I", false)
  | _ => ("CarryFair", "bestBridge", "I", false)
def tyX0 : Nat → FieldType := fun k => match k with
  | 0 => .object "CarryFair$Refusal"
  | 1 => .object "CarryFair$Reader"
  | 2 => .int
  | 3 => .object "CarryFair$World"
  | 4 => .object "CarryFair$World"
  | 5 => .object "CarryFair$World"
  | 6 => .boolean
  | 7 => .array (.object "CarryFair$Slot")
  | 8 => .array (.object "CarryFair$Slot")
  | 9 => .array (.object "CarryFair$Slot")
  | 10 => .array .int
  | 11 => .array (.array .int)
  | 12 => .array (.array .int)
  | 13 => .array .int
  | 14 => .int
  | 15 => .array .int
  | 16 => .array (.array .int)
  | 17 => .int
  | 18 => .int
  | _ => .int
abbrev wsX00 : List Cond := u_ws RX0 TX0 20
set_option maxRecDepth 100000 in
theorem nmX0 : ∀ a, a < 20 → ∀ b, b < 20 → a ≠ b → (TX0 a).2.1 ≠ (TX0 b).2.1 := by decide +kernel
set_option maxRecDepth 100000 in
theorem tyX0_ok : ∀ k, k < 20 → parseFieldDescriptor (TX0 k).2.2.1 = some (tyX0 k) := by decide +kernel
abbrev cX0_init : ByteArray := prog_1_method_11_code
def yX0_init : MethodName := ⟨RX0, "<init>", "()V"⟩
def dkwX0_init_11 : List UInt8 := [180, 0, 80, 27, 187, 0, 71, 89, 183, 0, 104, 83, 132, 1, 1, 167, 255, 235, 177]
abbrev dktX0_init_11 : List UInt8 := dkwX0_init_11 ++ []
def dkwX0_init_10 : List UInt8 := [27, 187, 0, 71, 89, 183, 0, 104, 83, 132, 1, 1, 167, 255, 234, 3, 60, 27, 7, 162, 0, 22, 42]
abbrev dktX0_init_10 : List UInt8 := dkwX0_init_10 ++ dktX0_init_11
def dkwX0_init_9 : List UInt8 := [182, 0, 105, 181, 0, 109, 132, 1, 1, 167, 255, 213, 3, 60, 27, 16, 10, 162, 0, 22, 42, 180, 0, 77]
abbrev dktX0_init_9 : List UInt8 := dkwX0_init_9 ++ dktX0_init_10
def dkwX0_init_8 : List UInt8 := [187, 0, 71, 89, 183, 0, 104, 83, 42, 180, 0, 73, 27, 50, 42, 27, 16, 6, 108, 27, 16, 6, 112]
abbrev dktX0_init_8 : List UInt8 := dkwX0_init_8 ++ dktX0_init_9
def dkwX0_init_7 : List UInt8 := [16, 7, 197, 0, 87, 2, 181, 0, 101, 3, 60, 27, 16, 42, 162, 0, 43, 42, 180, 0, 73, 27]
abbrev dktX0_init_7 : List UInt8 := dkwX0_init_7 ++ dktX0_init_8
def dkwX0_init_6 : List UInt8 := [79, 89, 6, 16, 27, 79, 89, 7, 16, 81, 79, 89, 8, 17, 0, 243, 79, 181, 0, 98, 42, 17, 0, 243]
abbrev dktX0_init_6 : List UInt8 := dkwX0_init_6 ++ dktX0_init_7
def dkwX0_init_5 : List UInt8 := [42, 8, 188, 10, 181, 0, 95, 42, 16, 6, 188, 10, 89, 3, 4, 79, 89, 4, 6, 79, 89, 5, 16, 9]
abbrev dktX0_init_5 : List UInt8 := dkwX0_init_5 ++ dktX0_init_6
def dkwX0_init_4 : List UInt8 := [42, 16, 7, 16, 7, 197, 0, 87, 2, 181, 0, 89, 42, 16, 7, 16, 7, 197, 0, 87, 2, 181, 0, 92]
abbrev dktX0_init_4 : List UInt8 := dkwX0_init_4 ++ dktX0_init_5
def dkwX0_init_3 : List UInt8 := [16, 10, 189, 0, 71, 181, 0, 77, 42, 7, 189, 0, 71, 181, 0, 80, 42, 16, 7, 188, 10, 181, 0, 83]
abbrev dktX0_init_3 : List UInt8 := dkwX0_init_3 ++ dktX0_init_4
def dkwX0_init_2 : List UInt8 := [181, 0, 65, 42, 187, 0, 58, 89, 183, 0, 60, 181, 0, 68, 42, 16, 42, 189, 0, 71, 181, 0, 73, 42]
abbrev dktX0_init_2 : List UInt8 := dkwX0_init_2 ++ dktX0_init_3
def dkwX0_init_1 : List UInt8 := [181, 0, 54, 42, 187, 0, 58, 89, 183, 0, 60, 181, 0, 61, 42, 187, 0, 58, 89, 183, 0, 60]
abbrev dktX0_init_1 : List UInt8 := dkwX0_init_1 ++ dktX0_init_2
def dkwX0_init_0 : List UInt8 := [42, 183, 0, 39, 42, 187, 0, 44, 89, 183, 0, 46, 181, 0, 47, 42, 187, 0, 51, 89, 183, 0, 53]
abbrev dktX0_init_0 : List UInt8 := dkwX0_init_0 ++ dktX0_init_1
theorem dksX0_init_0 : cX0_init.data.toList.drop 0 = dktX0_init_0 := by decide +kernel
theorem dksX0_init_1 : cX0_init.data.toList.drop 23 = dktX0_init_1 := dk_seg dksX0_init_0 23 rfl rfl
theorem dksX0_init_2 : cX0_init.data.toList.drop 45 = dktX0_init_2 := dk_seg dksX0_init_1 22 rfl rfl
theorem dksX0_init_3 : cX0_init.data.toList.drop 69 = dktX0_init_3 := dk_seg dksX0_init_2 24 rfl rfl
theorem dksX0_init_4 : cX0_init.data.toList.drop 93 = dktX0_init_4 := dk_seg dksX0_init_3 24 rfl rfl
theorem dksX0_init_5 : cX0_init.data.toList.drop 117 = dktX0_init_5 := dk_seg dksX0_init_4 24 rfl rfl
theorem dksX0_init_6 : cX0_init.data.toList.drop 141 = dktX0_init_6 := dk_seg dksX0_init_5 24 rfl rfl
theorem dksX0_init_7 : cX0_init.data.toList.drop 165 = dktX0_init_7 := dk_seg dksX0_init_6 24 rfl rfl
theorem dksX0_init_8 : cX0_init.data.toList.drop 187 = dktX0_init_8 := dk_seg dksX0_init_7 22 rfl rfl
theorem dksX0_init_9 : cX0_init.data.toList.drop 210 = dktX0_init_9 := dk_seg dksX0_init_8 23 rfl rfl
theorem dksX0_init_10 : cX0_init.data.toList.drop 234 = dktX0_init_10 := dk_seg dksX0_init_9 24 rfl rfl
theorem dksX0_init_11 : cX0_init.data.toList.drop 257 = dktX0_init_11 := dk_seg dksX0_init_10 23 rfl rfl
theorem dX0_init_0 : decode cX0_init 0 = .ok (.aload_n 0, 1) := dk_42 (dk_at dksX0_init_0 0 rfl rfl)
theorem dX0_init_1 : decode cX0_init 1 = .ok (.invokespecial 39, 3) := dk_183 0 39 (dk_at dksX0_init_0 1 rfl rfl)
theorem dX0_init_4 : decode cX0_init 4 = .ok (.aload_n 0, 1) := dk_42 (dk_at dksX0_init_0 4 rfl rfl)
theorem dX0_init_5 : decode cX0_init 5 = .ok (.new 44, 3) := dk_187 0 44 (dk_at dksX0_init_0 5 rfl rfl)
theorem dX0_init_8 : decode cX0_init 8 = .ok (.dup, 1) := dk_89 (dk_at dksX0_init_0 8 rfl rfl)
theorem dX0_init_9 : decode cX0_init 9 = .ok (.invokespecial 46, 3) := dk_183 0 46 (dk_at dksX0_init_0 9 rfl rfl)
theorem dX0_init_12 : decode cX0_init 12 = .ok (.putfield 47, 3) := dk_181 0 47 (dk_at dksX0_init_0 12 rfl rfl)
theorem dX0_init_15 : decode cX0_init 15 = .ok (.aload_n 0, 1) := dk_42 (dk_at dksX0_init_0 15 rfl rfl)
theorem dX0_init_16 : decode cX0_init 16 = .ok (.new 51, 3) := dk_187 0 51 (dk_at dksX0_init_0 16 rfl rfl)
theorem dX0_init_19 : decode cX0_init 19 = .ok (.dup, 1) := dk_89 (dk_at dksX0_init_0 19 rfl rfl)
theorem dX0_init_20 : decode cX0_init 20 = .ok (.invokespecial 53, 3) := dk_183 0 53 (dk_at dksX0_init_0 20 rfl rfl)
theorem dX0_init_23 : decode cX0_init 23 = .ok (.putfield 54, 3) := dk_181 0 54 (dk_at dksX0_init_1 0 rfl rfl)
theorem dX0_init_26 : decode cX0_init 26 = .ok (.aload_n 0, 1) := dk_42 (dk_at dksX0_init_1 3 rfl rfl)
theorem dX0_init_27 : decode cX0_init 27 = .ok (.new 58, 3) := dk_187 0 58 (dk_at dksX0_init_1 4 rfl rfl)
theorem dX0_init_30 : decode cX0_init 30 = .ok (.dup, 1) := dk_89 (dk_at dksX0_init_1 7 rfl rfl)
theorem dX0_init_31 : decode cX0_init 31 = .ok (.invokespecial 60, 3) := dk_183 0 60 (dk_at dksX0_init_1 8 rfl rfl)
theorem dX0_init_34 : decode cX0_init 34 = .ok (.putfield 61, 3) := dk_181 0 61 (dk_at dksX0_init_1 11 rfl rfl)
theorem dX0_init_37 : decode cX0_init 37 = .ok (.aload_n 0, 1) := dk_42 (dk_at dksX0_init_1 14 rfl rfl)
theorem dX0_init_38 : decode cX0_init 38 = .ok (.new 58, 3) := dk_187 0 58 (dk_at dksX0_init_1 15 rfl rfl)
theorem dX0_init_41 : decode cX0_init 41 = .ok (.dup, 1) := dk_89 (dk_at dksX0_init_1 18 rfl rfl)
theorem dX0_init_42 : decode cX0_init 42 = .ok (.invokespecial 60, 3) := dk_183 0 60 (dk_at dksX0_init_1 19 rfl rfl)
theorem dX0_init_45 : decode cX0_init 45 = .ok (.putfield 65, 3) := dk_181 0 65 (dk_at dksX0_init_2 0 rfl rfl)
theorem dX0_init_48 : decode cX0_init 48 = .ok (.aload_n 0, 1) := dk_42 (dk_at dksX0_init_2 3 rfl rfl)
theorem dX0_init_49 : decode cX0_init 49 = .ok (.new 58, 3) := dk_187 0 58 (dk_at dksX0_init_2 4 rfl rfl)
theorem dX0_init_52 : decode cX0_init 52 = .ok (.dup, 1) := dk_89 (dk_at dksX0_init_2 7 rfl rfl)
theorem dX0_init_53 : decode cX0_init 53 = .ok (.invokespecial 60, 3) := dk_183 0 60 (dk_at dksX0_init_2 8 rfl rfl)
theorem dX0_init_56 : decode cX0_init 56 = .ok (.putfield 68, 3) := dk_181 0 68 (dk_at dksX0_init_2 11 rfl rfl)
theorem dX0_init_59 : decode cX0_init 59 = .ok (.aload_n 0, 1) := dk_42 (dk_at dksX0_init_2 14 rfl rfl)
theorem dX0_init_60 : decode cX0_init 60 = .ok (.bipush 42, 2) := dk_16 42 (dk_at dksX0_init_2 15 rfl rfl)
theorem dX0_init_62 : decode cX0_init 62 = .ok (.anewarray 71, 3) := dk_189 0 71 (dk_at dksX0_init_2 17 rfl rfl)
theorem dX0_init_65 : decode cX0_init 65 = .ok (.putfield 73, 3) := dk_181 0 73 (dk_at dksX0_init_2 20 rfl rfl)
theorem dX0_init_68 : decode cX0_init 68 = .ok (.aload_n 0, 1) := dk_42 (dk_at dksX0_init_2 23 rfl rfl)
theorem dX0_init_69 : decode cX0_init 69 = .ok (.bipush 10, 2) := dk_16 10 (dk_at dksX0_init_3 0 rfl rfl)
theorem dX0_init_71 : decode cX0_init 71 = .ok (.anewarray 71, 3) := dk_189 0 71 (dk_at dksX0_init_3 2 rfl rfl)
theorem dX0_init_74 : decode cX0_init 74 = .ok (.putfield 77, 3) := dk_181 0 77 (dk_at dksX0_init_3 5 rfl rfl)
theorem dX0_init_77 : decode cX0_init 77 = .ok (.aload_n 0, 1) := dk_42 (dk_at dksX0_init_3 8 rfl rfl)
theorem dX0_init_78 : decode cX0_init 78 = .ok (.iconst 4, 1) := dk_7 (dk_at dksX0_init_3 9 rfl rfl)
theorem dX0_init_79 : decode cX0_init 79 = .ok (.anewarray 71, 3) := dk_189 0 71 (dk_at dksX0_init_3 10 rfl rfl)
theorem dX0_init_82 : decode cX0_init 82 = .ok (.putfield 80, 3) := dk_181 0 80 (dk_at dksX0_init_3 13 rfl rfl)
theorem dX0_init_85 : decode cX0_init 85 = .ok (.aload_n 0, 1) := dk_42 (dk_at dksX0_init_3 16 rfl rfl)
theorem dX0_init_86 : decode cX0_init 86 = .ok (.bipush 7, 2) := dk_16 7 (dk_at dksX0_init_3 17 rfl rfl)
theorem dX0_init_88 : decode cX0_init 88 = .ok (.newarray .int, 2) := dk_188_10 (dk_at dksX0_init_3 19 rfl rfl)
theorem dX0_init_90 : decode cX0_init 90 = .ok (.putfield 83, 3) := dk_181 0 83 (dk_at dksX0_init_3 21 rfl rfl)
theorem dX0_init_93 : decode cX0_init 93 = .ok (.aload_n 0, 1) := dk_42 (dk_at dksX0_init_4 0 rfl rfl)
theorem dX0_init_94 : decode cX0_init 94 = .ok (.bipush 7, 2) := dk_16 7 (dk_at dksX0_init_4 1 rfl rfl)
theorem dX0_init_96 : decode cX0_init 96 = .ok (.bipush 7, 2) := dk_16 7 (dk_at dksX0_init_4 3 rfl rfl)
theorem dX0_init_98 : decode cX0_init 98 = .ok (.multianewarray 87 2, 4) := by decide +kernel
theorem dX0_init_102 : decode cX0_init 102 = .ok (.putfield 89, 3) := dk_181 0 89 (dk_at dksX0_init_4 9 rfl rfl)
theorem dX0_init_105 : decode cX0_init 105 = .ok (.aload_n 0, 1) := dk_42 (dk_at dksX0_init_4 12 rfl rfl)
theorem dX0_init_106 : decode cX0_init 106 = .ok (.bipush 7, 2) := dk_16 7 (dk_at dksX0_init_4 13 rfl rfl)
theorem dX0_init_108 : decode cX0_init 108 = .ok (.bipush 7, 2) := dk_16 7 (dk_at dksX0_init_4 15 rfl rfl)
theorem dX0_init_110 : decode cX0_init 110 = .ok (.multianewarray 87 2, 4) := by decide +kernel
theorem dX0_init_114 : decode cX0_init 114 = .ok (.putfield 92, 3) := dk_181 0 92 (dk_at dksX0_init_4 21 rfl rfl)
theorem dX0_init_117 : decode cX0_init 117 = .ok (.aload_n 0, 1) := dk_42 (dk_at dksX0_init_5 0 rfl rfl)
theorem dX0_init_118 : decode cX0_init 118 = .ok (.iconst 5, 1) := dk_8 (dk_at dksX0_init_5 1 rfl rfl)
theorem dX0_init_119 : decode cX0_init 119 = .ok (.newarray .int, 2) := dk_188_10 (dk_at dksX0_init_5 2 rfl rfl)
theorem dX0_init_121 : decode cX0_init 121 = .ok (.putfield 95, 3) := dk_181 0 95 (dk_at dksX0_init_5 4 rfl rfl)
theorem dX0_init_124 : decode cX0_init 124 = .ok (.aload_n 0, 1) := dk_42 (dk_at dksX0_init_5 7 rfl rfl)
theorem dX0_init_125 : decode cX0_init 125 = .ok (.bipush 6, 2) := dk_16 6 (dk_at dksX0_init_5 8 rfl rfl)
theorem dX0_init_127 : decode cX0_init 127 = .ok (.newarray .int, 2) := dk_188_10 (dk_at dksX0_init_5 10 rfl rfl)
theorem dX0_init_129 : decode cX0_init 129 = .ok (.dup, 1) := dk_89 (dk_at dksX0_init_5 12 rfl rfl)
theorem dX0_init_130 : decode cX0_init 130 = .ok (.iconst 0, 1) := dk_3 (dk_at dksX0_init_5 13 rfl rfl)
theorem dX0_init_131 : decode cX0_init 131 = .ok (.iconst 1, 1) := dk_4 (dk_at dksX0_init_5 14 rfl rfl)
theorem dX0_init_132 : decode cX0_init 132 = .ok (.iastore, 1) := dk_79 (dk_at dksX0_init_5 15 rfl rfl)
theorem dX0_init_133 : decode cX0_init 133 = .ok (.dup, 1) := dk_89 (dk_at dksX0_init_5 16 rfl rfl)
theorem dX0_init_134 : decode cX0_init 134 = .ok (.iconst 1, 1) := dk_4 (dk_at dksX0_init_5 17 rfl rfl)
theorem dX0_init_135 : decode cX0_init 135 = .ok (.iconst 3, 1) := dk_6 (dk_at dksX0_init_5 18 rfl rfl)
theorem dX0_init_136 : decode cX0_init 136 = .ok (.iastore, 1) := dk_79 (dk_at dksX0_init_5 19 rfl rfl)
theorem dX0_init_137 : decode cX0_init 137 = .ok (.dup, 1) := dk_89 (dk_at dksX0_init_5 20 rfl rfl)
theorem dX0_init_138 : decode cX0_init 138 = .ok (.iconst 2, 1) := dk_5 (dk_at dksX0_init_5 21 rfl rfl)
theorem dX0_init_139 : decode cX0_init 139 = .ok (.bipush 9, 2) := dk_16 9 (dk_at dksX0_init_5 22 rfl rfl)
theorem dX0_init_141 : decode cX0_init 141 = .ok (.iastore, 1) := dk_79 (dk_at dksX0_init_6 0 rfl rfl)
theorem dX0_init_142 : decode cX0_init 142 = .ok (.dup, 1) := dk_89 (dk_at dksX0_init_6 1 rfl rfl)
theorem dX0_init_143 : decode cX0_init 143 = .ok (.iconst 3, 1) := dk_6 (dk_at dksX0_init_6 2 rfl rfl)
theorem dX0_init_144 : decode cX0_init 144 = .ok (.bipush 27, 2) := dk_16 27 (dk_at dksX0_init_6 3 rfl rfl)
theorem dX0_init_146 : decode cX0_init 146 = .ok (.iastore, 1) := dk_79 (dk_at dksX0_init_6 5 rfl rfl)
theorem dX0_init_147 : decode cX0_init 147 = .ok (.dup, 1) := dk_89 (dk_at dksX0_init_6 6 rfl rfl)
theorem dX0_init_148 : decode cX0_init 148 = .ok (.iconst 4, 1) := dk_7 (dk_at dksX0_init_6 7 rfl rfl)
theorem dX0_init_149 : decode cX0_init 149 = .ok (.bipush 81, 2) := dk_16 81 (dk_at dksX0_init_6 8 rfl rfl)
theorem dX0_init_151 : decode cX0_init 151 = .ok (.iastore, 1) := dk_79 (dk_at dksX0_init_6 10 rfl rfl)
theorem dX0_init_152 : decode cX0_init 152 = .ok (.dup, 1) := dk_89 (dk_at dksX0_init_6 11 rfl rfl)
theorem dX0_init_153 : decode cX0_init 153 = .ok (.iconst 5, 1) := dk_8 (dk_at dksX0_init_6 12 rfl rfl)
theorem dX0_init_154 : decode cX0_init 154 = .ok (.sipush 243, 3) := dk_17 0 243 (dk_at dksX0_init_6 13 rfl rfl)
theorem dX0_init_157 : decode cX0_init 157 = .ok (.iastore, 1) := dk_79 (dk_at dksX0_init_6 16 rfl rfl)
theorem dX0_init_158 : decode cX0_init 158 = .ok (.putfield 98, 3) := dk_181 0 98 (dk_at dksX0_init_6 17 rfl rfl)
theorem dX0_init_161 : decode cX0_init 161 = .ok (.aload_n 0, 1) := dk_42 (dk_at dksX0_init_6 20 rfl rfl)
theorem dX0_init_162 : decode cX0_init 162 = .ok (.sipush 243, 3) := dk_17 0 243 (dk_at dksX0_init_6 21 rfl rfl)
theorem dX0_init_165 : decode cX0_init 165 = .ok (.bipush 7, 2) := dk_16 7 (dk_at dksX0_init_7 0 rfl rfl)
theorem dX0_init_167 : decode cX0_init 167 = .ok (.multianewarray 87 2, 4) := by decide +kernel
theorem dX0_init_171 : decode cX0_init 171 = .ok (.putfield 101, 3) := dk_181 0 101 (dk_at dksX0_init_7 6 rfl rfl)
theorem dX0_init_174 : decode cX0_init 174 = .ok (.iconst 0, 1) := dk_3 (dk_at dksX0_init_7 9 rfl rfl)
theorem dX0_init_175 : decode cX0_init 175 = .ok (.istore_n 1, 1) := dk_60 (dk_at dksX0_init_7 10 rfl rfl)
theorem dX0_init_176 : decode cX0_init 176 = .ok (.iload_n 1, 1) := dk_27 (dk_at dksX0_init_7 11 rfl rfl)
theorem dX0_init_177 : decode cX0_init 177 = .ok (.bipush 42, 2) := dk_16 42 (dk_at dksX0_init_7 12 rfl rfl)
theorem dX0_init_179 : decode cX0_init 179 = .ok (.if_icmp .ge 43, 3) := dk_162 0 43 (dk_at dksX0_init_7 14 rfl rfl)
theorem dX0_init_182 : decode cX0_init 182 = .ok (.aload_n 0, 1) := dk_42 (dk_at dksX0_init_7 17 rfl rfl)
theorem dX0_init_183 : decode cX0_init 183 = .ok (.getfield 73, 3) := dk_180 0 73 (dk_at dksX0_init_7 18 rfl rfl)
theorem dX0_init_186 : decode cX0_init 186 = .ok (.iload_n 1, 1) := dk_27 (dk_at dksX0_init_7 21 rfl rfl)
theorem dX0_init_187 : decode cX0_init 187 = .ok (.new 71, 3) := dk_187 0 71 (dk_at dksX0_init_8 0 rfl rfl)
theorem dX0_init_190 : decode cX0_init 190 = .ok (.dup, 1) := dk_89 (dk_at dksX0_init_8 3 rfl rfl)
theorem dX0_init_191 : decode cX0_init 191 = .ok (.invokespecial 104, 3) := dk_183 0 104 (dk_at dksX0_init_8 4 rfl rfl)
theorem dX0_init_194 : decode cX0_init 194 = .ok (.aastore, 1) := dk_83 (dk_at dksX0_init_8 7 rfl rfl)
theorem dX0_init_195 : decode cX0_init 195 = .ok (.aload_n 0, 1) := dk_42 (dk_at dksX0_init_8 8 rfl rfl)
theorem dX0_init_196 : decode cX0_init 196 = .ok (.getfield 73, 3) := dk_180 0 73 (dk_at dksX0_init_8 9 rfl rfl)
theorem dX0_init_199 : decode cX0_init 199 = .ok (.iload_n 1, 1) := dk_27 (dk_at dksX0_init_8 12 rfl rfl)
theorem dX0_init_200 : decode cX0_init 200 = .ok (.aaload, 1) := dk_50 (dk_at dksX0_init_8 13 rfl rfl)
theorem dX0_init_201 : decode cX0_init 201 = .ok (.aload_n 0, 1) := dk_42 (dk_at dksX0_init_8 14 rfl rfl)
theorem dX0_init_202 : decode cX0_init 202 = .ok (.iload_n 1, 1) := dk_27 (dk_at dksX0_init_8 15 rfl rfl)
theorem dX0_init_203 : decode cX0_init 203 = .ok (.bipush 6, 2) := dk_16 6 (dk_at dksX0_init_8 16 rfl rfl)
theorem dX0_init_205 : decode cX0_init 205 = .ok (.idiv, 1) := dk_108 (dk_at dksX0_init_8 18 rfl rfl)
theorem dX0_init_206 : decode cX0_init 206 = .ok (.iload_n 1, 1) := dk_27 (dk_at dksX0_init_8 19 rfl rfl)
theorem dX0_init_207 : decode cX0_init 207 = .ok (.bipush 6, 2) := dk_16 6 (dk_at dksX0_init_8 20 rfl rfl)
theorem dX0_init_209 : decode cX0_init 209 = .ok (.irem, 1) := dk_112 (dk_at dksX0_init_8 22 rfl rfl)
theorem dX0_init_210 : decode cX0_init 210 = .ok (.invokevirtual 105, 3) := dk_182 0 105 (dk_at dksX0_init_9 0 rfl rfl)
theorem dX0_init_213 : decode cX0_init 213 = .ok (.putfield 109, 3) := dk_181 0 109 (dk_at dksX0_init_9 3 rfl rfl)
theorem dX0_init_216 : decode cX0_init 216 = .ok (.iinc 1 1, 3) := dk_132 1 1 (dk_at dksX0_init_9 6 rfl rfl)
theorem dX0_init_219 : decode cX0_init 219 = .ok (.goto (-43), 3) := dk_167 255 213 (dk_at dksX0_init_9 9 rfl rfl)
theorem dX0_init_222 : decode cX0_init 222 = .ok (.iconst 0, 1) := dk_3 (dk_at dksX0_init_9 12 rfl rfl)
theorem dX0_init_223 : decode cX0_init 223 = .ok (.istore_n 1, 1) := dk_60 (dk_at dksX0_init_9 13 rfl rfl)
theorem dX0_init_224 : decode cX0_init 224 = .ok (.iload_n 1, 1) := dk_27 (dk_at dksX0_init_9 14 rfl rfl)
theorem dX0_init_225 : decode cX0_init 225 = .ok (.bipush 10, 2) := dk_16 10 (dk_at dksX0_init_9 15 rfl rfl)
theorem dX0_init_227 : decode cX0_init 227 = .ok (.if_icmp .ge 22, 3) := dk_162 0 22 (dk_at dksX0_init_9 17 rfl rfl)
theorem dX0_init_230 : decode cX0_init 230 = .ok (.aload_n 0, 1) := dk_42 (dk_at dksX0_init_9 20 rfl rfl)
theorem dX0_init_231 : decode cX0_init 231 = .ok (.getfield 77, 3) := dk_180 0 77 (dk_at dksX0_init_9 21 rfl rfl)
theorem dX0_init_234 : decode cX0_init 234 = .ok (.iload_n 1, 1) := dk_27 (dk_at dksX0_init_10 0 rfl rfl)
theorem dX0_init_235 : decode cX0_init 235 = .ok (.new 71, 3) := dk_187 0 71 (dk_at dksX0_init_10 1 rfl rfl)
theorem dX0_init_238 : decode cX0_init 238 = .ok (.dup, 1) := dk_89 (dk_at dksX0_init_10 4 rfl rfl)
theorem dX0_init_239 : decode cX0_init 239 = .ok (.invokespecial 104, 3) := dk_183 0 104 (dk_at dksX0_init_10 5 rfl rfl)
theorem dX0_init_242 : decode cX0_init 242 = .ok (.aastore, 1) := dk_83 (dk_at dksX0_init_10 8 rfl rfl)
theorem dX0_init_243 : decode cX0_init 243 = .ok (.iinc 1 1, 3) := dk_132 1 1 (dk_at dksX0_init_10 9 rfl rfl)
theorem dX0_init_246 : decode cX0_init 246 = .ok (.goto (-22), 3) := dk_167 255 234 (dk_at dksX0_init_10 12 rfl rfl)
theorem dX0_init_249 : decode cX0_init 249 = .ok (.iconst 0, 1) := dk_3 (dk_at dksX0_init_10 15 rfl rfl)
theorem dX0_init_250 : decode cX0_init 250 = .ok (.istore_n 1, 1) := dk_60 (dk_at dksX0_init_10 16 rfl rfl)
theorem dX0_init_251 : decode cX0_init 251 = .ok (.iload_n 1, 1) := dk_27 (dk_at dksX0_init_10 17 rfl rfl)
theorem dX0_init_252 : decode cX0_init 252 = .ok (.iconst 4, 1) := dk_7 (dk_at dksX0_init_10 18 rfl rfl)
theorem dX0_init_253 : decode cX0_init 253 = .ok (.if_icmp .ge 22, 3) := dk_162 0 22 (dk_at dksX0_init_10 19 rfl rfl)
theorem dX0_init_256 : decode cX0_init 256 = .ok (.aload_n 0, 1) := dk_42 (dk_at dksX0_init_10 22 rfl rfl)
theorem dX0_init_257 : decode cX0_init 257 = .ok (.getfield 80, 3) := dk_180 0 80 (dk_at dksX0_init_11 0 rfl rfl)
theorem dX0_init_260 : decode cX0_init 260 = .ok (.iload_n 1, 1) := dk_27 (dk_at dksX0_init_11 3 rfl rfl)
theorem dX0_init_261 : decode cX0_init 261 = .ok (.new 71, 3) := dk_187 0 71 (dk_at dksX0_init_11 4 rfl rfl)
theorem dX0_init_264 : decode cX0_init 264 = .ok (.dup, 1) := dk_89 (dk_at dksX0_init_11 7 rfl rfl)
theorem dX0_init_265 : decode cX0_init 265 = .ok (.invokespecial 104, 3) := dk_183 0 104 (dk_at dksX0_init_11 8 rfl rfl)
theorem dX0_init_268 : decode cX0_init 268 = .ok (.aastore, 1) := dk_83 (dk_at dksX0_init_11 11 rfl rfl)
theorem dX0_init_269 : decode cX0_init 269 = .ok (.iinc 1 1, 3) := dk_132 1 1 (dk_at dksX0_init_11 12 rfl rfl)
theorem dX0_init_272 : decode cX0_init 272 = .ok (.goto (-21), 3) := dk_167 255 235 (dk_at dksX0_init_11 15 rfl rfl)
theorem dX0_init_275 : decode cX0_init 275 = .ok (.return_, 1) := dk_177 (dk_at dksX0_init_11 18 rfl rfl)
abbrev cX0_made : ByteArray := prog_1_method_10_code
def yX0_made : MethodName := ⟨RX0, "made", "(II)LCarryFair$Carrier;"⟩
def dkwX0_made_4 : List UInt8 := [183, 0, 32, 176, 187, 0, 33, 89, 42, 28, 183, 0, 35, 176, 187, 0, 36, 89, 42, 28, 183, 0, 38, 176]
abbrev dktX0_made_4 : List UInt8 := dkwX0_made_4 ++ []
def dkwX0_made_3 : List UInt8 := [42, 28, 183, 0, 26, 176, 187, 0, 27, 89, 42, 28, 183, 0, 29, 176, 187, 0, 30, 89, 42, 28]
abbrev dktX0_made_3 : List UInt8 := dkwX0_made_3 ++ dktX0_made_4
def dkwX0_made_2 : List UInt8 := [187, 0, 15, 89, 42, 28, 183, 0, 17, 176, 187, 0, 21, 89, 42, 28, 183, 0, 23, 176, 187, 0, 24, 89]
abbrev dktX0_made_2 : List UInt8 := dkwX0_made_2 ++ dktX0_made_3
def dkwX0_made_1 : List UInt8 := [170, 0, 0, 0, 0, 0, 99, 0, 0, 0, 1, 0, 0, 0, 6, 0, 0, 0, 39, 0, 0, 0, 49, 0, 0, 0, 59, 0, 0, 0, 69, 0, 0, 0, 79, 0, 0, 0, 89]
abbrev dktX0_made_1 : List UInt8 := dkwX0_made_1 ++ dktX0_made_2
def dkwX0_made_0 : List UInt8 := [27]
abbrev dktX0_made_0 : List UInt8 := dkwX0_made_0 ++ dktX0_made_1
theorem dksX0_made_0 : cX0_made.data.toList.drop 0 = dktX0_made_0 := by decide +kernel
theorem dksX0_made_1 : cX0_made.data.toList.drop 1 = dktX0_made_1 := dk_seg dksX0_made_0 1 rfl rfl
theorem dksX0_made_2 : cX0_made.data.toList.drop 40 = dktX0_made_2 := dk_seg dksX0_made_1 39 rfl rfl
theorem dksX0_made_3 : cX0_made.data.toList.drop 64 = dktX0_made_3 := dk_seg dksX0_made_2 24 rfl rfl
theorem dksX0_made_4 : cX0_made.data.toList.drop 86 = dktX0_made_4 := dk_seg dksX0_made_3 22 rfl rfl
theorem dX0_made_0 : decode cX0_made 0 = .ok (.iload_n 1, 1) := dk_27 (dk_at dksX0_made_0 0 rfl rfl)
theorem dX0_made_1 : decode cX0_made 1 = .ok (.tableswitch 99 1 6 #[39, 49, 59, 69, 79, 89], 39) := by decide +kernel
theorem dX0_made_40 : decode cX0_made 40 = .ok (.new 15, 3) := dk_187 0 15 (dk_at dksX0_made_2 0 rfl rfl)
theorem dX0_made_43 : decode cX0_made 43 = .ok (.dup, 1) := dk_89 (dk_at dksX0_made_2 3 rfl rfl)
theorem dX0_made_44 : decode cX0_made 44 = .ok (.aload_n 0, 1) := dk_42 (dk_at dksX0_made_2 4 rfl rfl)
theorem dX0_made_45 : decode cX0_made 45 = .ok (.iload_n 2, 1) := dk_28 (dk_at dksX0_made_2 5 rfl rfl)
theorem dX0_made_46 : decode cX0_made 46 = .ok (.invokespecial 17, 3) := dk_183 0 17 (dk_at dksX0_made_2 6 rfl rfl)
theorem dX0_made_49 : decode cX0_made 49 = .ok (.areturn, 1) := dk_176 (dk_at dksX0_made_2 9 rfl rfl)
theorem dX0_made_50 : decode cX0_made 50 = .ok (.new 21, 3) := dk_187 0 21 (dk_at dksX0_made_2 10 rfl rfl)
theorem dX0_made_53 : decode cX0_made 53 = .ok (.dup, 1) := dk_89 (dk_at dksX0_made_2 13 rfl rfl)
theorem dX0_made_54 : decode cX0_made 54 = .ok (.aload_n 0, 1) := dk_42 (dk_at dksX0_made_2 14 rfl rfl)
theorem dX0_made_55 : decode cX0_made 55 = .ok (.iload_n 2, 1) := dk_28 (dk_at dksX0_made_2 15 rfl rfl)
theorem dX0_made_56 : decode cX0_made 56 = .ok (.invokespecial 23, 3) := dk_183 0 23 (dk_at dksX0_made_2 16 rfl rfl)
theorem dX0_made_59 : decode cX0_made 59 = .ok (.areturn, 1) := dk_176 (dk_at dksX0_made_2 19 rfl rfl)
theorem dX0_made_60 : decode cX0_made 60 = .ok (.new 24, 3) := dk_187 0 24 (dk_at dksX0_made_2 20 rfl rfl)
theorem dX0_made_63 : decode cX0_made 63 = .ok (.dup, 1) := dk_89 (dk_at dksX0_made_2 23 rfl rfl)
theorem dX0_made_64 : decode cX0_made 64 = .ok (.aload_n 0, 1) := dk_42 (dk_at dksX0_made_3 0 rfl rfl)
theorem dX0_made_65 : decode cX0_made 65 = .ok (.iload_n 2, 1) := dk_28 (dk_at dksX0_made_3 1 rfl rfl)
theorem dX0_made_66 : decode cX0_made 66 = .ok (.invokespecial 26, 3) := dk_183 0 26 (dk_at dksX0_made_3 2 rfl rfl)
theorem dX0_made_69 : decode cX0_made 69 = .ok (.areturn, 1) := dk_176 (dk_at dksX0_made_3 5 rfl rfl)
theorem dX0_made_70 : decode cX0_made 70 = .ok (.new 27, 3) := dk_187 0 27 (dk_at dksX0_made_3 6 rfl rfl)
theorem dX0_made_73 : decode cX0_made 73 = .ok (.dup, 1) := dk_89 (dk_at dksX0_made_3 9 rfl rfl)
theorem dX0_made_74 : decode cX0_made 74 = .ok (.aload_n 0, 1) := dk_42 (dk_at dksX0_made_3 10 rfl rfl)
theorem dX0_made_75 : decode cX0_made 75 = .ok (.iload_n 2, 1) := dk_28 (dk_at dksX0_made_3 11 rfl rfl)
theorem dX0_made_76 : decode cX0_made 76 = .ok (.invokespecial 29, 3) := dk_183 0 29 (dk_at dksX0_made_3 12 rfl rfl)
theorem dX0_made_79 : decode cX0_made 79 = .ok (.areturn, 1) := dk_176 (dk_at dksX0_made_3 15 rfl rfl)
theorem dX0_made_80 : decode cX0_made 80 = .ok (.new 30, 3) := dk_187 0 30 (dk_at dksX0_made_3 16 rfl rfl)
theorem dX0_made_83 : decode cX0_made 83 = .ok (.dup, 1) := dk_89 (dk_at dksX0_made_3 19 rfl rfl)
theorem dX0_made_84 : decode cX0_made 84 = .ok (.aload_n 0, 1) := dk_42 (dk_at dksX0_made_3 20 rfl rfl)
theorem dX0_made_85 : decode cX0_made 85 = .ok (.iload_n 2, 1) := dk_28 (dk_at dksX0_made_3 21 rfl rfl)
theorem dX0_made_86 : decode cX0_made 86 = .ok (.invokespecial 32, 3) := dk_183 0 32 (dk_at dksX0_made_4 0 rfl rfl)
theorem dX0_made_89 : decode cX0_made 89 = .ok (.areturn, 1) := dk_176 (dk_at dksX0_made_4 3 rfl rfl)
theorem dX0_made_90 : decode cX0_made 90 = .ok (.new 33, 3) := dk_187 0 33 (dk_at dksX0_made_4 4 rfl rfl)
theorem dX0_made_93 : decode cX0_made 93 = .ok (.dup, 1) := dk_89 (dk_at dksX0_made_4 7 rfl rfl)
theorem dX0_made_94 : decode cX0_made 94 = .ok (.aload_n 0, 1) := dk_42 (dk_at dksX0_made_4 8 rfl rfl)
theorem dX0_made_95 : decode cX0_made 95 = .ok (.iload_n 2, 1) := dk_28 (dk_at dksX0_made_4 9 rfl rfl)
theorem dX0_made_96 : decode cX0_made 96 = .ok (.invokespecial 35, 3) := dk_183 0 35 (dk_at dksX0_made_4 10 rfl rfl)
theorem dX0_made_99 : decode cX0_made 99 = .ok (.areturn, 1) := dk_176 (dk_at dksX0_made_4 13 rfl rfl)
theorem dX0_made_100 : decode cX0_made 100 = .ok (.new 36, 3) := dk_187 0 36 (dk_at dksX0_made_4 14 rfl rfl)
theorem dX0_made_103 : decode cX0_made 103 = .ok (.dup, 1) := dk_89 (dk_at dksX0_made_4 17 rfl rfl)
theorem dX0_made_104 : decode cX0_made 104 = .ok (.aload_n 0, 1) := dk_42 (dk_at dksX0_made_4 18 rfl rfl)
theorem dX0_made_105 : decode cX0_made 105 = .ok (.iload_n 2, 1) := dk_28 (dk_at dksX0_made_4 19 rfl rfl)
theorem dX0_made_106 : decode cX0_made 106 = .ok (.invokespecial 38, 3) := dk_183 0 38 (dk_at dksX0_made_4 20 rfl rfl)
theorem dX0_made_109 : decode cX0_made 109 = .ok (.areturn, 1) := dk_176 (dk_at dksX0_made_4 23 rfl rfl)
abbrev cX0_carrier : ByteArray := prog_1_method_22_code
def yX0_carrier : MethodName := ⟨RX0, "carrier", "(I)I"⟩
def dkwX0_carrier_2 : List UInt8 := [180, 0, 125, 4, 100, 172]
abbrev dktX0_carrier_2 : List UInt8 := dkwX0_carrier_2 ++ []
def dkwX0_carrier_1 : List UInt8 := [160, 0, 9, 42, 4, 182, 0, 142, 172, 42, 180, 0, 61, 27, 3, 16, 20, 182, 0, 144, 42, 180, 0, 61]
abbrev dktX0_carrier_1 : List UInt8 := dkwX0_carrier_1 ++ dktX0_carrier_2
def dkwX0_carrier_0 : List UInt8 := [27, 184, 0, 11, 154, 0, 9, 42, 3, 182, 0, 142, 172, 42, 180, 0, 61, 180, 0, 125, 16, 6]
abbrev dktX0_carrier_0 : List UInt8 := dkwX0_carrier_0 ++ dktX0_carrier_1
theorem dksX0_carrier_0 : cX0_carrier.data.toList.drop 0 = dktX0_carrier_0 := by decide +kernel
theorem dksX0_carrier_1 : cX0_carrier.data.toList.drop 22 = dktX0_carrier_1 := dk_seg dksX0_carrier_0 22 rfl rfl
theorem dksX0_carrier_2 : cX0_carrier.data.toList.drop 46 = dktX0_carrier_2 := dk_seg dksX0_carrier_1 24 rfl rfl
theorem dX0_carrier_0 : decode cX0_carrier 0 = .ok (.iload_n 1, 1) := dk_27 (dk_at dksX0_carrier_0 0 rfl rfl)
theorem dX0_carrier_1 : decode cX0_carrier 1 = .ok (.invokestatic 11, 3) := dk_184 0 11 (dk_at dksX0_carrier_0 1 rfl rfl)
theorem dX0_carrier_4 : decode cX0_carrier 4 = .ok (.ifCond .ne 9, 3) := dk_154 0 9 (dk_at dksX0_carrier_0 4 rfl rfl)
theorem dX0_carrier_7 : decode cX0_carrier 7 = .ok (.aload_n 0, 1) := dk_42 (dk_at dksX0_carrier_0 7 rfl rfl)
theorem dX0_carrier_8 : decode cX0_carrier 8 = .ok (.iconst 0, 1) := dk_3 (dk_at dksX0_carrier_0 8 rfl rfl)
theorem dX0_carrier_9 : decode cX0_carrier 9 = .ok (.invokevirtual 142, 3) := dk_182 0 142 (dk_at dksX0_carrier_0 9 rfl rfl)
theorem dX0_carrier_12 : decode cX0_carrier 12 = .ok (.ireturn, 1) := dk_172 (dk_at dksX0_carrier_0 12 rfl rfl)
theorem dX0_carrier_13 : decode cX0_carrier 13 = .ok (.aload_n 0, 1) := dk_42 (dk_at dksX0_carrier_0 13 rfl rfl)
theorem dX0_carrier_14 : decode cX0_carrier 14 = .ok (.getfield 61, 3) := dk_180 0 61 (dk_at dksX0_carrier_0 14 rfl rfl)
theorem dX0_carrier_17 : decode cX0_carrier 17 = .ok (.getfield 125, 3) := dk_180 0 125 (dk_at dksX0_carrier_0 17 rfl rfl)
theorem dX0_carrier_20 : decode cX0_carrier 20 = .ok (.bipush 6, 2) := dk_16 6 (dk_at dksX0_carrier_0 20 rfl rfl)
theorem dX0_carrier_22 : decode cX0_carrier 22 = .ok (.if_icmp .ne 9, 3) := dk_160 0 9 (dk_at dksX0_carrier_1 0 rfl rfl)
theorem dX0_carrier_25 : decode cX0_carrier 25 = .ok (.aload_n 0, 1) := dk_42 (dk_at dksX0_carrier_1 3 rfl rfl)
theorem dX0_carrier_26 : decode cX0_carrier 26 = .ok (.iconst 1, 1) := dk_4 (dk_at dksX0_carrier_1 4 rfl rfl)
theorem dX0_carrier_27 : decode cX0_carrier 27 = .ok (.invokevirtual 142, 3) := dk_182 0 142 (dk_at dksX0_carrier_1 5 rfl rfl)
theorem dX0_carrier_30 : decode cX0_carrier 30 = .ok (.ireturn, 1) := dk_172 (dk_at dksX0_carrier_1 8 rfl rfl)
theorem dX0_carrier_31 : decode cX0_carrier 31 = .ok (.aload_n 0, 1) := dk_42 (dk_at dksX0_carrier_1 9 rfl rfl)
theorem dX0_carrier_32 : decode cX0_carrier 32 = .ok (.getfield 61, 3) := dk_180 0 61 (dk_at dksX0_carrier_1 10 rfl rfl)
theorem dX0_carrier_35 : decode cX0_carrier 35 = .ok (.iload_n 1, 1) := dk_27 (dk_at dksX0_carrier_1 13 rfl rfl)
theorem dX0_carrier_36 : decode cX0_carrier 36 = .ok (.iconst 0, 1) := dk_3 (dk_at dksX0_carrier_1 14 rfl rfl)
theorem dX0_carrier_37 : decode cX0_carrier 37 = .ok (.bipush 20, 2) := dk_16 20 (dk_at dksX0_carrier_1 15 rfl rfl)
theorem dX0_carrier_39 : decode cX0_carrier 39 = .ok (.invokevirtual 144, 3) := dk_182 0 144 (dk_at dksX0_carrier_1 17 rfl rfl)
theorem dX0_carrier_42 : decode cX0_carrier 42 = .ok (.aload_n 0, 1) := dk_42 (dk_at dksX0_carrier_1 20 rfl rfl)
theorem dX0_carrier_43 : decode cX0_carrier 43 = .ok (.getfield 61, 3) := dk_180 0 61 (dk_at dksX0_carrier_1 21 rfl rfl)
theorem dX0_carrier_46 : decode cX0_carrier 46 = .ok (.getfield 125, 3) := dk_180 0 125 (dk_at dksX0_carrier_2 0 rfl rfl)
theorem dX0_carrier_49 : decode cX0_carrier 49 = .ok (.iconst 1, 1) := dk_4 (dk_at dksX0_carrier_2 3 rfl rfl)
theorem dX0_carrier_50 : decode cX0_carrier 50 = .ok (.isub, 1) := dk_100 (dk_at dksX0_carrier_2 4 rfl rfl)
theorem dX0_carrier_51 : decode cX0_carrier 51 = .ok (.ireturn, 1) := dk_172 (dk_at dksX0_carrier_2 5 rfl rfl)
abbrev cX0_isKind : ByteArray := prog_1_method_5_code
def yX0_isKind : MethodName := ⟨RX0, "isKind", "(I)Z"⟩
def dkwX0_isKind_0 : List UInt8 := [26, 3, 16, 6, 184, 0, 3, 172]
abbrev dktX0_isKind_0 : List UInt8 := dkwX0_isKind_0 ++ []
theorem dksX0_isKind_0 : cX0_isKind.data.toList.drop 0 = dktX0_isKind_0 := by decide +kernel
theorem dX0_isKind_0 : decode cX0_isKind 0 = .ok (.iload_n 0, 1) := dk_26 (dk_at dksX0_isKind_0 0 rfl rfl)
theorem dX0_isKind_1 : decode cX0_isKind 1 = .ok (.iconst 0, 1) := dk_3 (dk_at dksX0_isKind_0 1 rfl rfl)
theorem dX0_isKind_2 : decode cX0_isKind 2 = .ok (.bipush 6, 2) := dk_16 6 (dk_at dksX0_isKind_0 2 rfl rfl)
theorem dX0_isKind_4 : decode cX0_isKind 4 = .ok (.invokestatic 3, 3) := dk_184 0 3 (dk_at dksX0_isKind_0 4 rfl rfl)
theorem dX0_isKind_7 : decode cX0_isKind 7 = .ok (.ireturn, 1) := dk_172 (dk_at dksX0_isKind_0 7 rfl rfl)
abbrev cX0_in : ByteArray := prog_1_method_1_code
def yX0_in : MethodName := ⟨RX0, "in", "(III)Z"⟩
def dkwX0_in_0 : List UInt8 := [26, 27, 161, 0, 12, 26, 28, 163, 0, 7, 4, 167, 0, 4, 3, 172]
abbrev dktX0_in_0 : List UInt8 := dkwX0_in_0 ++ []
theorem dksX0_in_0 : cX0_in.data.toList.drop 0 = dktX0_in_0 := by decide +kernel
theorem dX0_in_0 : decode cX0_in 0 = .ok (.iload_n 0, 1) := dk_26 (dk_at dksX0_in_0 0 rfl rfl)
theorem dX0_in_1 : decode cX0_in 1 = .ok (.iload_n 1, 1) := dk_27 (dk_at dksX0_in_0 1 rfl rfl)
theorem dX0_in_2 : decode cX0_in 2 = .ok (.if_icmp .lt 12, 3) := dk_161 0 12 (dk_at dksX0_in_0 2 rfl rfl)
theorem dX0_in_5 : decode cX0_in 5 = .ok (.iload_n 0, 1) := dk_26 (dk_at dksX0_in_0 5 rfl rfl)
theorem dX0_in_6 : decode cX0_in 6 = .ok (.iload_n 2, 1) := dk_28 (dk_at dksX0_in_0 6 rfl rfl)
theorem dX0_in_7 : decode cX0_in 7 = .ok (.if_icmp .gt 7, 3) := dk_163 0 7 (dk_at dksX0_in_0 7 rfl rfl)
theorem dX0_in_10 : decode cX0_in 10 = .ok (.iconst 1, 1) := dk_4 (dk_at dksX0_in_0 10 rfl rfl)
theorem dX0_in_11 : decode cX0_in 11 = .ok (.goto 4, 3) := dk_167 0 4 (dk_at dksX0_in_0 11 rfl rfl)
theorem dX0_in_14 : decode cX0_in 14 = .ok (.iconst 0, 1) := dk_3 (dk_at dksX0_in_0 14 rfl rfl)
theorem dX0_in_15 : decode cX0_in 15 = .ok (.ireturn, 1) := dk_172 (dk_at dksX0_in_0 15 rfl rfl)
abbrev cX0_finding : ByteArray := prog_1_method_13_code
def yX0_finding : MethodName := ⟨RX0, "finding", "(I)I"⟩
def dkwX0_finding_0 : List UInt8 := [42, 180, 0, 83, 27, 92, 46, 4, 96, 79, 18, 116, 27, 100, 172]
abbrev dktX0_finding_0 : List UInt8 := dkwX0_finding_0 ++ []
theorem dksX0_finding_0 : cX0_finding.data.toList.drop 0 = dktX0_finding_0 := by decide +kernel
theorem dX0_finding_0 : decode cX0_finding 0 = .ok (.aload_n 0, 1) := dk_42 (dk_at dksX0_finding_0 0 rfl rfl)
theorem dX0_finding_1 : decode cX0_finding 1 = .ok (.getfield 83, 3) := dk_180 0 83 (dk_at dksX0_finding_0 1 rfl rfl)
theorem dX0_finding_4 : decode cX0_finding 4 = .ok (.iload_n 1, 1) := dk_27 (dk_at dksX0_finding_0 4 rfl rfl)
theorem dX0_finding_5 : decode cX0_finding 5 = .ok (.dup2, 1) := dk_92 (dk_at dksX0_finding_0 5 rfl rfl)
theorem dX0_finding_6 : decode cX0_finding 6 = .ok (.iaload, 1) := dk_46 (dk_at dksX0_finding_0 6 rfl rfl)
theorem dX0_finding_7 : decode cX0_finding 7 = .ok (.iconst 1, 1) := dk_4 (dk_at dksX0_finding_0 7 rfl rfl)
theorem dX0_finding_8 : decode cX0_finding 8 = .ok (.iadd, 1) := dk_96 (dk_at dksX0_finding_0 8 rfl rfl)
theorem dX0_finding_9 : decode cX0_finding 9 = .ok (.iastore, 1) := dk_79 (dk_at dksX0_finding_0 9 rfl rfl)
theorem dX0_finding_10 : decode cX0_finding 10 = .ok (.ldc 116, 2) := dk_18 116 (dk_at dksX0_finding_0 10 rfl rfl)
theorem dX0_finding_12 : decode cX0_finding 12 = .ok (.iload_n 1, 1) := dk_27 (dk_at dksX0_finding_0 12 rfl rfl)
theorem dX0_finding_13 : decode cX0_finding 13 = .ok (.isub, 1) := dk_100 (dk_at dksX0_finding_0 13 rfl rfl)
theorem dX0_finding_14 : decode cX0_finding 14 = .ok (.ireturn, 1) := dk_172 (dk_at dksX0_finding_0 14 rfl rfl)
abbrev cX0_of : ByteArray := prog_1_method_25_code
def yX0_of : MethodName := ⟨RX0, "of", "(II)I"⟩
def dkwX0_of_5 : List UInt8 := [50, 27, 46, 172]
abbrev dktX0_of_5 : List UInt8 := dkwX0_of_5 ++ []
def dkwX0_of_4 : List UInt8 := [42, 180, 0, 61, 42, 180, 0, 61, 27, 182, 0, 170, 182, 0, 173, 172, 42, 180, 0, 61, 180, 0, 113, 28]
abbrev dktX0_of_4 : List UInt8 := dkwX0_of_4 ++ dktX0_of_5
def dkwX0_of_3 : List UInt8 := [42, 27, 182, 0, 148, 182, 0, 164, 172, 42, 27, 182, 0, 167, 172, 42, 180, 0, 61, 27, 182, 0, 170, 172]
abbrev dktX0_of_3 : List UInt8 := dkwX0_of_3 ++ dktX0_of_4
def dkwX0_of_2 : List UInt8 := [170, 0, 0, 0, 0, 0, 87, 0, 0, 0, 0, 0, 0, 0, 7, 0, 0, 0, 47, 0, 0, 0, 87, 0, 0, 0, 87, 0, 0, 0, 87, 0, 0, 0, 87, 0, 0, 0, 56, 0, 0, 0, 62, 0, 0, 0, 71]
abbrev dktX0_of_2 : List UInt8 := dkwX0_of_2 ++ dktX0_of_3
def dkwX0_of_1 : List UInt8 := [28]
abbrev dktX0_of_1 : List UInt8 := dkwX0_of_1 ++ dktX0_of_2
def dkwX0_of_0 : List UInt8 := [42, 27, 182, 0, 161, 153, 0, 13, 28, 3, 16, 7, 184, 0, 3, 154, 0, 9, 42, 3, 182, 0, 142, 172]
abbrev dktX0_of_0 : List UInt8 := dkwX0_of_0 ++ dktX0_of_1
theorem dksX0_of_0 : cX0_of.data.toList.drop 0 = dktX0_of_0 := by decide +kernel
theorem dksX0_of_1 : cX0_of.data.toList.drop 24 = dktX0_of_1 := dk_seg dksX0_of_0 24 rfl rfl
theorem dksX0_of_2 : cX0_of.data.toList.drop 25 = dktX0_of_2 := dk_seg dksX0_of_1 1 rfl rfl
theorem dksX0_of_3 : cX0_of.data.toList.drop 72 = dktX0_of_3 := dk_seg dksX0_of_2 47 rfl rfl
theorem dksX0_of_4 : cX0_of.data.toList.drop 96 = dktX0_of_4 := dk_seg dksX0_of_3 24 rfl rfl
theorem dksX0_of_5 : cX0_of.data.toList.drop 120 = dktX0_of_5 := dk_seg dksX0_of_4 24 rfl rfl
theorem dX0_of_0 : decode cX0_of 0 = .ok (.aload_n 0, 1) := dk_42 (dk_at dksX0_of_0 0 rfl rfl)
theorem dX0_of_1 : decode cX0_of 1 = .ok (.iload_n 1, 1) := dk_27 (dk_at dksX0_of_0 1 rfl rfl)
theorem dX0_of_2 : decode cX0_of 2 = .ok (.invokevirtual 161, 3) := dk_182 0 161 (dk_at dksX0_of_0 2 rfl rfl)
theorem dX0_of_5 : decode cX0_of 5 = .ok (.ifCond .eq 13, 3) := dk_153 0 13 (dk_at dksX0_of_0 5 rfl rfl)
theorem dX0_of_8 : decode cX0_of 8 = .ok (.iload_n 2, 1) := dk_28 (dk_at dksX0_of_0 8 rfl rfl)
theorem dX0_of_9 : decode cX0_of 9 = .ok (.iconst 0, 1) := dk_3 (dk_at dksX0_of_0 9 rfl rfl)
theorem dX0_of_10 : decode cX0_of 10 = .ok (.bipush 7, 2) := dk_16 7 (dk_at dksX0_of_0 10 rfl rfl)
theorem dX0_of_12 : decode cX0_of 12 = .ok (.invokestatic 3, 3) := dk_184 0 3 (dk_at dksX0_of_0 12 rfl rfl)
theorem dX0_of_15 : decode cX0_of 15 = .ok (.ifCond .ne 9, 3) := dk_154 0 9 (dk_at dksX0_of_0 15 rfl rfl)
theorem dX0_of_18 : decode cX0_of 18 = .ok (.aload_n 0, 1) := dk_42 (dk_at dksX0_of_0 18 rfl rfl)
theorem dX0_of_19 : decode cX0_of 19 = .ok (.iconst 0, 1) := dk_3 (dk_at dksX0_of_0 19 rfl rfl)
theorem dX0_of_20 : decode cX0_of 20 = .ok (.invokevirtual 142, 3) := dk_182 0 142 (dk_at dksX0_of_0 20 rfl rfl)
theorem dX0_of_23 : decode cX0_of 23 = .ok (.ireturn, 1) := dk_172 (dk_at dksX0_of_0 23 rfl rfl)
theorem dX0_of_24 : decode cX0_of 24 = .ok (.iload_n 2, 1) := dk_28 (dk_at dksX0_of_1 0 rfl rfl)
theorem dX0_of_25 : decode cX0_of 25 = .ok (.tableswitch 87 0 7 #[47, 87, 87, 87, 87, 56, 62, 71], 47) := by decide +kernel
theorem dX0_of_72 : decode cX0_of 72 = .ok (.aload_n 0, 1) := dk_42 (dk_at dksX0_of_3 0 rfl rfl)
theorem dX0_of_73 : decode cX0_of 73 = .ok (.iload_n 1, 1) := dk_27 (dk_at dksX0_of_3 1 rfl rfl)
theorem dX0_of_74 : decode cX0_of 74 = .ok (.invokevirtual 148, 3) := dk_182 0 148 (dk_at dksX0_of_3 2 rfl rfl)
theorem dX0_of_77 : decode cX0_of 77 = .ok (.invokevirtual 164, 3) := dk_182 0 164 (dk_at dksX0_of_3 5 rfl rfl)
theorem dX0_of_80 : decode cX0_of 80 = .ok (.ireturn, 1) := dk_172 (dk_at dksX0_of_3 8 rfl rfl)
theorem dX0_of_81 : decode cX0_of 81 = .ok (.aload_n 0, 1) := dk_42 (dk_at dksX0_of_3 9 rfl rfl)
theorem dX0_of_82 : decode cX0_of 82 = .ok (.iload_n 1, 1) := dk_27 (dk_at dksX0_of_3 10 rfl rfl)
theorem dX0_of_83 : decode cX0_of 83 = .ok (.invokevirtual 167, 3) := dk_182 0 167 (dk_at dksX0_of_3 11 rfl rfl)
theorem dX0_of_86 : decode cX0_of 86 = .ok (.ireturn, 1) := dk_172 (dk_at dksX0_of_3 14 rfl rfl)
theorem dX0_of_87 : decode cX0_of 87 = .ok (.aload_n 0, 1) := dk_42 (dk_at dksX0_of_3 15 rfl rfl)
theorem dX0_of_88 : decode cX0_of 88 = .ok (.getfield 61, 3) := dk_180 0 61 (dk_at dksX0_of_3 16 rfl rfl)
theorem dX0_of_91 : decode cX0_of 91 = .ok (.iload_n 1, 1) := dk_27 (dk_at dksX0_of_3 19 rfl rfl)
theorem dX0_of_92 : decode cX0_of 92 = .ok (.invokevirtual 170, 3) := dk_182 0 170 (dk_at dksX0_of_3 20 rfl rfl)
theorem dX0_of_95 : decode cX0_of 95 = .ok (.ireturn, 1) := dk_172 (dk_at dksX0_of_3 23 rfl rfl)
theorem dX0_of_96 : decode cX0_of 96 = .ok (.aload_n 0, 1) := dk_42 (dk_at dksX0_of_4 0 rfl rfl)
theorem dX0_of_97 : decode cX0_of 97 = .ok (.getfield 61, 3) := dk_180 0 61 (dk_at dksX0_of_4 1 rfl rfl)
theorem dX0_of_100 : decode cX0_of 100 = .ok (.aload_n 0, 1) := dk_42 (dk_at dksX0_of_4 4 rfl rfl)
theorem dX0_of_101 : decode cX0_of 101 = .ok (.getfield 61, 3) := dk_180 0 61 (dk_at dksX0_of_4 5 rfl rfl)
theorem dX0_of_104 : decode cX0_of 104 = .ok (.iload_n 1, 1) := dk_27 (dk_at dksX0_of_4 8 rfl rfl)
theorem dX0_of_105 : decode cX0_of 105 = .ok (.invokevirtual 170, 3) := dk_182 0 170 (dk_at dksX0_of_4 9 rfl rfl)
theorem dX0_of_108 : decode cX0_of 108 = .ok (.invokevirtual 173, 3) := dk_182 0 173 (dk_at dksX0_of_4 12 rfl rfl)
theorem dX0_of_111 : decode cX0_of 111 = .ok (.ireturn, 1) := dk_172 (dk_at dksX0_of_4 15 rfl rfl)
theorem dX0_of_112 : decode cX0_of 112 = .ok (.aload_n 0, 1) := dk_42 (dk_at dksX0_of_4 16 rfl rfl)
theorem dX0_of_113 : decode cX0_of 113 = .ok (.getfield 61, 3) := dk_180 0 61 (dk_at dksX0_of_4 17 rfl rfl)
theorem dX0_of_116 : decode cX0_of 116 = .ok (.getfield 113, 3) := dk_180 0 113 (dk_at dksX0_of_4 20 rfl rfl)
theorem dX0_of_119 : decode cX0_of 119 = .ok (.iload_n 2, 1) := dk_28 (dk_at dksX0_of_4 23 rfl rfl)
theorem dX0_of_120 : decode cX0_of 120 = .ok (.aaload, 1) := dk_50 (dk_at dksX0_of_5 0 rfl rfl)
theorem dX0_of_121 : decode cX0_of 121 = .ok (.iload_n 1, 1) := dk_27 (dk_at dksX0_of_5 1 rfl rfl)
theorem dX0_of_122 : decode cX0_of 122 = .ok (.iaload, 1) := dk_46 (dk_at dksX0_of_5 2 rfl rfl)
theorem dX0_of_123 : decode cX0_of 123 = .ok (.ireturn, 1) := dk_172 (dk_at dksX0_of_5 3 rfl rfl)
abbrev cX0_isCarrier : ByteArray := prog_1_method_16_code
def yX0_isCarrier : MethodName := ⟨RX0, "isCarrier", "(I)Z"⟩
def dkwX0_isCarrier_0 : List UInt8 := [27, 3, 42, 180, 0, 61, 180, 0, 125, 4, 100, 184, 0, 3, 172]
abbrev dktX0_isCarrier_0 : List UInt8 := dkwX0_isCarrier_0 ++ []
theorem dksX0_isCarrier_0 : cX0_isCarrier.data.toList.drop 0 = dktX0_isCarrier_0 := by decide +kernel
theorem dX0_isCarrier_0 : decode cX0_isCarrier 0 = .ok (.iload_n 1, 1) := dk_27 (dk_at dksX0_isCarrier_0 0 rfl rfl)
theorem dX0_isCarrier_1 : decode cX0_isCarrier 1 = .ok (.iconst 0, 1) := dk_3 (dk_at dksX0_isCarrier_0 1 rfl rfl)
theorem dX0_isCarrier_2 : decode cX0_isCarrier 2 = .ok (.aload_n 0, 1) := dk_42 (dk_at dksX0_isCarrier_0 2 rfl rfl)
theorem dX0_isCarrier_3 : decode cX0_isCarrier 3 = .ok (.getfield 61, 3) := dk_180 0 61 (dk_at dksX0_isCarrier_0 3 rfl rfl)
theorem dX0_isCarrier_6 : decode cX0_isCarrier 6 = .ok (.getfield 125, 3) := dk_180 0 125 (dk_at dksX0_isCarrier_0 6 rfl rfl)
theorem dX0_isCarrier_9 : decode cX0_isCarrier 9 = .ok (.iconst 1, 1) := dk_4 (dk_at dksX0_isCarrier_0 9 rfl rfl)
theorem dX0_isCarrier_10 : decode cX0_isCarrier 10 = .ok (.isub, 1) := dk_100 (dk_at dksX0_isCarrier_0 10 rfl rfl)
theorem dX0_isCarrier_11 : decode cX0_isCarrier 11 = .ok (.invokestatic 3, 3) := dk_184 0 3 (dk_at dksX0_isCarrier_0 11 rfl rfl)
theorem dX0_isCarrier_14 : decode cX0_isCarrier 14 = .ok (.ireturn, 1) := dk_172 (dk_at dksX0_isCarrier_0 14 rfl rfl)
abbrev cX0_carrierAt : ByteArray := prog_1_method_12_code
def yX0_carrierAt : MethodName := ⟨RX0, "carrierAt", "(I)LCarryFair$Carrier;"⟩
def dkwX0_carrierAt_1 : List UInt8 := [192, 0, 36, 176]
abbrev dktX0_carrierAt_1 : List UInt8 := dkwX0_carrierAt_1 ++ []
def dkwX0_carrierAt_0 : List UInt8 := [42, 180, 0, 73, 16, 6, 42, 180, 0, 61, 180, 0, 113, 3, 50, 27, 46, 104, 27, 96, 50, 180, 0, 109]
abbrev dktX0_carrierAt_0 : List UInt8 := dkwX0_carrierAt_0 ++ dktX0_carrierAt_1
theorem dksX0_carrierAt_0 : cX0_carrierAt.data.toList.drop 0 = dktX0_carrierAt_0 := by decide +kernel
theorem dksX0_carrierAt_1 : cX0_carrierAt.data.toList.drop 24 = dktX0_carrierAt_1 := dk_seg dksX0_carrierAt_0 24 rfl rfl
theorem dX0_carrierAt_0 : decode cX0_carrierAt 0 = .ok (.aload_n 0, 1) := dk_42 (dk_at dksX0_carrierAt_0 0 rfl rfl)
theorem dX0_carrierAt_1 : decode cX0_carrierAt 1 = .ok (.getfield 73, 3) := dk_180 0 73 (dk_at dksX0_carrierAt_0 1 rfl rfl)
theorem dX0_carrierAt_4 : decode cX0_carrierAt 4 = .ok (.bipush 6, 2) := dk_16 6 (dk_at dksX0_carrierAt_0 4 rfl rfl)
theorem dX0_carrierAt_6 : decode cX0_carrierAt 6 = .ok (.aload_n 0, 1) := dk_42 (dk_at dksX0_carrierAt_0 6 rfl rfl)
theorem dX0_carrierAt_7 : decode cX0_carrierAt 7 = .ok (.getfield 61, 3) := dk_180 0 61 (dk_at dksX0_carrierAt_0 7 rfl rfl)
theorem dX0_carrierAt_10 : decode cX0_carrierAt 10 = .ok (.getfield 113, 3) := dk_180 0 113 (dk_at dksX0_carrierAt_0 10 rfl rfl)
theorem dX0_carrierAt_13 : decode cX0_carrierAt 13 = .ok (.iconst 0, 1) := dk_3 (dk_at dksX0_carrierAt_0 13 rfl rfl)
theorem dX0_carrierAt_14 : decode cX0_carrierAt 14 = .ok (.aaload, 1) := dk_50 (dk_at dksX0_carrierAt_0 14 rfl rfl)
theorem dX0_carrierAt_15 : decode cX0_carrierAt 15 = .ok (.iload_n 1, 1) := dk_27 (dk_at dksX0_carrierAt_0 15 rfl rfl)
theorem dX0_carrierAt_16 : decode cX0_carrierAt 16 = .ok (.iaload, 1) := dk_46 (dk_at dksX0_carrierAt_0 16 rfl rfl)
theorem dX0_carrierAt_17 : decode cX0_carrierAt 17 = .ok (.imul, 1) := dk_104 (dk_at dksX0_carrierAt_0 17 rfl rfl)
theorem dX0_carrierAt_18 : decode cX0_carrierAt 18 = .ok (.iload_n 1, 1) := dk_27 (dk_at dksX0_carrierAt_0 18 rfl rfl)
theorem dX0_carrierAt_19 : decode cX0_carrierAt 19 = .ok (.iadd, 1) := dk_96 (dk_at dksX0_carrierAt_0 19 rfl rfl)
theorem dX0_carrierAt_20 : decode cX0_carrierAt 20 = .ok (.aaload, 1) := dk_50 (dk_at dksX0_carrierAt_0 20 rfl rfl)
theorem dX0_carrierAt_21 : decode cX0_carrierAt 21 = .ok (.getfield 109, 3) := dk_180 0 109 (dk_at dksX0_carrierAt_0 21 rfl rfl)
theorem dX0_carrierAt_24 : decode cX0_carrierAt 24 = .ok (.checkcast 36, 3) := dk_192 0 36 (dk_at dksX0_carrierAt_1 0 rfl rfl)
theorem dX0_carrierAt_27 : decode cX0_carrierAt 27 = .ok (.areturn, 1) := dk_176 (dk_at dksX0_carrierAt_1 3 rfl rfl)
abbrev cX0_bearsOf : ByteArray := prog_1_method_23_code
def yX0_bearsOf : MethodName := ⟨RX0, "bearsOf", "(I)I"⟩
def dkwX0_bearsOf_0 : List UInt8 := [42, 27, 182, 0, 148, 77, 44, 185, 0, 152, 1, 0, 172]
abbrev dktX0_bearsOf_0 : List UInt8 := dkwX0_bearsOf_0 ++ []
theorem dksX0_bearsOf_0 : cX0_bearsOf.data.toList.drop 0 = dktX0_bearsOf_0 := by decide +kernel
theorem dX0_bearsOf_0 : decode cX0_bearsOf 0 = .ok (.aload_n 0, 1) := dk_42 (dk_at dksX0_bearsOf_0 0 rfl rfl)
theorem dX0_bearsOf_1 : decode cX0_bearsOf 1 = .ok (.iload_n 1, 1) := dk_27 (dk_at dksX0_bearsOf_0 1 rfl rfl)
theorem dX0_bearsOf_2 : decode cX0_bearsOf 2 = .ok (.invokevirtual 148, 3) := dk_182 0 148 (dk_at dksX0_bearsOf_0 2 rfl rfl)
theorem dX0_bearsOf_5 : decode cX0_bearsOf 5 = .ok (.astore_n 2, 1) := dk_77 (dk_at dksX0_bearsOf_0 5 rfl rfl)
theorem dX0_bearsOf_6 : decode cX0_bearsOf 6 = .ok (.aload_n 2, 1) := dk_44 (dk_at dksX0_bearsOf_0 6 rfl rfl)
theorem dX0_bearsOf_7 : decode cX0_bearsOf 7 = .ok (.invokeinterface 152 1, 5) := by decide +kernel
theorem dX0_bearsOf_12 : decode cX0_bearsOf 12 = .ok (.ireturn, 1) := dk_172 (dk_at dksX0_bearsOf_0 12 rfl rfl)
abbrev cX0_has : ByteArray := prog_1_method_2_code
def yX0_has : MethodName := ⟨RX0, "has", "(II)Z"⟩
def dkwX0_has_0 : List UInt8 := [26, 27, 122, 4, 126, 4, 160, 0, 7, 4, 167, 0, 4, 3, 172]
abbrev dktX0_has_0 : List UInt8 := dkwX0_has_0 ++ []
theorem dksX0_has_0 : cX0_has.data.toList.drop 0 = dktX0_has_0 := by decide +kernel
theorem dX0_has_0 : decode cX0_has 0 = .ok (.iload_n 0, 1) := dk_26 (dk_at dksX0_has_0 0 rfl rfl)
theorem dX0_has_1 : decode cX0_has 1 = .ok (.iload_n 1, 1) := dk_27 (dk_at dksX0_has_0 1 rfl rfl)
theorem dX0_has_2 : decode cX0_has 2 = .ok (.ishr, 1) := dk_122 (dk_at dksX0_has_0 2 rfl rfl)
theorem dX0_has_3 : decode cX0_has 3 = .ok (.iconst 1, 1) := dk_4 (dk_at dksX0_has_0 3 rfl rfl)
theorem dX0_has_4 : decode cX0_has 4 = .ok (.iand, 1) := dk_126 (dk_at dksX0_has_0 4 rfl rfl)
theorem dX0_has_5 : decode cX0_has 5 = .ok (.iconst 1, 1) := dk_4 (dk_at dksX0_has_0 5 rfl rfl)
theorem dX0_has_6 : decode cX0_has 6 = .ok (.if_icmp .ne 7, 3) := dk_160 0 7 (dk_at dksX0_has_0 6 rfl rfl)
theorem dX0_has_9 : decode cX0_has 9 = .ok (.iconst 1, 1) := dk_4 (dk_at dksX0_has_0 9 rfl rfl)
theorem dX0_has_10 : decode cX0_has 10 = .ok (.goto 4, 3) := dk_167 0 4 (dk_at dksX0_has_0 10 rfl rfl)
theorem dX0_has_13 : decode cX0_has 13 = .ok (.iconst 0, 1) := dk_3 (dk_at dksX0_has_0 13 rfl rfl)
theorem dX0_has_14 : decode cX0_has 14 = .ok (.ireturn, 1) := dk_172 (dk_at dksX0_has_0 14 rfl rfl)
abbrev cX0_change : ByteArray := prog_1_method_26_code
def yX0_change : MethodName := ⟨RX0, "change", "(III)I"⟩
def dkwX0_change_2 : List UInt8 := [21, 4, 172]
abbrev dktX0_change_2 : List UInt8 := dkwX0_change_2 ++ []
def dkwX0_change_1 : List UInt8 := [180, 0, 61, 180, 0, 113, 28, 50, 27, 46, 54, 4, 42, 180, 0, 61, 180, 0, 113, 28, 50, 27, 29, 79]
abbrev dktX0_change_1 : List UInt8 := dkwX0_change_1 ++ dktX0_change_2
def dkwX0_change_0 : List UInt8 := [42, 27, 182, 0, 161, 153, 0, 11, 28, 29, 184, 0, 176, 154, 0, 9, 42, 3, 182, 0, 142, 172, 42]
abbrev dktX0_change_0 : List UInt8 := dkwX0_change_0 ++ dktX0_change_1
theorem dksX0_change_0 : cX0_change.data.toList.drop 0 = dktX0_change_0 := by decide +kernel
theorem dksX0_change_1 : cX0_change.data.toList.drop 23 = dktX0_change_1 := dk_seg dksX0_change_0 23 rfl rfl
theorem dksX0_change_2 : cX0_change.data.toList.drop 47 = dktX0_change_2 := dk_seg dksX0_change_1 24 rfl rfl
theorem dX0_change_0 : decode cX0_change 0 = .ok (.aload_n 0, 1) := dk_42 (dk_at dksX0_change_0 0 rfl rfl)
theorem dX0_change_1 : decode cX0_change 1 = .ok (.iload_n 1, 1) := dk_27 (dk_at dksX0_change_0 1 rfl rfl)
theorem dX0_change_2 : decode cX0_change 2 = .ok (.invokevirtual 161, 3) := dk_182 0 161 (dk_at dksX0_change_0 2 rfl rfl)
theorem dX0_change_5 : decode cX0_change 5 = .ok (.ifCond .eq 11, 3) := dk_153 0 11 (dk_at dksX0_change_0 5 rfl rfl)
theorem dX0_change_8 : decode cX0_change 8 = .ok (.iload_n 2, 1) := dk_28 (dk_at dksX0_change_0 8 rfl rfl)
theorem dX0_change_9 : decode cX0_change 9 = .ok (.iload_n 3, 1) := dk_29 (dk_at dksX0_change_0 9 rfl rfl)
theorem dX0_change_10 : decode cX0_change 10 = .ok (.invokestatic 176, 3) := dk_184 0 176 (dk_at dksX0_change_0 10 rfl rfl)
theorem dX0_change_13 : decode cX0_change 13 = .ok (.ifCond .ne 9, 3) := dk_154 0 9 (dk_at dksX0_change_0 13 rfl rfl)
theorem dX0_change_16 : decode cX0_change 16 = .ok (.aload_n 0, 1) := dk_42 (dk_at dksX0_change_0 16 rfl rfl)
theorem dX0_change_17 : decode cX0_change 17 = .ok (.iconst 0, 1) := dk_3 (dk_at dksX0_change_0 17 rfl rfl)
theorem dX0_change_18 : decode cX0_change 18 = .ok (.invokevirtual 142, 3) := dk_182 0 142 (dk_at dksX0_change_0 18 rfl rfl)
theorem dX0_change_21 : decode cX0_change 21 = .ok (.ireturn, 1) := dk_172 (dk_at dksX0_change_0 21 rfl rfl)
theorem dX0_change_22 : decode cX0_change 22 = .ok (.aload_n 0, 1) := dk_42 (dk_at dksX0_change_0 22 rfl rfl)
theorem dX0_change_23 : decode cX0_change 23 = .ok (.getfield 61, 3) := dk_180 0 61 (dk_at dksX0_change_1 0 rfl rfl)
theorem dX0_change_26 : decode cX0_change 26 = .ok (.getfield 113, 3) := dk_180 0 113 (dk_at dksX0_change_1 3 rfl rfl)
theorem dX0_change_29 : decode cX0_change 29 = .ok (.iload_n 2, 1) := dk_28 (dk_at dksX0_change_1 6 rfl rfl)
theorem dX0_change_30 : decode cX0_change 30 = .ok (.aaload, 1) := dk_50 (dk_at dksX0_change_1 7 rfl rfl)
theorem dX0_change_31 : decode cX0_change 31 = .ok (.iload_n 1, 1) := dk_27 (dk_at dksX0_change_1 8 rfl rfl)
theorem dX0_change_32 : decode cX0_change 32 = .ok (.iaload, 1) := dk_46 (dk_at dksX0_change_1 9 rfl rfl)
theorem dX0_change_33 : decode cX0_change 33 = .ok (.istore 4, 2) := dk_54 4 (dk_at dksX0_change_1 10 rfl rfl)
theorem dX0_change_35 : decode cX0_change 35 = .ok (.aload_n 0, 1) := dk_42 (dk_at dksX0_change_1 12 rfl rfl)
theorem dX0_change_36 : decode cX0_change 36 = .ok (.getfield 61, 3) := dk_180 0 61 (dk_at dksX0_change_1 13 rfl rfl)
theorem dX0_change_39 : decode cX0_change 39 = .ok (.getfield 113, 3) := dk_180 0 113 (dk_at dksX0_change_1 16 rfl rfl)
theorem dX0_change_42 : decode cX0_change 42 = .ok (.iload_n 2, 1) := dk_28 (dk_at dksX0_change_1 19 rfl rfl)
theorem dX0_change_43 : decode cX0_change 43 = .ok (.aaload, 1) := dk_50 (dk_at dksX0_change_1 20 rfl rfl)
theorem dX0_change_44 : decode cX0_change 44 = .ok (.iload_n 1, 1) := dk_27 (dk_at dksX0_change_1 21 rfl rfl)
theorem dX0_change_45 : decode cX0_change 45 = .ok (.iload_n 3, 1) := dk_29 (dk_at dksX0_change_1 22 rfl rfl)
theorem dX0_change_46 : decode cX0_change 46 = .ok (.iastore, 1) := dk_79 (dk_at dksX0_change_1 23 rfl rfl)
theorem dX0_change_47 : decode cX0_change 47 = .ok (.iload 4, 2) := dk_21 4 (dk_at dksX0_change_2 0 rfl rfl)
theorem dX0_change_49 : decode cX0_change 49 = .ok (.ireturn, 1) := dk_172 (dk_at dksX0_change_2 2 rfl rfl)
abbrev cX0_isTold : ByteArray := prog_1_method_9_code
def yX0_isTold : MethodName := ⟨RX0, "isTold", "(II)Z"⟩
def dkwX0_isTold_3 : List UInt8 := [184, 0, 3, 172, 3, 172]
abbrev dktX0_isTold_3 : List UInt8 := dkwX0_isTold_3 ++ []
def dkwX0_isTold_2 : List UInt8 := [27, 184, 0, 11, 172, 27, 184, 0, 7, 172, 27, 4, 16, 99, 184, 0, 3, 172, 27, 3, 18, 14]
abbrev dktX0_isTold_2 : List UInt8 := dkwX0_isTold_2 ++ dktX0_isTold_3
def dkwX0_isTold_1 : List UInt8 := [170, 0, 0, 0, 0, 0, 57, 0, 0, 0, 0, 0, 0, 0, 3, 0, 0, 0, 31, 0, 0, 0, 36, 0, 0, 0, 41, 0, 0, 0, 49]
abbrev dktX0_isTold_1 : List UInt8 := dkwX0_isTold_1 ++ dktX0_isTold_2
def dkwX0_isTold_0 : List UInt8 := [26]
abbrev dktX0_isTold_0 : List UInt8 := dkwX0_isTold_0 ++ dktX0_isTold_1
theorem dksX0_isTold_0 : cX0_isTold.data.toList.drop 0 = dktX0_isTold_0 := by decide +kernel
theorem dksX0_isTold_1 : cX0_isTold.data.toList.drop 1 = dktX0_isTold_1 := dk_seg dksX0_isTold_0 1 rfl rfl
theorem dksX0_isTold_2 : cX0_isTold.data.toList.drop 32 = dktX0_isTold_2 := dk_seg dksX0_isTold_1 31 rfl rfl
theorem dksX0_isTold_3 : cX0_isTold.data.toList.drop 54 = dktX0_isTold_3 := dk_seg dksX0_isTold_2 22 rfl rfl
theorem dX0_isTold_0 : decode cX0_isTold 0 = .ok (.iload_n 0, 1) := dk_26 (dk_at dksX0_isTold_0 0 rfl rfl)
theorem dX0_isTold_1 : decode cX0_isTold 1 = .ok (.tableswitch 57 0 3 #[31, 36, 41, 49], 31) := by decide +kernel
theorem dX0_isTold_32 : decode cX0_isTold 32 = .ok (.iload_n 1, 1) := dk_27 (dk_at dksX0_isTold_2 0 rfl rfl)
theorem dX0_isTold_33 : decode cX0_isTold 33 = .ok (.invokestatic 11, 3) := dk_184 0 11 (dk_at dksX0_isTold_2 1 rfl rfl)
theorem dX0_isTold_36 : decode cX0_isTold 36 = .ok (.ireturn, 1) := dk_172 (dk_at dksX0_isTold_2 4 rfl rfl)
theorem dX0_isTold_37 : decode cX0_isTold 37 = .ok (.iload_n 1, 1) := dk_27 (dk_at dksX0_isTold_2 5 rfl rfl)
theorem dX0_isTold_38 : decode cX0_isTold 38 = .ok (.invokestatic 7, 3) := dk_184 0 7 (dk_at dksX0_isTold_2 6 rfl rfl)
theorem dX0_isTold_41 : decode cX0_isTold 41 = .ok (.ireturn, 1) := dk_172 (dk_at dksX0_isTold_2 9 rfl rfl)
theorem dX0_isTold_42 : decode cX0_isTold 42 = .ok (.iload_n 1, 1) := dk_27 (dk_at dksX0_isTold_2 10 rfl rfl)
theorem dX0_isTold_43 : decode cX0_isTold 43 = .ok (.iconst 1, 1) := dk_4 (dk_at dksX0_isTold_2 11 rfl rfl)
theorem dX0_isTold_44 : decode cX0_isTold 44 = .ok (.bipush 99, 2) := dk_16 99 (dk_at dksX0_isTold_2 12 rfl rfl)
theorem dX0_isTold_46 : decode cX0_isTold 46 = .ok (.invokestatic 3, 3) := dk_184 0 3 (dk_at dksX0_isTold_2 14 rfl rfl)
theorem dX0_isTold_49 : decode cX0_isTold 49 = .ok (.ireturn, 1) := dk_172 (dk_at dksX0_isTold_2 17 rfl rfl)
theorem dX0_isTold_50 : decode cX0_isTold 50 = .ok (.iload_n 1, 1) := dk_27 (dk_at dksX0_isTold_2 18 rfl rfl)
theorem dX0_isTold_51 : decode cX0_isTold 51 = .ok (.iconst 0, 1) := dk_3 (dk_at dksX0_isTold_2 19 rfl rfl)
theorem dX0_isTold_52 : decode cX0_isTold 52 = .ok (.ldc 14, 2) := dk_18 14 (dk_at dksX0_isTold_2 20 rfl rfl)
theorem dX0_isTold_54 : decode cX0_isTold 54 = .ok (.invokestatic 3, 3) := dk_184 0 3 (dk_at dksX0_isTold_3 0 rfl rfl)
theorem dX0_isTold_57 : decode cX0_isTold 57 = .ok (.ireturn, 1) := dk_172 (dk_at dksX0_isTold_3 3 rfl rfl)
theorem dX0_isTold_58 : decode cX0_isTold 58 = .ok (.iconst 0, 1) := dk_3 (dk_at dksX0_isTold_3 4 rfl rfl)
theorem dX0_isTold_59 : decode cX0_isTold 59 = .ok (.ireturn, 1) := dk_172 (dk_at dksX0_isTold_3 5 rfl rfl)
abbrev cX0_isPlace : ByteArray := prog_1_method_6_code
def yX0_isPlace : MethodName := ⟨RX0, "isPlace", "(I)Z"⟩
def dkwX0_isPlace_0 : List UInt8 := [26, 3, 16, 6, 184, 0, 3, 172]
abbrev dktX0_isPlace_0 : List UInt8 := dkwX0_isPlace_0 ++ []
theorem dksX0_isPlace_0 : cX0_isPlace.data.toList.drop 0 = dktX0_isPlace_0 := by decide +kernel
theorem dX0_isPlace_0 : decode cX0_isPlace 0 = .ok (.iload_n 0, 1) := dk_26 (dk_at dksX0_isPlace_0 0 rfl rfl)
theorem dX0_isPlace_1 : decode cX0_isPlace 1 = .ok (.iconst 0, 1) := dk_3 (dk_at dksX0_isPlace_0 1 rfl rfl)
theorem dX0_isPlace_2 : decode cX0_isPlace 2 = .ok (.bipush 6, 2) := dk_16 6 (dk_at dksX0_isPlace_0 2 rfl rfl)
theorem dX0_isPlace_4 : decode cX0_isPlace 4 = .ok (.invokestatic 3, 3) := dk_184 0 3 (dk_at dksX0_isPlace_0 4 rfl rfl)
theorem dX0_isPlace_7 : decode cX0_isPlace 7 = .ok (.ireturn, 1) := dk_172 (dk_at dksX0_isPlace_0 7 rfl rfl)
abbrev cX0_way : ByteArray := prog_1_method_27_code
def yX0_way : MethodName := ⟨RX0, "way", "(IIII)I"⟩
def dkwX0_way_2 : List UInt8 := [54, 5, 42, 180, 0, 61, 27, 28, 29, 21, 4, 182, 0, 186, 21, 5, 172]
abbrev dktX0_way_2 : List UInt8 := dkwX0_way_2 ++ []
def dkwX0_way_1 : List UInt8 := [184, 0, 3, 154, 0, 9, 42, 3, 182, 0, 142, 172, 42, 180, 0, 61, 180, 0, 183, 27, 50, 28, 46]
abbrev dktX0_way_1 : List UInt8 := dkwX0_way_1 ++ dktX0_way_2
def dkwX0_way_0 : List UInt8 := [27, 28, 184, 0, 180, 153, 0, 23, 29, 3, 16, 99, 184, 0, 3, 153, 0, 13, 21, 4, 3, 4]
abbrev dktX0_way_0 : List UInt8 := dkwX0_way_0 ++ dktX0_way_1
theorem dksX0_way_0 : cX0_way.data.toList.drop 0 = dktX0_way_0 := by decide +kernel
theorem dksX0_way_1 : cX0_way.data.toList.drop 22 = dktX0_way_1 := dk_seg dksX0_way_0 22 rfl rfl
theorem dksX0_way_2 : cX0_way.data.toList.drop 45 = dktX0_way_2 := dk_seg dksX0_way_1 23 rfl rfl
theorem dX0_way_0 : decode cX0_way 0 = .ok (.iload_n 1, 1) := dk_27 (dk_at dksX0_way_0 0 rfl rfl)
theorem dX0_way_1 : decode cX0_way 1 = .ok (.iload_n 2, 1) := dk_28 (dk_at dksX0_way_0 1 rfl rfl)
theorem dX0_way_2 : decode cX0_way 2 = .ok (.invokestatic 180, 3) := dk_184 0 180 (dk_at dksX0_way_0 2 rfl rfl)
theorem dX0_way_5 : decode cX0_way 5 = .ok (.ifCond .eq 23, 3) := dk_153 0 23 (dk_at dksX0_way_0 5 rfl rfl)
theorem dX0_way_8 : decode cX0_way 8 = .ok (.iload_n 3, 1) := dk_29 (dk_at dksX0_way_0 8 rfl rfl)
theorem dX0_way_9 : decode cX0_way 9 = .ok (.iconst 0, 1) := dk_3 (dk_at dksX0_way_0 9 rfl rfl)
theorem dX0_way_10 : decode cX0_way 10 = .ok (.bipush 99, 2) := dk_16 99 (dk_at dksX0_way_0 10 rfl rfl)
theorem dX0_way_12 : decode cX0_way 12 = .ok (.invokestatic 3, 3) := dk_184 0 3 (dk_at dksX0_way_0 12 rfl rfl)
theorem dX0_way_15 : decode cX0_way 15 = .ok (.ifCond .eq 13, 3) := dk_153 0 13 (dk_at dksX0_way_0 15 rfl rfl)
theorem dX0_way_18 : decode cX0_way 18 = .ok (.iload 4, 2) := dk_21 4 (dk_at dksX0_way_0 18 rfl rfl)
theorem dX0_way_20 : decode cX0_way 20 = .ok (.iconst 0, 1) := dk_3 (dk_at dksX0_way_0 20 rfl rfl)
theorem dX0_way_21 : decode cX0_way 21 = .ok (.iconst 1, 1) := dk_4 (dk_at dksX0_way_0 21 rfl rfl)
theorem dX0_way_22 : decode cX0_way 22 = .ok (.invokestatic 3, 3) := dk_184 0 3 (dk_at dksX0_way_1 0 rfl rfl)
theorem dX0_way_25 : decode cX0_way 25 = .ok (.ifCond .ne 9, 3) := dk_154 0 9 (dk_at dksX0_way_1 3 rfl rfl)
theorem dX0_way_28 : decode cX0_way 28 = .ok (.aload_n 0, 1) := dk_42 (dk_at dksX0_way_1 6 rfl rfl)
theorem dX0_way_29 : decode cX0_way 29 = .ok (.iconst 0, 1) := dk_3 (dk_at dksX0_way_1 7 rfl rfl)
theorem dX0_way_30 : decode cX0_way 30 = .ok (.invokevirtual 142, 3) := dk_182 0 142 (dk_at dksX0_way_1 8 rfl rfl)
theorem dX0_way_33 : decode cX0_way 33 = .ok (.ireturn, 1) := dk_172 (dk_at dksX0_way_1 11 rfl rfl)
theorem dX0_way_34 : decode cX0_way 34 = .ok (.aload_n 0, 1) := dk_42 (dk_at dksX0_way_1 12 rfl rfl)
theorem dX0_way_35 : decode cX0_way 35 = .ok (.getfield 61, 3) := dk_180 0 61 (dk_at dksX0_way_1 13 rfl rfl)
theorem dX0_way_38 : decode cX0_way 38 = .ok (.getfield 183, 3) := dk_180 0 183 (dk_at dksX0_way_1 16 rfl rfl)
theorem dX0_way_41 : decode cX0_way 41 = .ok (.iload_n 1, 1) := dk_27 (dk_at dksX0_way_1 19 rfl rfl)
theorem dX0_way_42 : decode cX0_way 42 = .ok (.aaload, 1) := dk_50 (dk_at dksX0_way_1 20 rfl rfl)
theorem dX0_way_43 : decode cX0_way 43 = .ok (.iload_n 2, 1) := dk_28 (dk_at dksX0_way_1 21 rfl rfl)
theorem dX0_way_44 : decode cX0_way 44 = .ok (.iaload, 1) := dk_46 (dk_at dksX0_way_1 22 rfl rfl)
theorem dX0_way_45 : decode cX0_way 45 = .ok (.istore 5, 2) := dk_54 5 (dk_at dksX0_way_2 0 rfl rfl)
theorem dX0_way_47 : decode cX0_way 47 = .ok (.aload_n 0, 1) := dk_42 (dk_at dksX0_way_2 2 rfl rfl)
theorem dX0_way_48 : decode cX0_way 48 = .ok (.getfield 61, 3) := dk_180 0 61 (dk_at dksX0_way_2 3 rfl rfl)
theorem dX0_way_51 : decode cX0_way 51 = .ok (.iload_n 1, 1) := dk_27 (dk_at dksX0_way_2 6 rfl rfl)
theorem dX0_way_52 : decode cX0_way 52 = .ok (.iload_n 2, 1) := dk_28 (dk_at dksX0_way_2 7 rfl rfl)
theorem dX0_way_53 : decode cX0_way 53 = .ok (.iload_n 3, 1) := dk_29 (dk_at dksX0_way_2 8 rfl rfl)
theorem dX0_way_54 : decode cX0_way 54 = .ok (.iload 4, 2) := dk_21 4 (dk_at dksX0_way_2 9 rfl rfl)
theorem dX0_way_56 : decode cX0_way 56 = .ok (.invokevirtual 186, 3) := dk_182 0 186 (dk_at dksX0_way_2 11 rfl rfl)
theorem dX0_way_59 : decode cX0_way 59 = .ok (.iload 5, 2) := dk_21 5 (dk_at dksX0_way_2 14 rfl rfl)
theorem dX0_way_61 : decode cX0_way 61 = .ok (.ireturn, 1) := dk_172 (dk_at dksX0_way_2 16 rfl rfl)
abbrev cX0_arePlaces : ByteArray := prog_1_method_7_code
def yX0_arePlaces : MethodName := ⟨RX0, "arePlaces", "(II)Z"⟩
def dkwX0_arePlaces_1 : List UInt8 := [172]
abbrev dktX0_arePlaces_1 : List UInt8 := dkwX0_arePlaces_1 ++ []
def dkwX0_arePlaces_0 : List UInt8 := [26, 184, 0, 7, 153, 0, 19, 27, 184, 0, 7, 153, 0, 12, 26, 27, 159, 0, 7, 4, 167, 0, 4, 3]
abbrev dktX0_arePlaces_0 : List UInt8 := dkwX0_arePlaces_0 ++ dktX0_arePlaces_1
theorem dksX0_arePlaces_0 : cX0_arePlaces.data.toList.drop 0 = dktX0_arePlaces_0 := by decide +kernel
theorem dksX0_arePlaces_1 : cX0_arePlaces.data.toList.drop 24 = dktX0_arePlaces_1 := dk_seg dksX0_arePlaces_0 24 rfl rfl
theorem dX0_arePlaces_0 : decode cX0_arePlaces 0 = .ok (.iload_n 0, 1) := dk_26 (dk_at dksX0_arePlaces_0 0 rfl rfl)
theorem dX0_arePlaces_1 : decode cX0_arePlaces 1 = .ok (.invokestatic 7, 3) := dk_184 0 7 (dk_at dksX0_arePlaces_0 1 rfl rfl)
theorem dX0_arePlaces_4 : decode cX0_arePlaces 4 = .ok (.ifCond .eq 19, 3) := dk_153 0 19 (dk_at dksX0_arePlaces_0 4 rfl rfl)
theorem dX0_arePlaces_7 : decode cX0_arePlaces 7 = .ok (.iload_n 1, 1) := dk_27 (dk_at dksX0_arePlaces_0 7 rfl rfl)
theorem dX0_arePlaces_8 : decode cX0_arePlaces 8 = .ok (.invokestatic 7, 3) := dk_184 0 7 (dk_at dksX0_arePlaces_0 8 rfl rfl)
theorem dX0_arePlaces_11 : decode cX0_arePlaces 11 = .ok (.ifCond .eq 12, 3) := dk_153 0 12 (dk_at dksX0_arePlaces_0 11 rfl rfl)
theorem dX0_arePlaces_14 : decode cX0_arePlaces 14 = .ok (.iload_n 0, 1) := dk_26 (dk_at dksX0_arePlaces_0 14 rfl rfl)
theorem dX0_arePlaces_15 : decode cX0_arePlaces 15 = .ok (.iload_n 1, 1) := dk_27 (dk_at dksX0_arePlaces_0 15 rfl rfl)
theorem dX0_arePlaces_16 : decode cX0_arePlaces 16 = .ok (.if_icmp .eq 7, 3) := dk_159 0 7 (dk_at dksX0_arePlaces_0 16 rfl rfl)
theorem dX0_arePlaces_19 : decode cX0_arePlaces 19 = .ok (.iconst 1, 1) := dk_4 (dk_at dksX0_arePlaces_0 19 rfl rfl)
theorem dX0_arePlaces_20 : decode cX0_arePlaces 20 = .ok (.goto 4, 3) := dk_167 0 4 (dk_at dksX0_arePlaces_0 20 rfl rfl)
theorem dX0_arePlaces_23 : decode cX0_arePlaces 23 = .ok (.iconst 0, 1) := dk_3 (dk_at dksX0_arePlaces_0 23 rfl rfl)
theorem dX0_arePlaces_24 : decode cX0_arePlaces 24 = .ok (.ireturn, 1) := dk_172 (dk_at dksX0_arePlaces_1 0 rfl rfl)
abbrev cX0_wayOf : ByteArray := prog_1_method_28_code
def yX0_wayOf : MethodName := ⟨RX0, "wayOf", "(III)I"⟩
def dkwX0_wayOf_2 : List UInt8 := [27, 50, 28, 46, 172]
abbrev dktX0_wayOf_2 : List UInt8 := dkwX0_wayOf_2 ++ []
def dkwX0_wayOf_1 : List UInt8 := [154, 0, 17, 42, 180, 0, 61, 180, 0, 183, 27, 50, 28, 46, 167, 0, 14, 42, 180, 0, 61, 180, 0, 190]
abbrev dktX0_wayOf_1 : List UInt8 := dkwX0_wayOf_1 ++ dktX0_wayOf_2
def dkwX0_wayOf_0 : List UInt8 := [27, 28, 184, 0, 180, 153, 0, 12, 29, 3, 4, 184, 0, 3, 154, 0, 9, 42, 3, 182, 0, 142, 172, 29]
abbrev dktX0_wayOf_0 : List UInt8 := dkwX0_wayOf_0 ++ dktX0_wayOf_1
theorem dksX0_wayOf_0 : cX0_wayOf.data.toList.drop 0 = dktX0_wayOf_0 := by decide +kernel
theorem dksX0_wayOf_1 : cX0_wayOf.data.toList.drop 24 = dktX0_wayOf_1 := dk_seg dksX0_wayOf_0 24 rfl rfl
theorem dksX0_wayOf_2 : cX0_wayOf.data.toList.drop 48 = dktX0_wayOf_2 := dk_seg dksX0_wayOf_1 24 rfl rfl
theorem dX0_wayOf_0 : decode cX0_wayOf 0 = .ok (.iload_n 1, 1) := dk_27 (dk_at dksX0_wayOf_0 0 rfl rfl)
theorem dX0_wayOf_1 : decode cX0_wayOf 1 = .ok (.iload_n 2, 1) := dk_28 (dk_at dksX0_wayOf_0 1 rfl rfl)
theorem dX0_wayOf_2 : decode cX0_wayOf 2 = .ok (.invokestatic 180, 3) := dk_184 0 180 (dk_at dksX0_wayOf_0 2 rfl rfl)
theorem dX0_wayOf_5 : decode cX0_wayOf 5 = .ok (.ifCond .eq 12, 3) := dk_153 0 12 (dk_at dksX0_wayOf_0 5 rfl rfl)
theorem dX0_wayOf_8 : decode cX0_wayOf 8 = .ok (.iload_n 3, 1) := dk_29 (dk_at dksX0_wayOf_0 8 rfl rfl)
theorem dX0_wayOf_9 : decode cX0_wayOf 9 = .ok (.iconst 0, 1) := dk_3 (dk_at dksX0_wayOf_0 9 rfl rfl)
theorem dX0_wayOf_10 : decode cX0_wayOf 10 = .ok (.iconst 1, 1) := dk_4 (dk_at dksX0_wayOf_0 10 rfl rfl)
theorem dX0_wayOf_11 : decode cX0_wayOf 11 = .ok (.invokestatic 3, 3) := dk_184 0 3 (dk_at dksX0_wayOf_0 11 rfl rfl)
theorem dX0_wayOf_14 : decode cX0_wayOf 14 = .ok (.ifCond .ne 9, 3) := dk_154 0 9 (dk_at dksX0_wayOf_0 14 rfl rfl)
theorem dX0_wayOf_17 : decode cX0_wayOf 17 = .ok (.aload_n 0, 1) := dk_42 (dk_at dksX0_wayOf_0 17 rfl rfl)
theorem dX0_wayOf_18 : decode cX0_wayOf 18 = .ok (.iconst 0, 1) := dk_3 (dk_at dksX0_wayOf_0 18 rfl rfl)
theorem dX0_wayOf_19 : decode cX0_wayOf 19 = .ok (.invokevirtual 142, 3) := dk_182 0 142 (dk_at dksX0_wayOf_0 19 rfl rfl)
theorem dX0_wayOf_22 : decode cX0_wayOf 22 = .ok (.ireturn, 1) := dk_172 (dk_at dksX0_wayOf_0 22 rfl rfl)
theorem dX0_wayOf_23 : decode cX0_wayOf 23 = .ok (.iload_n 3, 1) := dk_29 (dk_at dksX0_wayOf_0 23 rfl rfl)
theorem dX0_wayOf_24 : decode cX0_wayOf 24 = .ok (.ifCond .ne 17, 3) := dk_154 0 17 (dk_at dksX0_wayOf_1 0 rfl rfl)
theorem dX0_wayOf_27 : decode cX0_wayOf 27 = .ok (.aload_n 0, 1) := dk_42 (dk_at dksX0_wayOf_1 3 rfl rfl)
theorem dX0_wayOf_28 : decode cX0_wayOf 28 = .ok (.getfield 61, 3) := dk_180 0 61 (dk_at dksX0_wayOf_1 4 rfl rfl)
theorem dX0_wayOf_31 : decode cX0_wayOf 31 = .ok (.getfield 183, 3) := dk_180 0 183 (dk_at dksX0_wayOf_1 7 rfl rfl)
theorem dX0_wayOf_34 : decode cX0_wayOf 34 = .ok (.iload_n 1, 1) := dk_27 (dk_at dksX0_wayOf_1 10 rfl rfl)
theorem dX0_wayOf_35 : decode cX0_wayOf 35 = .ok (.aaload, 1) := dk_50 (dk_at dksX0_wayOf_1 11 rfl rfl)
theorem dX0_wayOf_36 : decode cX0_wayOf 36 = .ok (.iload_n 2, 1) := dk_28 (dk_at dksX0_wayOf_1 12 rfl rfl)
theorem dX0_wayOf_37 : decode cX0_wayOf 37 = .ok (.iaload, 1) := dk_46 (dk_at dksX0_wayOf_1 13 rfl rfl)
theorem dX0_wayOf_38 : decode cX0_wayOf 38 = .ok (.goto 14, 3) := dk_167 0 14 (dk_at dksX0_wayOf_1 14 rfl rfl)
theorem dX0_wayOf_41 : decode cX0_wayOf 41 = .ok (.aload_n 0, 1) := dk_42 (dk_at dksX0_wayOf_1 17 rfl rfl)
theorem dX0_wayOf_42 : decode cX0_wayOf 42 = .ok (.getfield 61, 3) := dk_180 0 61 (dk_at dksX0_wayOf_1 18 rfl rfl)
theorem dX0_wayOf_45 : decode cX0_wayOf 45 = .ok (.getfield 190, 3) := dk_180 0 190 (dk_at dksX0_wayOf_1 21 rfl rfl)
theorem dX0_wayOf_48 : decode cX0_wayOf 48 = .ok (.iload_n 1, 1) := dk_27 (dk_at dksX0_wayOf_2 0 rfl rfl)
theorem dX0_wayOf_49 : decode cX0_wayOf 49 = .ok (.aaload, 1) := dk_50 (dk_at dksX0_wayOf_2 1 rfl rfl)
theorem dX0_wayOf_50 : decode cX0_wayOf 50 = .ok (.iload_n 2, 1) := dk_28 (dk_at dksX0_wayOf_2 2 rfl rfl)
theorem dX0_wayOf_51 : decode cX0_wayOf 51 = .ok (.iaload, 1) := dk_46 (dk_at dksX0_wayOf_2 3 rfl rfl)
theorem dX0_wayOf_52 : decode cX0_wayOf 52 = .ok (.ireturn, 1) := dk_172 (dk_at dksX0_wayOf_2 4 rfl rfl)
abbrev cX0_errand : ByteArray := prog_1_method_29_code
def yX0_errand : MethodName := ⟨RX0, "errand", "(III)I"⟩
def dkwX0_errand_2 : List UInt8 := [29, 182, 0, 193, 42, 180, 0, 61, 180, 0, 127, 4, 100, 172]
abbrev dktX0_errand_2 : List UInt8 := dkwX0_errand_2 ++ []
def dkwX0_errand_1 : List UInt8 := [42, 180, 0, 61, 180, 0, 127, 16, 8, 160, 0, 9, 42, 4, 182, 0, 142, 172, 42, 180, 0, 61, 27, 28]
abbrev dktX0_errand_1 : List UInt8 := dkwX0_errand_1 ++ dktX0_errand_2
def dkwX0_errand_0 : List UInt8 := [27, 4, 16, 60, 184, 0, 3, 153, 0, 11, 28, 29, 184, 0, 180, 154, 0, 9, 42, 3, 182, 0, 142, 172]
abbrev dktX0_errand_0 : List UInt8 := dkwX0_errand_0 ++ dktX0_errand_1
theorem dksX0_errand_0 : cX0_errand.data.toList.drop 0 = dktX0_errand_0 := by decide +kernel
theorem dksX0_errand_1 : cX0_errand.data.toList.drop 24 = dktX0_errand_1 := dk_seg dksX0_errand_0 24 rfl rfl
theorem dksX0_errand_2 : cX0_errand.data.toList.drop 48 = dktX0_errand_2 := dk_seg dksX0_errand_1 24 rfl rfl
theorem dX0_errand_0 : decode cX0_errand 0 = .ok (.iload_n 1, 1) := dk_27 (dk_at dksX0_errand_0 0 rfl rfl)
theorem dX0_errand_1 : decode cX0_errand 1 = .ok (.iconst 1, 1) := dk_4 (dk_at dksX0_errand_0 1 rfl rfl)
theorem dX0_errand_2 : decode cX0_errand 2 = .ok (.bipush 60, 2) := dk_16 60 (dk_at dksX0_errand_0 2 rfl rfl)
theorem dX0_errand_4 : decode cX0_errand 4 = .ok (.invokestatic 3, 3) := dk_184 0 3 (dk_at dksX0_errand_0 4 rfl rfl)
theorem dX0_errand_7 : decode cX0_errand 7 = .ok (.ifCond .eq 11, 3) := dk_153 0 11 (dk_at dksX0_errand_0 7 rfl rfl)
theorem dX0_errand_10 : decode cX0_errand 10 = .ok (.iload_n 2, 1) := dk_28 (dk_at dksX0_errand_0 10 rfl rfl)
theorem dX0_errand_11 : decode cX0_errand 11 = .ok (.iload_n 3, 1) := dk_29 (dk_at dksX0_errand_0 11 rfl rfl)
theorem dX0_errand_12 : decode cX0_errand 12 = .ok (.invokestatic 180, 3) := dk_184 0 180 (dk_at dksX0_errand_0 12 rfl rfl)
theorem dX0_errand_15 : decode cX0_errand 15 = .ok (.ifCond .ne 9, 3) := dk_154 0 9 (dk_at dksX0_errand_0 15 rfl rfl)
theorem dX0_errand_18 : decode cX0_errand 18 = .ok (.aload_n 0, 1) := dk_42 (dk_at dksX0_errand_0 18 rfl rfl)
theorem dX0_errand_19 : decode cX0_errand 19 = .ok (.iconst 0, 1) := dk_3 (dk_at dksX0_errand_0 19 rfl rfl)
theorem dX0_errand_20 : decode cX0_errand 20 = .ok (.invokevirtual 142, 3) := dk_182 0 142 (dk_at dksX0_errand_0 20 rfl rfl)
theorem dX0_errand_23 : decode cX0_errand 23 = .ok (.ireturn, 1) := dk_172 (dk_at dksX0_errand_0 23 rfl rfl)
theorem dX0_errand_24 : decode cX0_errand 24 = .ok (.aload_n 0, 1) := dk_42 (dk_at dksX0_errand_1 0 rfl rfl)
theorem dX0_errand_25 : decode cX0_errand 25 = .ok (.getfield 61, 3) := dk_180 0 61 (dk_at dksX0_errand_1 1 rfl rfl)
theorem dX0_errand_28 : decode cX0_errand 28 = .ok (.getfield 127, 3) := dk_180 0 127 (dk_at dksX0_errand_1 4 rfl rfl)
theorem dX0_errand_31 : decode cX0_errand 31 = .ok (.bipush 8, 2) := dk_16 8 (dk_at dksX0_errand_1 7 rfl rfl)
theorem dX0_errand_33 : decode cX0_errand 33 = .ok (.if_icmp .ne 9, 3) := dk_160 0 9 (dk_at dksX0_errand_1 9 rfl rfl)
theorem dX0_errand_36 : decode cX0_errand 36 = .ok (.aload_n 0, 1) := dk_42 (dk_at dksX0_errand_1 12 rfl rfl)
theorem dX0_errand_37 : decode cX0_errand 37 = .ok (.iconst 1, 1) := dk_4 (dk_at dksX0_errand_1 13 rfl rfl)
theorem dX0_errand_38 : decode cX0_errand 38 = .ok (.invokevirtual 142, 3) := dk_182 0 142 (dk_at dksX0_errand_1 14 rfl rfl)
theorem dX0_errand_41 : decode cX0_errand 41 = .ok (.ireturn, 1) := dk_172 (dk_at dksX0_errand_1 17 rfl rfl)
theorem dX0_errand_42 : decode cX0_errand 42 = .ok (.aload_n 0, 1) := dk_42 (dk_at dksX0_errand_1 18 rfl rfl)
theorem dX0_errand_43 : decode cX0_errand 43 = .ok (.getfield 61, 3) := dk_180 0 61 (dk_at dksX0_errand_1 19 rfl rfl)
theorem dX0_errand_46 : decode cX0_errand 46 = .ok (.iload_n 1, 1) := dk_27 (dk_at dksX0_errand_1 22 rfl rfl)
theorem dX0_errand_47 : decode cX0_errand 47 = .ok (.iload_n 2, 1) := dk_28 (dk_at dksX0_errand_1 23 rfl rfl)
theorem dX0_errand_48 : decode cX0_errand 48 = .ok (.iload_n 3, 1) := dk_29 (dk_at dksX0_errand_2 0 rfl rfl)
theorem dX0_errand_49 : decode cX0_errand 49 = .ok (.invokevirtual 193, 3) := dk_182 0 193 (dk_at dksX0_errand_2 1 rfl rfl)
theorem dX0_errand_52 : decode cX0_errand 52 = .ok (.aload_n 0, 1) := dk_42 (dk_at dksX0_errand_2 4 rfl rfl)
theorem dX0_errand_53 : decode cX0_errand 53 = .ok (.getfield 61, 3) := dk_180 0 61 (dk_at dksX0_errand_2 5 rfl rfl)
theorem dX0_errand_56 : decode cX0_errand 56 = .ok (.getfield 127, 3) := dk_180 0 127 (dk_at dksX0_errand_2 8 rfl rfl)
theorem dX0_errand_59 : decode cX0_errand 59 = .ok (.iconst 1, 1) := dk_4 (dk_at dksX0_errand_2 11 rfl rfl)
theorem dX0_errand_60 : decode cX0_errand 60 = .ok (.isub, 1) := dk_100 (dk_at dksX0_errand_2 12 rfl rfl)
theorem dX0_errand_61 : decode cX0_errand 61 = .ok (.ireturn, 1) := dk_172 (dk_at dksX0_errand_2 13 rfl rfl)
abbrev cX0_errandOf : ByteArray := prog_1_method_34_code
def yX0_errandOf : MethodName := ⟨RX0, "errandOf", "(II)I"⟩
def dkwX0_errandOf_2 : List UInt8 := [182, 0, 223, 172]
abbrev dktX0_errandOf_2 : List UInt8 := dkwX0_errandOf_2 ++ []
def dkwX0_errandOf_1 : List UInt8 := [8, 162, 0, 17, 42, 180, 0, 61, 180, 0, 214, 28, 50, 27, 46, 167, 0, 12, 42, 42, 27, 182, 0, 220]
abbrev dktX0_errandOf_1 : List UInt8 := dkwX0_errandOf_1 ++ dktX0_errandOf_2
def dkwX0_errandOf_0 : List UInt8 := [42, 27, 182, 0, 217, 153, 0, 12, 28, 3, 8, 184, 0, 3, 154, 0, 9, 42, 3, 182, 0, 142, 172, 28]
abbrev dktX0_errandOf_0 : List UInt8 := dkwX0_errandOf_0 ++ dktX0_errandOf_1
theorem dksX0_errandOf_0 : cX0_errandOf.data.toList.drop 0 = dktX0_errandOf_0 := by decide +kernel
theorem dksX0_errandOf_1 : cX0_errandOf.data.toList.drop 24 = dktX0_errandOf_1 := dk_seg dksX0_errandOf_0 24 rfl rfl
theorem dksX0_errandOf_2 : cX0_errandOf.data.toList.drop 48 = dktX0_errandOf_2 := dk_seg dksX0_errandOf_1 24 rfl rfl
theorem dX0_errandOf_0 : decode cX0_errandOf 0 = .ok (.aload_n 0, 1) := dk_42 (dk_at dksX0_errandOf_0 0 rfl rfl)
theorem dX0_errandOf_1 : decode cX0_errandOf 1 = .ok (.iload_n 1, 1) := dk_27 (dk_at dksX0_errandOf_0 1 rfl rfl)
theorem dX0_errandOf_2 : decode cX0_errandOf 2 = .ok (.invokevirtual 217, 3) := dk_182 0 217 (dk_at dksX0_errandOf_0 2 rfl rfl)
theorem dX0_errandOf_5 : decode cX0_errandOf 5 = .ok (.ifCond .eq 12, 3) := dk_153 0 12 (dk_at dksX0_errandOf_0 5 rfl rfl)
theorem dX0_errandOf_8 : decode cX0_errandOf 8 = .ok (.iload_n 2, 1) := dk_28 (dk_at dksX0_errandOf_0 8 rfl rfl)
theorem dX0_errandOf_9 : decode cX0_errandOf 9 = .ok (.iconst 0, 1) := dk_3 (dk_at dksX0_errandOf_0 9 rfl rfl)
theorem dX0_errandOf_10 : decode cX0_errandOf 10 = .ok (.iconst 5, 1) := dk_8 (dk_at dksX0_errandOf_0 10 rfl rfl)
theorem dX0_errandOf_11 : decode cX0_errandOf 11 = .ok (.invokestatic 3, 3) := dk_184 0 3 (dk_at dksX0_errandOf_0 11 rfl rfl)
theorem dX0_errandOf_14 : decode cX0_errandOf 14 = .ok (.ifCond .ne 9, 3) := dk_154 0 9 (dk_at dksX0_errandOf_0 14 rfl rfl)
theorem dX0_errandOf_17 : decode cX0_errandOf 17 = .ok (.aload_n 0, 1) := dk_42 (dk_at dksX0_errandOf_0 17 rfl rfl)
theorem dX0_errandOf_18 : decode cX0_errandOf 18 = .ok (.iconst 0, 1) := dk_3 (dk_at dksX0_errandOf_0 18 rfl rfl)
theorem dX0_errandOf_19 : decode cX0_errandOf 19 = .ok (.invokevirtual 142, 3) := dk_182 0 142 (dk_at dksX0_errandOf_0 19 rfl rfl)
theorem dX0_errandOf_22 : decode cX0_errandOf 22 = .ok (.ireturn, 1) := dk_172 (dk_at dksX0_errandOf_0 22 rfl rfl)
theorem dX0_errandOf_23 : decode cX0_errandOf 23 = .ok (.iload_n 2, 1) := dk_28 (dk_at dksX0_errandOf_0 23 rfl rfl)
theorem dX0_errandOf_24 : decode cX0_errandOf 24 = .ok (.iconst 5, 1) := dk_8 (dk_at dksX0_errandOf_1 0 rfl rfl)
theorem dX0_errandOf_25 : decode cX0_errandOf 25 = .ok (.if_icmp .ge 17, 3) := dk_162 0 17 (dk_at dksX0_errandOf_1 1 rfl rfl)
theorem dX0_errandOf_28 : decode cX0_errandOf 28 = .ok (.aload_n 0, 1) := dk_42 (dk_at dksX0_errandOf_1 4 rfl rfl)
theorem dX0_errandOf_29 : decode cX0_errandOf 29 = .ok (.getfield 61, 3) := dk_180 0 61 (dk_at dksX0_errandOf_1 5 rfl rfl)
theorem dX0_errandOf_32 : decode cX0_errandOf 32 = .ok (.getfield 214, 3) := dk_180 0 214 (dk_at dksX0_errandOf_1 8 rfl rfl)
theorem dX0_errandOf_35 : decode cX0_errandOf 35 = .ok (.iload_n 2, 1) := dk_28 (dk_at dksX0_errandOf_1 11 rfl rfl)
theorem dX0_errandOf_36 : decode cX0_errandOf 36 = .ok (.aaload, 1) := dk_50 (dk_at dksX0_errandOf_1 12 rfl rfl)
theorem dX0_errandOf_37 : decode cX0_errandOf 37 = .ok (.iload_n 1, 1) := dk_27 (dk_at dksX0_errandOf_1 13 rfl rfl)
theorem dX0_errandOf_38 : decode cX0_errandOf 38 = .ok (.iaload, 1) := dk_46 (dk_at dksX0_errandOf_1 14 rfl rfl)
theorem dX0_errandOf_39 : decode cX0_errandOf 39 = .ok (.goto 12, 3) := dk_167 0 12 (dk_at dksX0_errandOf_1 15 rfl rfl)
theorem dX0_errandOf_42 : decode cX0_errandOf 42 = .ok (.aload_n 0, 1) := dk_42 (dk_at dksX0_errandOf_1 18 rfl rfl)
theorem dX0_errandOf_43 : decode cX0_errandOf 43 = .ok (.aload_n 0, 1) := dk_42 (dk_at dksX0_errandOf_1 19 rfl rfl)
theorem dX0_errandOf_44 : decode cX0_errandOf 44 = .ok (.iload_n 1, 1) := dk_27 (dk_at dksX0_errandOf_1 20 rfl rfl)
theorem dX0_errandOf_45 : decode cX0_errandOf 45 = .ok (.invokevirtual 220, 3) := dk_182 0 220 (dk_at dksX0_errandOf_1 21 rfl rfl)
theorem dX0_errandOf_48 : decode cX0_errandOf 48 = .ok (.invokevirtual 223, 3) := dk_182 0 223 (dk_at dksX0_errandOf_2 0 rfl rfl)
theorem dX0_errandOf_51 : decode cX0_errandOf 51 = .ok (.ireturn, 1) := dk_172 (dk_at dksX0_errandOf_2 3 rfl rfl)
abbrev cX0_isErrand : ByteArray := prog_1_method_17_code
def yX0_isErrand : MethodName := ⟨RX0, "isErrand", "(I)Z"⟩
def dkwX0_isErrand_0 : List UInt8 := [27, 3, 42, 180, 0, 61, 180, 0, 127, 4, 100, 184, 0, 3, 172]
abbrev dktX0_isErrand_0 : List UInt8 := dkwX0_isErrand_0 ++ []
theorem dksX0_isErrand_0 : cX0_isErrand.data.toList.drop 0 = dktX0_isErrand_0 := by decide +kernel
theorem dX0_isErrand_0 : decode cX0_isErrand 0 = .ok (.iload_n 1, 1) := dk_27 (dk_at dksX0_isErrand_0 0 rfl rfl)
theorem dX0_isErrand_1 : decode cX0_isErrand 1 = .ok (.iconst 0, 1) := dk_3 (dk_at dksX0_isErrand_0 1 rfl rfl)
theorem dX0_isErrand_2 : decode cX0_isErrand 2 = .ok (.aload_n 0, 1) := dk_42 (dk_at dksX0_isErrand_0 2 rfl rfl)
theorem dX0_isErrand_3 : decode cX0_isErrand 3 = .ok (.getfield 61, 3) := dk_180 0 61 (dk_at dksX0_isErrand_0 3 rfl rfl)
theorem dX0_isErrand_6 : decode cX0_isErrand 6 = .ok (.getfield 127, 3) := dk_180 0 127 (dk_at dksX0_isErrand_0 6 rfl rfl)
theorem dX0_isErrand_9 : decode cX0_isErrand 9 = .ok (.iconst 1, 1) := dk_4 (dk_at dksX0_isErrand_0 9 rfl rfl)
theorem dX0_isErrand_10 : decode cX0_isErrand 10 = .ok (.isub, 1) := dk_100 (dk_at dksX0_isErrand_0 10 rfl rfl)
theorem dX0_isErrand_11 : decode cX0_isErrand 11 = .ok (.invokestatic 3, 3) := dk_184 0 3 (dk_at dksX0_isErrand_0 11 rfl rfl)
theorem dX0_isErrand_14 : decode cX0_isErrand 14 = .ok (.ireturn, 1) := dk_172 (dk_at dksX0_isErrand_0 14 rfl rfl)
abbrev cX0_worthOf : ByteArray := prog_1_method_33_code
def yX0_worthOf : MethodName := ⟨RX0, "worthOf", "(I)I"⟩
def dkwX0_worthOf_3 : List UInt8 := [172]
abbrev dktX0_worthOf_3 : List UInt8 := dkwX0_worthOf_3 ++ []
def dkwX0_worthOf_2 : List UInt8 := [61, 28, 18, 196, 162, 0, 19, 42, 180, 0, 61, 180, 0, 214, 3, 50, 27, 46, 28, 104, 167, 0, 4, 2]
abbrev dktX0_worthOf_2 : List UInt8 := dkwX0_worthOf_2 ++ dktX0_worthOf_3
def dkwX0_worthOf_1 : List UInt8 := [42, 180, 0, 61, 180, 0, 214, 4, 50, 27, 46, 50, 42, 180, 0, 61, 180, 0, 214, 5, 50, 27, 46, 46]
abbrev dktX0_worthOf_1 : List UInt8 := dkwX0_worthOf_1 ++ dktX0_worthOf_2
def dkwX0_worthOf_0 : List UInt8 := [42, 42, 180, 0, 73, 3, 50, 180, 0, 109, 192, 0, 36, 42, 180, 0, 89, 182, 0, 211, 42, 180, 0, 89]
abbrev dktX0_worthOf_0 : List UInt8 := dkwX0_worthOf_0 ++ dktX0_worthOf_1
theorem dksX0_worthOf_0 : cX0_worthOf.data.toList.drop 0 = dktX0_worthOf_0 := by decide +kernel
theorem dksX0_worthOf_1 : cX0_worthOf.data.toList.drop 24 = dktX0_worthOf_1 := dk_seg dksX0_worthOf_0 24 rfl rfl
theorem dksX0_worthOf_2 : cX0_worthOf.data.toList.drop 48 = dktX0_worthOf_2 := dk_seg dksX0_worthOf_1 24 rfl rfl
theorem dksX0_worthOf_3 : cX0_worthOf.data.toList.drop 72 = dktX0_worthOf_3 := dk_seg dksX0_worthOf_2 24 rfl rfl
theorem dX0_worthOf_0 : decode cX0_worthOf 0 = .ok (.aload_n 0, 1) := dk_42 (dk_at dksX0_worthOf_0 0 rfl rfl)
theorem dX0_worthOf_1 : decode cX0_worthOf 1 = .ok (.aload_n 0, 1) := dk_42 (dk_at dksX0_worthOf_0 1 rfl rfl)
theorem dX0_worthOf_2 : decode cX0_worthOf 2 = .ok (.getfield 73, 3) := dk_180 0 73 (dk_at dksX0_worthOf_0 2 rfl rfl)
theorem dX0_worthOf_5 : decode cX0_worthOf 5 = .ok (.iconst 0, 1) := dk_3 (dk_at dksX0_worthOf_0 5 rfl rfl)
theorem dX0_worthOf_6 : decode cX0_worthOf 6 = .ok (.aaload, 1) := dk_50 (dk_at dksX0_worthOf_0 6 rfl rfl)
theorem dX0_worthOf_7 : decode cX0_worthOf 7 = .ok (.getfield 109, 3) := dk_180 0 109 (dk_at dksX0_worthOf_0 7 rfl rfl)
theorem dX0_worthOf_10 : decode cX0_worthOf 10 = .ok (.checkcast 36, 3) := dk_192 0 36 (dk_at dksX0_worthOf_0 10 rfl rfl)
theorem dX0_worthOf_13 : decode cX0_worthOf 13 = .ok (.aload_n 0, 1) := dk_42 (dk_at dksX0_worthOf_0 13 rfl rfl)
theorem dX0_worthOf_14 : decode cX0_worthOf 14 = .ok (.getfield 89, 3) := dk_180 0 89 (dk_at dksX0_worthOf_0 14 rfl rfl)
theorem dX0_worthOf_17 : decode cX0_worthOf 17 = .ok (.invokevirtual 211, 3) := dk_182 0 211 (dk_at dksX0_worthOf_0 17 rfl rfl)
theorem dX0_worthOf_20 : decode cX0_worthOf 20 = .ok (.aload_n 0, 1) := dk_42 (dk_at dksX0_worthOf_0 20 rfl rfl)
theorem dX0_worthOf_21 : decode cX0_worthOf 21 = .ok (.getfield 89, 3) := dk_180 0 89 (dk_at dksX0_worthOf_0 21 rfl rfl)
theorem dX0_worthOf_24 : decode cX0_worthOf 24 = .ok (.aload_n 0, 1) := dk_42 (dk_at dksX0_worthOf_1 0 rfl rfl)
theorem dX0_worthOf_25 : decode cX0_worthOf 25 = .ok (.getfield 61, 3) := dk_180 0 61 (dk_at dksX0_worthOf_1 1 rfl rfl)
theorem dX0_worthOf_28 : decode cX0_worthOf 28 = .ok (.getfield 214, 3) := dk_180 0 214 (dk_at dksX0_worthOf_1 4 rfl rfl)
theorem dX0_worthOf_31 : decode cX0_worthOf 31 = .ok (.iconst 1, 1) := dk_4 (dk_at dksX0_worthOf_1 7 rfl rfl)
theorem dX0_worthOf_32 : decode cX0_worthOf 32 = .ok (.aaload, 1) := dk_50 (dk_at dksX0_worthOf_1 8 rfl rfl)
theorem dX0_worthOf_33 : decode cX0_worthOf 33 = .ok (.iload_n 1, 1) := dk_27 (dk_at dksX0_worthOf_1 9 rfl rfl)
theorem dX0_worthOf_34 : decode cX0_worthOf 34 = .ok (.iaload, 1) := dk_46 (dk_at dksX0_worthOf_1 10 rfl rfl)
theorem dX0_worthOf_35 : decode cX0_worthOf 35 = .ok (.aaload, 1) := dk_50 (dk_at dksX0_worthOf_1 11 rfl rfl)
theorem dX0_worthOf_36 : decode cX0_worthOf 36 = .ok (.aload_n 0, 1) := dk_42 (dk_at dksX0_worthOf_1 12 rfl rfl)
theorem dX0_worthOf_37 : decode cX0_worthOf 37 = .ok (.getfield 61, 3) := dk_180 0 61 (dk_at dksX0_worthOf_1 13 rfl rfl)
theorem dX0_worthOf_40 : decode cX0_worthOf 40 = .ok (.getfield 214, 3) := dk_180 0 214 (dk_at dksX0_worthOf_1 16 rfl rfl)
theorem dX0_worthOf_43 : decode cX0_worthOf 43 = .ok (.iconst 2, 1) := dk_5 (dk_at dksX0_worthOf_1 19 rfl rfl)
theorem dX0_worthOf_44 : decode cX0_worthOf 44 = .ok (.aaload, 1) := dk_50 (dk_at dksX0_worthOf_1 20 rfl rfl)
theorem dX0_worthOf_45 : decode cX0_worthOf 45 = .ok (.iload_n 1, 1) := dk_27 (dk_at dksX0_worthOf_1 21 rfl rfl)
theorem dX0_worthOf_46 : decode cX0_worthOf 46 = .ok (.iaload, 1) := dk_46 (dk_at dksX0_worthOf_1 22 rfl rfl)
theorem dX0_worthOf_47 : decode cX0_worthOf 47 = .ok (.iaload, 1) := dk_46 (dk_at dksX0_worthOf_1 23 rfl rfl)
theorem dX0_worthOf_48 : decode cX0_worthOf 48 = .ok (.istore_n 2, 1) := dk_61 (dk_at dksX0_worthOf_2 0 rfl rfl)
theorem dX0_worthOf_49 : decode cX0_worthOf 49 = .ok (.iload_n 2, 1) := dk_28 (dk_at dksX0_worthOf_2 1 rfl rfl)
theorem dX0_worthOf_50 : decode cX0_worthOf 50 = .ok (.ldc 196, 2) := dk_18 196 (dk_at dksX0_worthOf_2 2 rfl rfl)
theorem dX0_worthOf_52 : decode cX0_worthOf 52 = .ok (.if_icmp .ge 19, 3) := dk_162 0 19 (dk_at dksX0_worthOf_2 4 rfl rfl)
theorem dX0_worthOf_55 : decode cX0_worthOf 55 = .ok (.aload_n 0, 1) := dk_42 (dk_at dksX0_worthOf_2 7 rfl rfl)
theorem dX0_worthOf_56 : decode cX0_worthOf 56 = .ok (.getfield 61, 3) := dk_180 0 61 (dk_at dksX0_worthOf_2 8 rfl rfl)
theorem dX0_worthOf_59 : decode cX0_worthOf 59 = .ok (.getfield 214, 3) := dk_180 0 214 (dk_at dksX0_worthOf_2 11 rfl rfl)
theorem dX0_worthOf_62 : decode cX0_worthOf 62 = .ok (.iconst 0, 1) := dk_3 (dk_at dksX0_worthOf_2 14 rfl rfl)
theorem dX0_worthOf_63 : decode cX0_worthOf 63 = .ok (.aaload, 1) := dk_50 (dk_at dksX0_worthOf_2 15 rfl rfl)
theorem dX0_worthOf_64 : decode cX0_worthOf 64 = .ok (.iload_n 1, 1) := dk_27 (dk_at dksX0_worthOf_2 16 rfl rfl)
theorem dX0_worthOf_65 : decode cX0_worthOf 65 = .ok (.iaload, 1) := dk_46 (dk_at dksX0_worthOf_2 17 rfl rfl)
theorem dX0_worthOf_66 : decode cX0_worthOf 66 = .ok (.iload_n 2, 1) := dk_28 (dk_at dksX0_worthOf_2 18 rfl rfl)
theorem dX0_worthOf_67 : decode cX0_worthOf 67 = .ok (.imul, 1) := dk_104 (dk_at dksX0_worthOf_2 19 rfl rfl)
theorem dX0_worthOf_68 : decode cX0_worthOf 68 = .ok (.goto 4, 3) := dk_167 0 4 (dk_at dksX0_worthOf_2 20 rfl rfl)
theorem dX0_worthOf_71 : decode cX0_worthOf 71 = .ok (.iconst (-1), 1) := dk_2 (dk_at dksX0_worthOf_2 23 rfl rfl)
theorem dX0_worthOf_72 : decode cX0_worthOf 72 = .ok (.ireturn, 1) := dk_172 (dk_at dksX0_worthOf_3 0 rfl rfl)
abbrev cX0_tells : ByteArray := prog_1_method_31_code
def yX0_tells : MethodName := ⟨RX0, "tells", "(LCarryFair$Carries;[[I)V"⟩
def dkwX0_tells_3 : List UInt8 := [132, 4, 1, 167, 255, 200, 132, 3, 1, 167, 255, 185, 177]
abbrev dktX0_tells_3 : List UInt8 := dkwX0_tells_3 ++ []
def dkwX0_tells_2 : List UInt8 := [21, 4, 50, 29, 46, 44, 29, 50, 21, 5, 46, 96, 184, 0, 205, 79, 132, 5, 1, 167, 255, 216]
abbrev dktX0_tells_2 : List UInt8 := dkwX0_tells_2 ++ dktX0_tells_3
def dkwX0_tells_1 : List UInt8 := [3, 54, 5, 21, 5, 16, 7, 162, 0, 39, 44, 21, 4, 50, 21, 5, 44, 21, 4, 50, 21, 5, 46, 44]
abbrev dktX0_tells_1 : List UInt8 := dkwX0_tells_1 ++ dktX0_tells_2
def dkwX0_tells_0 : List UInt8 := [42, 43, 44, 182, 0, 201, 3, 62, 29, 16, 7, 162, 0, 71, 3, 54, 4, 21, 4, 16, 7, 162, 0, 55]
abbrev dktX0_tells_0 : List UInt8 := dkwX0_tells_0 ++ dktX0_tells_1
theorem dksX0_tells_0 : cX0_tells.data.toList.drop 0 = dktX0_tells_0 := by decide +kernel
theorem dksX0_tells_1 : cX0_tells.data.toList.drop 24 = dktX0_tells_1 := dk_seg dksX0_tells_0 24 rfl rfl
theorem dksX0_tells_2 : cX0_tells.data.toList.drop 48 = dktX0_tells_2 := dk_seg dksX0_tells_1 24 rfl rfl
theorem dksX0_tells_3 : cX0_tells.data.toList.drop 70 = dktX0_tells_3 := dk_seg dksX0_tells_2 22 rfl rfl
theorem dX0_tells_0 : decode cX0_tells 0 = .ok (.aload_n 0, 1) := dk_42 (dk_at dksX0_tells_0 0 rfl rfl)
theorem dX0_tells_1 : decode cX0_tells 1 = .ok (.aload_n 1, 1) := dk_43 (dk_at dksX0_tells_0 1 rfl rfl)
theorem dX0_tells_2 : decode cX0_tells 2 = .ok (.aload_n 2, 1) := dk_44 (dk_at dksX0_tells_0 2 rfl rfl)
theorem dX0_tells_3 : decode cX0_tells 3 = .ok (.invokevirtual 201, 3) := dk_182 0 201 (dk_at dksX0_tells_0 3 rfl rfl)
theorem dX0_tells_6 : decode cX0_tells 6 = .ok (.iconst 0, 1) := dk_3 (dk_at dksX0_tells_0 6 rfl rfl)
theorem dX0_tells_7 : decode cX0_tells 7 = .ok (.istore_n 3, 1) := dk_62 (dk_at dksX0_tells_0 7 rfl rfl)
theorem dX0_tells_8 : decode cX0_tells 8 = .ok (.iload_n 3, 1) := dk_29 (dk_at dksX0_tells_0 8 rfl rfl)
theorem dX0_tells_9 : decode cX0_tells 9 = .ok (.bipush 7, 2) := dk_16 7 (dk_at dksX0_tells_0 9 rfl rfl)
theorem dX0_tells_11 : decode cX0_tells 11 = .ok (.if_icmp .ge 71, 3) := dk_162 0 71 (dk_at dksX0_tells_0 11 rfl rfl)
theorem dX0_tells_14 : decode cX0_tells 14 = .ok (.iconst 0, 1) := dk_3 (dk_at dksX0_tells_0 14 rfl rfl)
theorem dX0_tells_15 : decode cX0_tells 15 = .ok (.istore 4, 2) := dk_54 4 (dk_at dksX0_tells_0 15 rfl rfl)
theorem dX0_tells_17 : decode cX0_tells 17 = .ok (.iload 4, 2) := dk_21 4 (dk_at dksX0_tells_0 17 rfl rfl)
theorem dX0_tells_19 : decode cX0_tells 19 = .ok (.bipush 7, 2) := dk_16 7 (dk_at dksX0_tells_0 19 rfl rfl)
theorem dX0_tells_21 : decode cX0_tells 21 = .ok (.if_icmp .ge 55, 3) := dk_162 0 55 (dk_at dksX0_tells_0 21 rfl rfl)
theorem dX0_tells_24 : decode cX0_tells 24 = .ok (.iconst 0, 1) := dk_3 (dk_at dksX0_tells_1 0 rfl rfl)
theorem dX0_tells_25 : decode cX0_tells 25 = .ok (.istore 5, 2) := dk_54 5 (dk_at dksX0_tells_1 1 rfl rfl)
theorem dX0_tells_27 : decode cX0_tells 27 = .ok (.iload 5, 2) := dk_21 5 (dk_at dksX0_tells_1 3 rfl rfl)
theorem dX0_tells_29 : decode cX0_tells 29 = .ok (.bipush 7, 2) := dk_16 7 (dk_at dksX0_tells_1 5 rfl rfl)
theorem dX0_tells_31 : decode cX0_tells 31 = .ok (.if_icmp .ge 39, 3) := dk_162 0 39 (dk_at dksX0_tells_1 7 rfl rfl)
theorem dX0_tells_34 : decode cX0_tells 34 = .ok (.aload_n 2, 1) := dk_44 (dk_at dksX0_tells_1 10 rfl rfl)
theorem dX0_tells_35 : decode cX0_tells 35 = .ok (.iload 4, 2) := dk_21 4 (dk_at dksX0_tells_1 11 rfl rfl)
theorem dX0_tells_37 : decode cX0_tells 37 = .ok (.aaload, 1) := dk_50 (dk_at dksX0_tells_1 13 rfl rfl)
theorem dX0_tells_38 : decode cX0_tells 38 = .ok (.iload 5, 2) := dk_21 5 (dk_at dksX0_tells_1 14 rfl rfl)
theorem dX0_tells_40 : decode cX0_tells 40 = .ok (.aload_n 2, 1) := dk_44 (dk_at dksX0_tells_1 16 rfl rfl)
theorem dX0_tells_41 : decode cX0_tells 41 = .ok (.iload 4, 2) := dk_21 4 (dk_at dksX0_tells_1 17 rfl rfl)
theorem dX0_tells_43 : decode cX0_tells 43 = .ok (.aaload, 1) := dk_50 (dk_at dksX0_tells_1 19 rfl rfl)
theorem dX0_tells_44 : decode cX0_tells 44 = .ok (.iload 5, 2) := dk_21 5 (dk_at dksX0_tells_1 20 rfl rfl)
theorem dX0_tells_46 : decode cX0_tells 46 = .ok (.iaload, 1) := dk_46 (dk_at dksX0_tells_1 22 rfl rfl)
theorem dX0_tells_47 : decode cX0_tells 47 = .ok (.aload_n 2, 1) := dk_44 (dk_at dksX0_tells_1 23 rfl rfl)
theorem dX0_tells_48 : decode cX0_tells 48 = .ok (.iload 4, 2) := dk_21 4 (dk_at dksX0_tells_2 0 rfl rfl)
theorem dX0_tells_50 : decode cX0_tells 50 = .ok (.aaload, 1) := dk_50 (dk_at dksX0_tells_2 2 rfl rfl)
theorem dX0_tells_51 : decode cX0_tells 51 = .ok (.iload_n 3, 1) := dk_29 (dk_at dksX0_tells_2 3 rfl rfl)
theorem dX0_tells_52 : decode cX0_tells 52 = .ok (.iaload, 1) := dk_46 (dk_at dksX0_tells_2 4 rfl rfl)
theorem dX0_tells_53 : decode cX0_tells 53 = .ok (.aload_n 2, 1) := dk_44 (dk_at dksX0_tells_2 5 rfl rfl)
theorem dX0_tells_54 : decode cX0_tells 54 = .ok (.iload_n 3, 1) := dk_29 (dk_at dksX0_tells_2 6 rfl rfl)
theorem dX0_tells_55 : decode cX0_tells 55 = .ok (.aaload, 1) := dk_50 (dk_at dksX0_tells_2 7 rfl rfl)
theorem dX0_tells_56 : decode cX0_tells 56 = .ok (.iload 5, 2) := dk_21 5 (dk_at dksX0_tells_2 8 rfl rfl)
theorem dX0_tells_58 : decode cX0_tells 58 = .ok (.iaload, 1) := dk_46 (dk_at dksX0_tells_2 10 rfl rfl)
theorem dX0_tells_59 : decode cX0_tells 59 = .ok (.iadd, 1) := dk_96 (dk_at dksX0_tells_2 11 rfl rfl)
theorem dX0_tells_60 : decode cX0_tells 60 = .ok (.invokestatic 205, 3) := dk_184 0 205 (dk_at dksX0_tells_2 12 rfl rfl)
theorem dX0_tells_63 : decode cX0_tells 63 = .ok (.iastore, 1) := dk_79 (dk_at dksX0_tells_2 15 rfl rfl)
theorem dX0_tells_64 : decode cX0_tells 64 = .ok (.iinc 5 1, 3) := dk_132 5 1 (dk_at dksX0_tells_2 16 rfl rfl)
theorem dX0_tells_67 : decode cX0_tells 67 = .ok (.goto (-40), 3) := dk_167 255 216 (dk_at dksX0_tells_2 19 rfl rfl)
theorem dX0_tells_70 : decode cX0_tells 70 = .ok (.iinc 4 1, 3) := dk_132 4 1 (dk_at dksX0_tells_3 0 rfl rfl)
theorem dX0_tells_73 : decode cX0_tells 73 = .ok (.goto (-56), 3) := dk_167 255 200 (dk_at dksX0_tells_3 3 rfl rfl)
theorem dX0_tells_76 : decode cX0_tells 76 = .ok (.iinc 3 1, 3) := dk_132 3 1 (dk_at dksX0_tells_3 6 rfl rfl)
theorem dX0_tells_79 : decode cX0_tells 79 = .ok (.goto (-71), 3) := dk_167 255 185 (dk_at dksX0_tells_3 9 rfl rfl)
theorem dX0_tells_82 : decode cX0_tells 82 = .ok (.return_, 1) := dk_177 (dk_at dksX0_tells_3 12 rfl rfl)
abbrev cX0_begins : ByteArray := prog_1_method_30_code
def yX0_begins : MethodName := ⟨RX0, "begins", "(LCarryFair$Carries;[[I)V"⟩
def dkwX0_begins_4 : List UInt8 := [167, 0, 5, 21, 5, 79, 132, 4, 1, 167, 255, 167, 132, 3, 1, 167, 255, 152, 177]
abbrev dktX0_begins_4 : List UInt8 := dkwX0_begins_4 ++ []
def dkwX0_begins_3 : List UInt8 := [167, 0, 4, 3, 185, 0, 197, 3, 0, 54, 5, 44, 29, 50, 21, 4, 29, 21, 4, 160, 0, 7, 3]
abbrev dktX0_begins_3 : List UInt8 := dkwX0_begins_3 ++ dktX0_begins_4
def dkwX0_begins_2 : List UInt8 := [29, 50, 21, 4, 46, 42, 180, 0, 61, 180, 0, 190, 29, 50, 21, 4, 46, 4, 160, 0, 7, 4]
abbrev dktX0_begins_2 : List UInt8 := dkwX0_begins_2 ++ dktX0_begins_3
def dkwX0_begins_1 : List UInt8 := [180, 0, 183, 29, 50, 21, 4, 46, 154, 0, 8, 18, 196, 167, 0, 42, 43, 42, 180, 0, 61, 180, 0, 183]
abbrev dktX0_begins_1 : List UInt8 := dkwX0_begins_1 ++ dktX0_begins_2
def dkwX0_begins_0 : List UInt8 := [3, 62, 29, 16, 7, 162, 0, 104, 3, 54, 4, 21, 4, 16, 7, 162, 0, 88, 42, 180, 0, 61]
abbrev dktX0_begins_0 : List UInt8 := dkwX0_begins_0 ++ dktX0_begins_1
theorem dksX0_begins_0 : cX0_begins.data.toList.drop 0 = dktX0_begins_0 := by decide +kernel
theorem dksX0_begins_1 : cX0_begins.data.toList.drop 22 = dktX0_begins_1 := dk_seg dksX0_begins_0 22 rfl rfl
theorem dksX0_begins_2 : cX0_begins.data.toList.drop 46 = dktX0_begins_2 := dk_seg dksX0_begins_1 24 rfl rfl
theorem dksX0_begins_3 : cX0_begins.data.toList.drop 68 = dktX0_begins_3 := dk_seg dksX0_begins_2 22 rfl rfl
theorem dksX0_begins_4 : cX0_begins.data.toList.drop 91 = dktX0_begins_4 := dk_seg dksX0_begins_3 23 rfl rfl
theorem dX0_begins_0 : decode cX0_begins 0 = .ok (.iconst 0, 1) := dk_3 (dk_at dksX0_begins_0 0 rfl rfl)
theorem dX0_begins_1 : decode cX0_begins 1 = .ok (.istore_n 3, 1) := dk_62 (dk_at dksX0_begins_0 1 rfl rfl)
theorem dX0_begins_2 : decode cX0_begins 2 = .ok (.iload_n 3, 1) := dk_29 (dk_at dksX0_begins_0 2 rfl rfl)
theorem dX0_begins_3 : decode cX0_begins 3 = .ok (.bipush 7, 2) := dk_16 7 (dk_at dksX0_begins_0 3 rfl rfl)
theorem dX0_begins_5 : decode cX0_begins 5 = .ok (.if_icmp .ge 104, 3) := dk_162 0 104 (dk_at dksX0_begins_0 5 rfl rfl)
theorem dX0_begins_8 : decode cX0_begins 8 = .ok (.iconst 0, 1) := dk_3 (dk_at dksX0_begins_0 8 rfl rfl)
theorem dX0_begins_9 : decode cX0_begins 9 = .ok (.istore 4, 2) := dk_54 4 (dk_at dksX0_begins_0 9 rfl rfl)
theorem dX0_begins_11 : decode cX0_begins 11 = .ok (.iload 4, 2) := dk_21 4 (dk_at dksX0_begins_0 11 rfl rfl)
theorem dX0_begins_13 : decode cX0_begins 13 = .ok (.bipush 7, 2) := dk_16 7 (dk_at dksX0_begins_0 13 rfl rfl)
theorem dX0_begins_15 : decode cX0_begins 15 = .ok (.if_icmp .ge 88, 3) := dk_162 0 88 (dk_at dksX0_begins_0 15 rfl rfl)
theorem dX0_begins_18 : decode cX0_begins 18 = .ok (.aload_n 0, 1) := dk_42 (dk_at dksX0_begins_0 18 rfl rfl)
theorem dX0_begins_19 : decode cX0_begins 19 = .ok (.getfield 61, 3) := dk_180 0 61 (dk_at dksX0_begins_0 19 rfl rfl)
theorem dX0_begins_22 : decode cX0_begins 22 = .ok (.getfield 183, 3) := dk_180 0 183 (dk_at dksX0_begins_1 0 rfl rfl)
theorem dX0_begins_25 : decode cX0_begins 25 = .ok (.iload_n 3, 1) := dk_29 (dk_at dksX0_begins_1 3 rfl rfl)
theorem dX0_begins_26 : decode cX0_begins 26 = .ok (.aaload, 1) := dk_50 (dk_at dksX0_begins_1 4 rfl rfl)
theorem dX0_begins_27 : decode cX0_begins 27 = .ok (.iload 4, 2) := dk_21 4 (dk_at dksX0_begins_1 5 rfl rfl)
theorem dX0_begins_29 : decode cX0_begins 29 = .ok (.iaload, 1) := dk_46 (dk_at dksX0_begins_1 7 rfl rfl)
theorem dX0_begins_30 : decode cX0_begins 30 = .ok (.ifCond .ne 8, 3) := dk_154 0 8 (dk_at dksX0_begins_1 8 rfl rfl)
theorem dX0_begins_33 : decode cX0_begins 33 = .ok (.ldc 196, 2) := dk_18 196 (dk_at dksX0_begins_1 11 rfl rfl)
theorem dX0_begins_35 : decode cX0_begins 35 = .ok (.goto 42, 3) := dk_167 0 42 (dk_at dksX0_begins_1 13 rfl rfl)
theorem dX0_begins_38 : decode cX0_begins 38 = .ok (.aload_n 1, 1) := dk_43 (dk_at dksX0_begins_1 16 rfl rfl)
theorem dX0_begins_39 : decode cX0_begins 39 = .ok (.aload_n 0, 1) := dk_42 (dk_at dksX0_begins_1 17 rfl rfl)
theorem dX0_begins_40 : decode cX0_begins 40 = .ok (.getfield 61, 3) := dk_180 0 61 (dk_at dksX0_begins_1 18 rfl rfl)
theorem dX0_begins_43 : decode cX0_begins 43 = .ok (.getfield 183, 3) := dk_180 0 183 (dk_at dksX0_begins_1 21 rfl rfl)
theorem dX0_begins_46 : decode cX0_begins 46 = .ok (.iload_n 3, 1) := dk_29 (dk_at dksX0_begins_2 0 rfl rfl)
theorem dX0_begins_47 : decode cX0_begins 47 = .ok (.aaload, 1) := dk_50 (dk_at dksX0_begins_2 1 rfl rfl)
theorem dX0_begins_48 : decode cX0_begins 48 = .ok (.iload 4, 2) := dk_21 4 (dk_at dksX0_begins_2 2 rfl rfl)
theorem dX0_begins_50 : decode cX0_begins 50 = .ok (.iaload, 1) := dk_46 (dk_at dksX0_begins_2 4 rfl rfl)
theorem dX0_begins_51 : decode cX0_begins 51 = .ok (.aload_n 0, 1) := dk_42 (dk_at dksX0_begins_2 5 rfl rfl)
theorem dX0_begins_52 : decode cX0_begins 52 = .ok (.getfield 61, 3) := dk_180 0 61 (dk_at dksX0_begins_2 6 rfl rfl)
theorem dX0_begins_55 : decode cX0_begins 55 = .ok (.getfield 190, 3) := dk_180 0 190 (dk_at dksX0_begins_2 9 rfl rfl)
theorem dX0_begins_58 : decode cX0_begins 58 = .ok (.iload_n 3, 1) := dk_29 (dk_at dksX0_begins_2 12 rfl rfl)
theorem dX0_begins_59 : decode cX0_begins 59 = .ok (.aaload, 1) := dk_50 (dk_at dksX0_begins_2 13 rfl rfl)
theorem dX0_begins_60 : decode cX0_begins 60 = .ok (.iload 4, 2) := dk_21 4 (dk_at dksX0_begins_2 14 rfl rfl)
theorem dX0_begins_62 : decode cX0_begins 62 = .ok (.iaload, 1) := dk_46 (dk_at dksX0_begins_2 16 rfl rfl)
theorem dX0_begins_63 : decode cX0_begins 63 = .ok (.iconst 1, 1) := dk_4 (dk_at dksX0_begins_2 17 rfl rfl)
theorem dX0_begins_64 : decode cX0_begins 64 = .ok (.if_icmp .ne 7, 3) := dk_160 0 7 (dk_at dksX0_begins_2 18 rfl rfl)
theorem dX0_begins_67 : decode cX0_begins 67 = .ok (.iconst 1, 1) := dk_4 (dk_at dksX0_begins_2 21 rfl rfl)
theorem dX0_begins_68 : decode cX0_begins 68 = .ok (.goto 4, 3) := dk_167 0 4 (dk_at dksX0_begins_3 0 rfl rfl)
theorem dX0_begins_71 : decode cX0_begins 71 = .ok (.iconst 0, 1) := dk_3 (dk_at dksX0_begins_3 3 rfl rfl)
theorem dX0_begins_72 : decode cX0_begins 72 = .ok (.invokeinterface 197 3, 5) := by decide +kernel
theorem dX0_begins_77 : decode cX0_begins 77 = .ok (.istore 5, 2) := dk_54 5 (dk_at dksX0_begins_3 9 rfl rfl)
theorem dX0_begins_79 : decode cX0_begins 79 = .ok (.aload_n 2, 1) := dk_44 (dk_at dksX0_begins_3 11 rfl rfl)
theorem dX0_begins_80 : decode cX0_begins 80 = .ok (.iload_n 3, 1) := dk_29 (dk_at dksX0_begins_3 12 rfl rfl)
theorem dX0_begins_81 : decode cX0_begins 81 = .ok (.aaload, 1) := dk_50 (dk_at dksX0_begins_3 13 rfl rfl)
theorem dX0_begins_82 : decode cX0_begins 82 = .ok (.iload 4, 2) := dk_21 4 (dk_at dksX0_begins_3 14 rfl rfl)
theorem dX0_begins_84 : decode cX0_begins 84 = .ok (.iload_n 3, 1) := dk_29 (dk_at dksX0_begins_3 16 rfl rfl)
theorem dX0_begins_85 : decode cX0_begins 85 = .ok (.iload 4, 2) := dk_21 4 (dk_at dksX0_begins_3 17 rfl rfl)
theorem dX0_begins_87 : decode cX0_begins 87 = .ok (.if_icmp .ne 7, 3) := dk_160 0 7 (dk_at dksX0_begins_3 19 rfl rfl)
theorem dX0_begins_90 : decode cX0_begins 90 = .ok (.iconst 0, 1) := dk_3 (dk_at dksX0_begins_3 22 rfl rfl)
theorem dX0_begins_91 : decode cX0_begins 91 = .ok (.goto 5, 3) := dk_167 0 5 (dk_at dksX0_begins_4 0 rfl rfl)
theorem dX0_begins_94 : decode cX0_begins 94 = .ok (.iload 5, 2) := dk_21 5 (dk_at dksX0_begins_4 3 rfl rfl)
theorem dX0_begins_96 : decode cX0_begins 96 = .ok (.iastore, 1) := dk_79 (dk_at dksX0_begins_4 5 rfl rfl)
theorem dX0_begins_97 : decode cX0_begins 97 = .ok (.iinc 4 1, 3) := dk_132 4 1 (dk_at dksX0_begins_4 6 rfl rfl)
theorem dX0_begins_100 : decode cX0_begins 100 = .ok (.goto (-89), 3) := dk_167 255 167 (dk_at dksX0_begins_4 9 rfl rfl)
theorem dX0_begins_103 : decode cX0_begins 103 = .ok (.iinc 3 1, 3) := dk_132 3 1 (dk_at dksX0_begins_4 12 rfl rfl)
theorem dX0_begins_106 : decode cX0_begins 106 = .ok (.goto (-104), 3) := dk_167 255 152 (dk_at dksX0_begins_4 15 rfl rfl)
theorem dX0_begins_109 : decode cX0_begins 109 = .ok (.return_, 1) := dk_177 (dk_at dksX0_begins_4 18 rfl rfl)
abbrev cX0_orNone : ByteArray := prog_1_method_21_code
def yX0_orNone : MethodName := ⟨RX0, "orNone", "(I)I"⟩
def dkwX0_orNone_0 : List UInt8 := [27, 2, 160, 0, 11, 42, 6, 182, 0, 142, 167, 0, 4, 27, 172]
abbrev dktX0_orNone_0 : List UInt8 := dkwX0_orNone_0 ++ []
theorem dksX0_orNone_0 : cX0_orNone.data.toList.drop 0 = dktX0_orNone_0 := by decide +kernel
theorem dX0_orNone_0 : decode cX0_orNone 0 = .ok (.iload_n 1, 1) := dk_27 (dk_at dksX0_orNone_0 0 rfl rfl)
theorem dX0_orNone_1 : decode cX0_orNone 1 = .ok (.iconst (-1), 1) := dk_2 (dk_at dksX0_orNone_0 1 rfl rfl)
theorem dX0_orNone_2 : decode cX0_orNone 2 = .ok (.if_icmp .ne 11, 3) := dk_160 0 11 (dk_at dksX0_orNone_0 2 rfl rfl)
theorem dX0_orNone_5 : decode cX0_orNone 5 = .ok (.aload_n 0, 1) := dk_42 (dk_at dksX0_orNone_0 5 rfl rfl)
theorem dX0_orNone_6 : decode cX0_orNone 6 = .ok (.iconst 3, 1) := dk_6 (dk_at dksX0_orNone_0 6 rfl rfl)
theorem dX0_orNone_7 : decode cX0_orNone 7 = .ok (.invokevirtual 142, 3) := dk_182 0 142 (dk_at dksX0_orNone_0 7 rfl rfl)
theorem dX0_orNone_10 : decode cX0_orNone 10 = .ok (.goto 4, 3) := dk_167 0 4 (dk_at dksX0_orNone_0 10 rfl rfl)
theorem dX0_orNone_13 : decode cX0_orNone 13 = .ok (.iload_n 1, 1) := dk_27 (dk_at dksX0_orNone_0 13 rfl rfl)
theorem dX0_orNone_14 : decode cX0_orNone 14 = .ok (.ireturn, 1) := dk_172 (dk_at dksX0_orNone_0 14 rfl rfl)
abbrev cX0_ware : ByteArray := prog_1_method_35_code
def yX0_ware : MethodName := ⟨RX0, "ware", "(I)I"⟩
def dkwX0_ware_2 : List UInt8 := [4, 100, 172]
abbrev dktX0_ware_2 : List UInt8 := dkwX0_ware_2 ++ []
def dkwX0_ware_1 : List UInt8 := [160, 0, 9, 42, 4, 182, 0, 142, 172, 42, 180, 0, 61, 27, 182, 0, 229, 42, 180, 0, 61, 180, 0, 130]
abbrev dktX0_ware_1 : List UInt8 := dkwX0_ware_1 ++ dktX0_ware_2
def dkwX0_ware_0 : List UInt8 := [27, 184, 0, 226, 154, 0, 9, 42, 3, 182, 0, 142, 172, 42, 180, 0, 61, 180, 0, 130, 16, 6]
abbrev dktX0_ware_0 : List UInt8 := dkwX0_ware_0 ++ dktX0_ware_1
theorem dksX0_ware_0 : cX0_ware.data.toList.drop 0 = dktX0_ware_0 := by decide +kernel
theorem dksX0_ware_1 : cX0_ware.data.toList.drop 22 = dktX0_ware_1 := dk_seg dksX0_ware_0 22 rfl rfl
theorem dksX0_ware_2 : cX0_ware.data.toList.drop 46 = dktX0_ware_2 := dk_seg dksX0_ware_1 24 rfl rfl
theorem dX0_ware_0 : decode cX0_ware 0 = .ok (.iload_n 1, 1) := dk_27 (dk_at dksX0_ware_0 0 rfl rfl)
theorem dX0_ware_1 : decode cX0_ware 1 = .ok (.invokestatic 226, 3) := dk_184 0 226 (dk_at dksX0_ware_0 1 rfl rfl)
theorem dX0_ware_4 : decode cX0_ware 4 = .ok (.ifCond .ne 9, 3) := dk_154 0 9 (dk_at dksX0_ware_0 4 rfl rfl)
theorem dX0_ware_7 : decode cX0_ware 7 = .ok (.aload_n 0, 1) := dk_42 (dk_at dksX0_ware_0 7 rfl rfl)
theorem dX0_ware_8 : decode cX0_ware 8 = .ok (.iconst 0, 1) := dk_3 (dk_at dksX0_ware_0 8 rfl rfl)
theorem dX0_ware_9 : decode cX0_ware 9 = .ok (.invokevirtual 142, 3) := dk_182 0 142 (dk_at dksX0_ware_0 9 rfl rfl)
theorem dX0_ware_12 : decode cX0_ware 12 = .ok (.ireturn, 1) := dk_172 (dk_at dksX0_ware_0 12 rfl rfl)
theorem dX0_ware_13 : decode cX0_ware 13 = .ok (.aload_n 0, 1) := dk_42 (dk_at dksX0_ware_0 13 rfl rfl)
theorem dX0_ware_14 : decode cX0_ware 14 = .ok (.getfield 61, 3) := dk_180 0 61 (dk_at dksX0_ware_0 14 rfl rfl)
theorem dX0_ware_17 : decode cX0_ware 17 = .ok (.getfield 130, 3) := dk_180 0 130 (dk_at dksX0_ware_0 17 rfl rfl)
theorem dX0_ware_20 : decode cX0_ware 20 = .ok (.bipush 6, 2) := dk_16 6 (dk_at dksX0_ware_0 20 rfl rfl)
theorem dX0_ware_22 : decode cX0_ware 22 = .ok (.if_icmp .ne 9, 3) := dk_160 0 9 (dk_at dksX0_ware_1 0 rfl rfl)
theorem dX0_ware_25 : decode cX0_ware 25 = .ok (.aload_n 0, 1) := dk_42 (dk_at dksX0_ware_1 3 rfl rfl)
theorem dX0_ware_26 : decode cX0_ware 26 = .ok (.iconst 1, 1) := dk_4 (dk_at dksX0_ware_1 4 rfl rfl)
theorem dX0_ware_27 : decode cX0_ware 27 = .ok (.invokevirtual 142, 3) := dk_182 0 142 (dk_at dksX0_ware_1 5 rfl rfl)
theorem dX0_ware_30 : decode cX0_ware 30 = .ok (.ireturn, 1) := dk_172 (dk_at dksX0_ware_1 8 rfl rfl)
theorem dX0_ware_31 : decode cX0_ware 31 = .ok (.aload_n 0, 1) := dk_42 (dk_at dksX0_ware_1 9 rfl rfl)
theorem dX0_ware_32 : decode cX0_ware 32 = .ok (.getfield 61, 3) := dk_180 0 61 (dk_at dksX0_ware_1 10 rfl rfl)
theorem dX0_ware_35 : decode cX0_ware 35 = .ok (.iload_n 1, 1) := dk_27 (dk_at dksX0_ware_1 13 rfl rfl)
theorem dX0_ware_36 : decode cX0_ware 36 = .ok (.invokevirtual 229, 3) := dk_182 0 229 (dk_at dksX0_ware_1 14 rfl rfl)
theorem dX0_ware_39 : decode cX0_ware 39 = .ok (.aload_n 0, 1) := dk_42 (dk_at dksX0_ware_1 17 rfl rfl)
theorem dX0_ware_40 : decode cX0_ware 40 = .ok (.getfield 61, 3) := dk_180 0 61 (dk_at dksX0_ware_1 18 rfl rfl)
theorem dX0_ware_43 : decode cX0_ware 43 = .ok (.getfield 130, 3) := dk_180 0 130 (dk_at dksX0_ware_1 21 rfl rfl)
theorem dX0_ware_46 : decode cX0_ware 46 = .ok (.iconst 1, 1) := dk_4 (dk_at dksX0_ware_2 0 rfl rfl)
theorem dX0_ware_47 : decode cX0_ware 47 = .ok (.isub, 1) := dk_100 (dk_at dksX0_ware_2 1 rfl rfl)
theorem dX0_ware_48 : decode cX0_ware 48 = .ok (.ireturn, 1) := dk_172 (dk_at dksX0_ware_2 2 rfl rfl)
abbrev cX0_isPrice : ByteArray := prog_1_method_8_code
def yX0_isPrice : MethodName := ⟨RX0, "isPrice", "(I)Z"⟩
def dkwX0_isPrice_0 : List UInt8 := [26, 4, 17, 39, 15, 184, 0, 3, 172]
abbrev dktX0_isPrice_0 : List UInt8 := dkwX0_isPrice_0 ++ []
theorem dksX0_isPrice_0 : cX0_isPrice.data.toList.drop 0 = dktX0_isPrice_0 := by decide +kernel
theorem dX0_isPrice_0 : decode cX0_isPrice 0 = .ok (.iload_n 0, 1) := dk_26 (dk_at dksX0_isPrice_0 0 rfl rfl)
theorem dX0_isPrice_1 : decode cX0_isPrice 1 = .ok (.iconst 1, 1) := dk_4 (dk_at dksX0_isPrice_0 1 rfl rfl)
theorem dX0_isPrice_2 : decode cX0_isPrice 2 = .ok (.sipush 9999, 3) := dk_17 39 15 (dk_at dksX0_isPrice_0 2 rfl rfl)
theorem dX0_isPrice_5 : decode cX0_isPrice 5 = .ok (.invokestatic 3, 3) := dk_184 0 3 (dk_at dksX0_isPrice_0 5 rfl rfl)
theorem dX0_isPrice_8 : decode cX0_isPrice 8 = .ok (.ireturn, 1) := dk_172 (dk_at dksX0_isPrice_0 8 rfl rfl)
abbrev cX0_wareOf : ByteArray := prog_1_method_36_code
def yX0_wareOf : MethodName := ⟨RX0, "wareOf", "(II)I"⟩
def dkwX0_wareOf_1 : List UInt8 := [28, 50, 27, 46, 167, 0, 8, 42, 3, 182, 0, 142, 172]
abbrev dktX0_wareOf_1 : List UInt8 := dkwX0_wareOf_1 ++ []
def dkwX0_wareOf_0 : List UInt8 := [42, 27, 182, 0, 233, 153, 0, 26, 28, 3, 4, 184, 0, 3, 153, 0, 17, 42, 180, 0, 61, 180, 0, 236]
abbrev dktX0_wareOf_0 : List UInt8 := dkwX0_wareOf_0 ++ dktX0_wareOf_1
theorem dksX0_wareOf_0 : cX0_wareOf.data.toList.drop 0 = dktX0_wareOf_0 := by decide +kernel
theorem dksX0_wareOf_1 : cX0_wareOf.data.toList.drop 24 = dktX0_wareOf_1 := dk_seg dksX0_wareOf_0 24 rfl rfl
theorem dX0_wareOf_0 : decode cX0_wareOf 0 = .ok (.aload_n 0, 1) := dk_42 (dk_at dksX0_wareOf_0 0 rfl rfl)
theorem dX0_wareOf_1 : decode cX0_wareOf 1 = .ok (.iload_n 1, 1) := dk_27 (dk_at dksX0_wareOf_0 1 rfl rfl)
theorem dX0_wareOf_2 : decode cX0_wareOf 2 = .ok (.invokevirtual 233, 3) := dk_182 0 233 (dk_at dksX0_wareOf_0 2 rfl rfl)
theorem dX0_wareOf_5 : decode cX0_wareOf 5 = .ok (.ifCond .eq 26, 3) := dk_153 0 26 (dk_at dksX0_wareOf_0 5 rfl rfl)
theorem dX0_wareOf_8 : decode cX0_wareOf 8 = .ok (.iload_n 2, 1) := dk_28 (dk_at dksX0_wareOf_0 8 rfl rfl)
theorem dX0_wareOf_9 : decode cX0_wareOf 9 = .ok (.iconst 0, 1) := dk_3 (dk_at dksX0_wareOf_0 9 rfl rfl)
theorem dX0_wareOf_10 : decode cX0_wareOf 10 = .ok (.iconst 1, 1) := dk_4 (dk_at dksX0_wareOf_0 10 rfl rfl)
theorem dX0_wareOf_11 : decode cX0_wareOf 11 = .ok (.invokestatic 3, 3) := dk_184 0 3 (dk_at dksX0_wareOf_0 11 rfl rfl)
theorem dX0_wareOf_14 : decode cX0_wareOf 14 = .ok (.ifCond .eq 17, 3) := dk_153 0 17 (dk_at dksX0_wareOf_0 14 rfl rfl)
theorem dX0_wareOf_17 : decode cX0_wareOf 17 = .ok (.aload_n 0, 1) := dk_42 (dk_at dksX0_wareOf_0 17 rfl rfl)
theorem dX0_wareOf_18 : decode cX0_wareOf 18 = .ok (.getfield 61, 3) := dk_180 0 61 (dk_at dksX0_wareOf_0 18 rfl rfl)
theorem dX0_wareOf_21 : decode cX0_wareOf 21 = .ok (.getfield 236, 3) := dk_180 0 236 (dk_at dksX0_wareOf_0 21 rfl rfl)
theorem dX0_wareOf_24 : decode cX0_wareOf 24 = .ok (.iload_n 2, 1) := dk_28 (dk_at dksX0_wareOf_1 0 rfl rfl)
theorem dX0_wareOf_25 : decode cX0_wareOf 25 = .ok (.aaload, 1) := dk_50 (dk_at dksX0_wareOf_1 1 rfl rfl)
theorem dX0_wareOf_26 : decode cX0_wareOf 26 = .ok (.iload_n 1, 1) := dk_27 (dk_at dksX0_wareOf_1 2 rfl rfl)
theorem dX0_wareOf_27 : decode cX0_wareOf 27 = .ok (.iaload, 1) := dk_46 (dk_at dksX0_wareOf_1 3 rfl rfl)
theorem dX0_wareOf_28 : decode cX0_wareOf 28 = .ok (.goto 8, 3) := dk_167 0 8 (dk_at dksX0_wareOf_1 4 rfl rfl)
theorem dX0_wareOf_31 : decode cX0_wareOf 31 = .ok (.aload_n 0, 1) := dk_42 (dk_at dksX0_wareOf_1 7 rfl rfl)
theorem dX0_wareOf_32 : decode cX0_wareOf 32 = .ok (.iconst 0, 1) := dk_3 (dk_at dksX0_wareOf_1 8 rfl rfl)
theorem dX0_wareOf_33 : decode cX0_wareOf 33 = .ok (.invokevirtual 142, 3) := dk_182 0 142 (dk_at dksX0_wareOf_1 9 rfl rfl)
theorem dX0_wareOf_36 : decode cX0_wareOf 36 = .ok (.ireturn, 1) := dk_172 (dk_at dksX0_wareOf_1 12 rfl rfl)
abbrev cX0_isWare : ByteArray := prog_1_method_18_code
def yX0_isWare : MethodName := ⟨RX0, "isWare", "(I)Z"⟩
def dkwX0_isWare_0 : List UInt8 := [27, 3, 42, 180, 0, 61, 180, 0, 130, 4, 100, 184, 0, 3, 172]
abbrev dktX0_isWare_0 : List UInt8 := dkwX0_isWare_0 ++ []
theorem dksX0_isWare_0 : cX0_isWare.data.toList.drop 0 = dktX0_isWare_0 := by decide +kernel
theorem dX0_isWare_0 : decode cX0_isWare 0 = .ok (.iload_n 1, 1) := dk_27 (dk_at dksX0_isWare_0 0 rfl rfl)
theorem dX0_isWare_1 : decode cX0_isWare 1 = .ok (.iconst 0, 1) := dk_3 (dk_at dksX0_isWare_0 1 rfl rfl)
theorem dX0_isWare_2 : decode cX0_isWare 2 = .ok (.aload_n 0, 1) := dk_42 (dk_at dksX0_isWare_0 2 rfl rfl)
theorem dX0_isWare_3 : decode cX0_isWare 3 = .ok (.getfield 61, 3) := dk_180 0 61 (dk_at dksX0_isWare_0 3 rfl rfl)
theorem dX0_isWare_6 : decode cX0_isWare 6 = .ok (.getfield 130, 3) := dk_180 0 130 (dk_at dksX0_isWare_0 6 rfl rfl)
theorem dX0_isWare_9 : decode cX0_isWare 9 = .ok (.iconst 1, 1) := dk_4 (dk_at dksX0_isWare_0 9 rfl rfl)
theorem dX0_isWare_10 : decode cX0_isWare 10 = .ok (.isub, 1) := dk_100 (dk_at dksX0_isWare_0 10 rfl rfl)
theorem dX0_isWare_11 : decode cX0_isWare 11 = .ok (.invokestatic 3, 3) := dk_184 0 3 (dk_at dksX0_isWare_0 11 rfl rfl)
theorem dX0_isWare_14 : decode cX0_isWare 14 = .ok (.ireturn, 1) := dk_172 (dk_at dksX0_isWare_0 14 rfl rfl)
abbrev cX0_far : ByteArray := prog_1_method_38_code
def yX0_far : MethodName := ⟨RX0, "far", "(III)I"⟩
def dkwX0_far_1 : List UInt8 := [27, 28, 29, 182, 0, 242, 182, 0, 223, 167, 0, 8, 42, 3, 182, 0, 142, 172]
abbrev dktX0_far_1 : List UInt8 := dkwX0_far_1 ++ []
def dkwX0_far_0 : List UInt8 := [42, 27, 182, 0, 161, 153, 0, 31, 28, 184, 0, 7, 153, 0, 24, 29, 184, 0, 7, 153, 0, 17, 42, 42]
abbrev dktX0_far_0 : List UInt8 := dkwX0_far_0 ++ dktX0_far_1
theorem dksX0_far_0 : cX0_far.data.toList.drop 0 = dktX0_far_0 := by decide +kernel
theorem dksX0_far_1 : cX0_far.data.toList.drop 24 = dktX0_far_1 := dk_seg dksX0_far_0 24 rfl rfl
theorem dX0_far_0 : decode cX0_far 0 = .ok (.aload_n 0, 1) := dk_42 (dk_at dksX0_far_0 0 rfl rfl)
theorem dX0_far_1 : decode cX0_far 1 = .ok (.iload_n 1, 1) := dk_27 (dk_at dksX0_far_0 1 rfl rfl)
theorem dX0_far_2 : decode cX0_far 2 = .ok (.invokevirtual 161, 3) := dk_182 0 161 (dk_at dksX0_far_0 2 rfl rfl)
theorem dX0_far_5 : decode cX0_far 5 = .ok (.ifCond .eq 31, 3) := dk_153 0 31 (dk_at dksX0_far_0 5 rfl rfl)
theorem dX0_far_8 : decode cX0_far 8 = .ok (.iload_n 2, 1) := dk_28 (dk_at dksX0_far_0 8 rfl rfl)
theorem dX0_far_9 : decode cX0_far 9 = .ok (.invokestatic 7, 3) := dk_184 0 7 (dk_at dksX0_far_0 9 rfl rfl)
theorem dX0_far_12 : decode cX0_far 12 = .ok (.ifCond .eq 24, 3) := dk_153 0 24 (dk_at dksX0_far_0 12 rfl rfl)
theorem dX0_far_15 : decode cX0_far 15 = .ok (.iload_n 3, 1) := dk_29 (dk_at dksX0_far_0 15 rfl rfl)
theorem dX0_far_16 : decode cX0_far 16 = .ok (.invokestatic 7, 3) := dk_184 0 7 (dk_at dksX0_far_0 16 rfl rfl)
theorem dX0_far_19 : decode cX0_far 19 = .ok (.ifCond .eq 17, 3) := dk_153 0 17 (dk_at dksX0_far_0 19 rfl rfl)
theorem dX0_far_22 : decode cX0_far 22 = .ok (.aload_n 0, 1) := dk_42 (dk_at dksX0_far_0 22 rfl rfl)
theorem dX0_far_23 : decode cX0_far 23 = .ok (.aload_n 0, 1) := dk_42 (dk_at dksX0_far_0 23 rfl rfl)
theorem dX0_far_24 : decode cX0_far 24 = .ok (.iload_n 1, 1) := dk_27 (dk_at dksX0_far_1 0 rfl rfl)
theorem dX0_far_25 : decode cX0_far 25 = .ok (.iload_n 2, 1) := dk_28 (dk_at dksX0_far_1 1 rfl rfl)
theorem dX0_far_26 : decode cX0_far 26 = .ok (.iload_n 3, 1) := dk_29 (dk_at dksX0_far_1 2 rfl rfl)
theorem dX0_far_27 : decode cX0_far 27 = .ok (.invokevirtual 242, 3) := dk_182 0 242 (dk_at dksX0_far_1 3 rfl rfl)
theorem dX0_far_30 : decode cX0_far 30 = .ok (.invokevirtual 223, 3) := dk_182 0 223 (dk_at dksX0_far_1 6 rfl rfl)
theorem dX0_far_33 : decode cX0_far 33 = .ok (.goto 8, 3) := dk_167 0 8 (dk_at dksX0_far_1 9 rfl rfl)
theorem dX0_far_36 : decode cX0_far 36 = .ok (.aload_n 0, 1) := dk_42 (dk_at dksX0_far_1 12 rfl rfl)
theorem dX0_far_37 : decode cX0_far 37 = .ok (.iconst 0, 1) := dk_3 (dk_at dksX0_far_1 13 rfl rfl)
theorem dX0_far_38 : decode cX0_far 38 = .ok (.invokevirtual 142, 3) := dk_182 0 142 (dk_at dksX0_far_1 14 rfl rfl)
theorem dX0_far_41 : decode cX0_far 41 = .ok (.ireturn, 1) := dk_172 (dk_at dksX0_far_1 17 rfl rfl)
abbrev cX0_farOf : ByteArray := prog_1_method_37_code
def yX0_farOf : MethodName := ⟨RX0, "farOf", "(III)I"⟩
def dkwX0_farOf_1 : List UInt8 := [29, 46, 167, 0, 4, 2, 172]
abbrev dktX0_farOf_1 : List UInt8 := dkwX0_farOf_1 ++ []
def dkwX0_farOf_0 : List UInt8 := [42, 27, 182, 0, 239, 42, 180, 0, 92, 28, 50, 29, 46, 18, 196, 162, 0, 14, 42, 180, 0, 92, 28, 50]
abbrev dktX0_farOf_0 : List UInt8 := dkwX0_farOf_0 ++ dktX0_farOf_1
theorem dksX0_farOf_0 : cX0_farOf.data.toList.drop 0 = dktX0_farOf_0 := by decide +kernel
theorem dksX0_farOf_1 : cX0_farOf.data.toList.drop 24 = dktX0_farOf_1 := dk_seg dksX0_farOf_0 24 rfl rfl
theorem dX0_farOf_0 : decode cX0_farOf 0 = .ok (.aload_n 0, 1) := dk_42 (dk_at dksX0_farOf_0 0 rfl rfl)
theorem dX0_farOf_1 : decode cX0_farOf 1 = .ok (.iload_n 1, 1) := dk_27 (dk_at dksX0_farOf_0 1 rfl rfl)
theorem dX0_farOf_2 : decode cX0_farOf 2 = .ok (.invokevirtual 239, 3) := dk_182 0 239 (dk_at dksX0_farOf_0 2 rfl rfl)
theorem dX0_farOf_5 : decode cX0_farOf 5 = .ok (.aload_n 0, 1) := dk_42 (dk_at dksX0_farOf_0 5 rfl rfl)
theorem dX0_farOf_6 : decode cX0_farOf 6 = .ok (.getfield 92, 3) := dk_180 0 92 (dk_at dksX0_farOf_0 6 rfl rfl)
theorem dX0_farOf_9 : decode cX0_farOf 9 = .ok (.iload_n 2, 1) := dk_28 (dk_at dksX0_farOf_0 9 rfl rfl)
theorem dX0_farOf_10 : decode cX0_farOf 10 = .ok (.aaload, 1) := dk_50 (dk_at dksX0_farOf_0 10 rfl rfl)
theorem dX0_farOf_11 : decode cX0_farOf 11 = .ok (.iload_n 3, 1) := dk_29 (dk_at dksX0_farOf_0 11 rfl rfl)
theorem dX0_farOf_12 : decode cX0_farOf 12 = .ok (.iaload, 1) := dk_46 (dk_at dksX0_farOf_0 12 rfl rfl)
theorem dX0_farOf_13 : decode cX0_farOf 13 = .ok (.ldc 196, 2) := dk_18 196 (dk_at dksX0_farOf_0 13 rfl rfl)
theorem dX0_farOf_15 : decode cX0_farOf 15 = .ok (.if_icmp .ge 14, 3) := dk_162 0 14 (dk_at dksX0_farOf_0 15 rfl rfl)
theorem dX0_farOf_18 : decode cX0_farOf 18 = .ok (.aload_n 0, 1) := dk_42 (dk_at dksX0_farOf_0 18 rfl rfl)
theorem dX0_farOf_19 : decode cX0_farOf 19 = .ok (.getfield 92, 3) := dk_180 0 92 (dk_at dksX0_farOf_0 19 rfl rfl)
theorem dX0_farOf_22 : decode cX0_farOf 22 = .ok (.iload_n 2, 1) := dk_28 (dk_at dksX0_farOf_0 22 rfl rfl)
theorem dX0_farOf_23 : decode cX0_farOf 23 = .ok (.aaload, 1) := dk_50 (dk_at dksX0_farOf_0 23 rfl rfl)
theorem dX0_farOf_24 : decode cX0_farOf 24 = .ok (.iload_n 3, 1) := dk_29 (dk_at dksX0_farOf_1 0 rfl rfl)
theorem dX0_farOf_25 : decode cX0_farOf 25 = .ok (.iaload, 1) := dk_46 (dk_at dksX0_farOf_1 1 rfl rfl)
theorem dX0_farOf_26 : decode cX0_farOf 26 = .ok (.goto 4, 3) := dk_167 0 4 (dk_at dksX0_farOf_1 2 rfl rfl)
theorem dX0_farOf_29 : decode cX0_farOf 29 = .ok (.iconst (-1), 1) := dk_2 (dk_at dksX0_farOf_1 5 rfl rfl)
theorem dX0_farOf_30 : decode cX0_farOf 30 = .ok (.ireturn, 1) := dk_172 (dk_at dksX0_farOf_1 6 rfl rfl)
abbrev cX0_tellsFor : ByteArray := prog_1_method_32_code
def yX0_tellsFor : MethodName := ⟨RX0, "tellsFor", "(I)V"⟩
def dkwX0_tellsFor_0 : List UInt8 := [42, 42, 27, 182, 0, 148, 42, 180, 0, 92, 182, 0, 211, 177]
abbrev dktX0_tellsFor_0 : List UInt8 := dkwX0_tellsFor_0 ++ []
theorem dksX0_tellsFor_0 : cX0_tellsFor.data.toList.drop 0 = dktX0_tellsFor_0 := by decide +kernel
theorem dX0_tellsFor_0 : decode cX0_tellsFor 0 = .ok (.aload_n 0, 1) := dk_42 (dk_at dksX0_tellsFor_0 0 rfl rfl)
theorem dX0_tellsFor_1 : decode cX0_tellsFor 1 = .ok (.aload_n 0, 1) := dk_42 (dk_at dksX0_tellsFor_0 1 rfl rfl)
theorem dX0_tellsFor_2 : decode cX0_tellsFor 2 = .ok (.iload_n 1, 1) := dk_27 (dk_at dksX0_tellsFor_0 2 rfl rfl)
theorem dX0_tellsFor_3 : decode cX0_tellsFor 3 = .ok (.invokevirtual 148, 3) := dk_182 0 148 (dk_at dksX0_tellsFor_0 3 rfl rfl)
theorem dX0_tellsFor_6 : decode cX0_tellsFor 6 = .ok (.aload_n 0, 1) := dk_42 (dk_at dksX0_tellsFor_0 6 rfl rfl)
theorem dX0_tellsFor_7 : decode cX0_tellsFor 7 = .ok (.getfield 92, 3) := dk_180 0 92 (dk_at dksX0_tellsFor_0 7 rfl rfl)
theorem dX0_tellsFor_10 : decode cX0_tellsFor 10 = .ok (.invokevirtual 211, 3) := dk_182 0 211 (dk_at dksX0_tellsFor_0 10 rfl rfl)
theorem dX0_tellsFor_13 : decode cX0_tellsFor 13 = .ok (.return_, 1) := dk_177 (dk_at dksX0_tellsFor_0 13 rfl rfl)
abbrev cX0_first : ByteArray := prog_1_method_40_code
def yX0_first : MethodName := ⟨RX0, "first", "(II)I"⟩
def dkwX0_first_2 : List UInt8 := [182, 0, 142, 172, 29, 28, 160, 0, 7, 28, 167, 0, 10, 42, 27, 29, 28, 182, 0, 246, 172]
abbrev dktX0_first_2 : List UInt8 := dkwX0_first_2 ++ []
def dkwX0_first_1 : List UInt8 := [180, 0, 61, 180, 0, 113, 4, 50, 27, 46, 62, 42, 27, 29, 28, 182, 0, 242, 2, 160, 0, 9, 42, 6]
abbrev dktX0_first_1 : List UInt8 := dkwX0_first_1 ++ dktX0_first_2
def dkwX0_first_0 : List UInt8 := [42, 27, 182, 0, 161, 153, 0, 10, 28, 184, 0, 7, 154, 0, 9, 42, 3, 182, 0, 142, 172, 42]
abbrev dktX0_first_0 : List UInt8 := dkwX0_first_0 ++ dktX0_first_1
theorem dksX0_first_0 : cX0_first.data.toList.drop 0 = dktX0_first_0 := by decide +kernel
theorem dksX0_first_1 : cX0_first.data.toList.drop 22 = dktX0_first_1 := dk_seg dksX0_first_0 22 rfl rfl
theorem dksX0_first_2 : cX0_first.data.toList.drop 46 = dktX0_first_2 := dk_seg dksX0_first_1 24 rfl rfl
theorem dX0_first_0 : decode cX0_first 0 = .ok (.aload_n 0, 1) := dk_42 (dk_at dksX0_first_0 0 rfl rfl)
theorem dX0_first_1 : decode cX0_first 1 = .ok (.iload_n 1, 1) := dk_27 (dk_at dksX0_first_0 1 rfl rfl)
theorem dX0_first_2 : decode cX0_first 2 = .ok (.invokevirtual 161, 3) := dk_182 0 161 (dk_at dksX0_first_0 2 rfl rfl)
theorem dX0_first_5 : decode cX0_first 5 = .ok (.ifCond .eq 10, 3) := dk_153 0 10 (dk_at dksX0_first_0 5 rfl rfl)
theorem dX0_first_8 : decode cX0_first 8 = .ok (.iload_n 2, 1) := dk_28 (dk_at dksX0_first_0 8 rfl rfl)
theorem dX0_first_9 : decode cX0_first 9 = .ok (.invokestatic 7, 3) := dk_184 0 7 (dk_at dksX0_first_0 9 rfl rfl)
theorem dX0_first_12 : decode cX0_first 12 = .ok (.ifCond .ne 9, 3) := dk_154 0 9 (dk_at dksX0_first_0 12 rfl rfl)
theorem dX0_first_15 : decode cX0_first 15 = .ok (.aload_n 0, 1) := dk_42 (dk_at dksX0_first_0 15 rfl rfl)
theorem dX0_first_16 : decode cX0_first 16 = .ok (.iconst 0, 1) := dk_3 (dk_at dksX0_first_0 16 rfl rfl)
theorem dX0_first_17 : decode cX0_first 17 = .ok (.invokevirtual 142, 3) := dk_182 0 142 (dk_at dksX0_first_0 17 rfl rfl)
theorem dX0_first_20 : decode cX0_first 20 = .ok (.ireturn, 1) := dk_172 (dk_at dksX0_first_0 20 rfl rfl)
theorem dX0_first_21 : decode cX0_first 21 = .ok (.aload_n 0, 1) := dk_42 (dk_at dksX0_first_0 21 rfl rfl)
theorem dX0_first_22 : decode cX0_first 22 = .ok (.getfield 61, 3) := dk_180 0 61 (dk_at dksX0_first_1 0 rfl rfl)
theorem dX0_first_25 : decode cX0_first 25 = .ok (.getfield 113, 3) := dk_180 0 113 (dk_at dksX0_first_1 3 rfl rfl)
theorem dX0_first_28 : decode cX0_first 28 = .ok (.iconst 1, 1) := dk_4 (dk_at dksX0_first_1 6 rfl rfl)
theorem dX0_first_29 : decode cX0_first 29 = .ok (.aaload, 1) := dk_50 (dk_at dksX0_first_1 7 rfl rfl)
theorem dX0_first_30 : decode cX0_first 30 = .ok (.iload_n 1, 1) := dk_27 (dk_at dksX0_first_1 8 rfl rfl)
theorem dX0_first_31 : decode cX0_first 31 = .ok (.iaload, 1) := dk_46 (dk_at dksX0_first_1 9 rfl rfl)
theorem dX0_first_32 : decode cX0_first 32 = .ok (.istore_n 3, 1) := dk_62 (dk_at dksX0_first_1 10 rfl rfl)
theorem dX0_first_33 : decode cX0_first 33 = .ok (.aload_n 0, 1) := dk_42 (dk_at dksX0_first_1 11 rfl rfl)
theorem dX0_first_34 : decode cX0_first 34 = .ok (.iload_n 1, 1) := dk_27 (dk_at dksX0_first_1 12 rfl rfl)
theorem dX0_first_35 : decode cX0_first 35 = .ok (.iload_n 3, 1) := dk_29 (dk_at dksX0_first_1 13 rfl rfl)
theorem dX0_first_36 : decode cX0_first 36 = .ok (.iload_n 2, 1) := dk_28 (dk_at dksX0_first_1 14 rfl rfl)
theorem dX0_first_37 : decode cX0_first 37 = .ok (.invokevirtual 242, 3) := dk_182 0 242 (dk_at dksX0_first_1 15 rfl rfl)
theorem dX0_first_40 : decode cX0_first 40 = .ok (.iconst (-1), 1) := dk_2 (dk_at dksX0_first_1 18 rfl rfl)
theorem dX0_first_41 : decode cX0_first 41 = .ok (.if_icmp .ne 9, 3) := dk_160 0 9 (dk_at dksX0_first_1 19 rfl rfl)
theorem dX0_first_44 : decode cX0_first 44 = .ok (.aload_n 0, 1) := dk_42 (dk_at dksX0_first_1 22 rfl rfl)
theorem dX0_first_45 : decode cX0_first 45 = .ok (.iconst 3, 1) := dk_6 (dk_at dksX0_first_1 23 rfl rfl)
theorem dX0_first_46 : decode cX0_first 46 = .ok (.invokevirtual 142, 3) := dk_182 0 142 (dk_at dksX0_first_2 0 rfl rfl)
theorem dX0_first_49 : decode cX0_first 49 = .ok (.ireturn, 1) := dk_172 (dk_at dksX0_first_2 3 rfl rfl)
theorem dX0_first_50 : decode cX0_first 50 = .ok (.iload_n 3, 1) := dk_29 (dk_at dksX0_first_2 4 rfl rfl)
theorem dX0_first_51 : decode cX0_first 51 = .ok (.iload_n 2, 1) := dk_28 (dk_at dksX0_first_2 5 rfl rfl)
theorem dX0_first_52 : decode cX0_first 52 = .ok (.if_icmp .ne 7, 3) := dk_160 0 7 (dk_at dksX0_first_2 6 rfl rfl)
theorem dX0_first_55 : decode cX0_first 55 = .ok (.iload_n 2, 1) := dk_28 (dk_at dksX0_first_2 9 rfl rfl)
theorem dX0_first_56 : decode cX0_first 56 = .ok (.goto 10, 3) := dk_167 0 10 (dk_at dksX0_first_2 10 rfl rfl)
theorem dX0_first_59 : decode cX0_first 59 = .ok (.aload_n 0, 1) := dk_42 (dk_at dksX0_first_2 13 rfl rfl)
theorem dX0_first_60 : decode cX0_first 60 = .ok (.iload_n 1, 1) := dk_27 (dk_at dksX0_first_2 14 rfl rfl)
theorem dX0_first_61 : decode cX0_first 61 = .ok (.iload_n 3, 1) := dk_29 (dk_at dksX0_first_2 15 rfl rfl)
theorem dX0_first_62 : decode cX0_first 62 = .ok (.iload_n 2, 1) := dk_28 (dk_at dksX0_first_2 16 rfl rfl)
theorem dX0_first_63 : decode cX0_first 63 = .ok (.invokevirtual 246, 3) := dk_182 0 246 (dk_at dksX0_first_2 17 rfl rfl)
theorem dX0_first_66 : decode cX0_first 66 = .ok (.ireturn, 1) := dk_172 (dk_at dksX0_first_2 20 rfl rfl)
abbrev cX0_firstTo : ByteArray := prog_1_method_39_code
def yX0_firstTo : MethodName := ⟨RX0, "firstTo", "(III)I"⟩
def dkwX0_firstTo_4 : List UInt8 := [21, 5, 172]
abbrev dktX0_firstTo_4 : List UInt8 := dkwX0_firstTo_4 ++ []
def dkwX0_firstTo_3 : List UInt8 := [21, 5, 50, 29, 46, 96, 42, 180, 0, 92, 28, 50, 29, 46, 159, 0, 9, 132, 5, 1, 167, 255, 177]
abbrev dktX0_firstTo_3 : List UInt8 := dkwX0_firstTo_3 ++ dktX0_firstTo_4
def dkwX0_firstTo_2 : List UInt8 := [28, 50, 21, 5, 46, 4, 160, 0, 7, 4, 167, 0, 4, 3, 185, 0, 197, 3, 0, 42, 180, 0, 92]
abbrev dktX0_firstTo_2 : List UInt8 := dkwX0_firstTo_2 ++ dktX0_firstTo_3
def dkwX0_firstTo_1 : List UInt8 := [153, 0, 64, 25, 4, 42, 180, 0, 61, 180, 0, 183, 28, 50, 21, 5, 46, 42, 180, 0, 61, 180, 0, 190]
abbrev dktX0_firstTo_1 : List UInt8 := dkwX0_firstTo_1 ++ dktX0_firstTo_2
def dkwX0_firstTo_0 : List UInt8 := [42, 27, 182, 0, 148, 58, 4, 3, 54, 5, 42, 180, 0, 61, 180, 0, 183, 28, 50, 21, 5, 46]
abbrev dktX0_firstTo_0 : List UInt8 := dkwX0_firstTo_0 ++ dktX0_firstTo_1
theorem dksX0_firstTo_0 : cX0_firstTo.data.toList.drop 0 = dktX0_firstTo_0 := by decide +kernel
theorem dksX0_firstTo_1 : cX0_firstTo.data.toList.drop 22 = dktX0_firstTo_1 := dk_seg dksX0_firstTo_0 22 rfl rfl
theorem dksX0_firstTo_2 : cX0_firstTo.data.toList.drop 46 = dktX0_firstTo_2 := dk_seg dksX0_firstTo_1 24 rfl rfl
theorem dksX0_firstTo_3 : cX0_firstTo.data.toList.drop 69 = dktX0_firstTo_3 := dk_seg dksX0_firstTo_2 23 rfl rfl
theorem dksX0_firstTo_4 : cX0_firstTo.data.toList.drop 92 = dktX0_firstTo_4 := dk_seg dksX0_firstTo_3 23 rfl rfl
theorem dX0_firstTo_0 : decode cX0_firstTo 0 = .ok (.aload_n 0, 1) := dk_42 (dk_at dksX0_firstTo_0 0 rfl rfl)
theorem dX0_firstTo_1 : decode cX0_firstTo 1 = .ok (.iload_n 1, 1) := dk_27 (dk_at dksX0_firstTo_0 1 rfl rfl)
theorem dX0_firstTo_2 : decode cX0_firstTo 2 = .ok (.invokevirtual 148, 3) := dk_182 0 148 (dk_at dksX0_firstTo_0 2 rfl rfl)
theorem dX0_firstTo_5 : decode cX0_firstTo 5 = .ok (.astore 4, 2) := dk_58 4 (dk_at dksX0_firstTo_0 5 rfl rfl)
theorem dX0_firstTo_7 : decode cX0_firstTo 7 = .ok (.iconst 0, 1) := dk_3 (dk_at dksX0_firstTo_0 7 rfl rfl)
theorem dX0_firstTo_8 : decode cX0_firstTo 8 = .ok (.istore 5, 2) := dk_54 5 (dk_at dksX0_firstTo_0 8 rfl rfl)
theorem dX0_firstTo_10 : decode cX0_firstTo 10 = .ok (.aload_n 0, 1) := dk_42 (dk_at dksX0_firstTo_0 10 rfl rfl)
theorem dX0_firstTo_11 : decode cX0_firstTo 11 = .ok (.getfield 61, 3) := dk_180 0 61 (dk_at dksX0_firstTo_0 11 rfl rfl)
theorem dX0_firstTo_14 : decode cX0_firstTo 14 = .ok (.getfield 183, 3) := dk_180 0 183 (dk_at dksX0_firstTo_0 14 rfl rfl)
theorem dX0_firstTo_17 : decode cX0_firstTo 17 = .ok (.iload_n 2, 1) := dk_28 (dk_at dksX0_firstTo_0 17 rfl rfl)
theorem dX0_firstTo_18 : decode cX0_firstTo 18 = .ok (.aaload, 1) := dk_50 (dk_at dksX0_firstTo_0 18 rfl rfl)
theorem dX0_firstTo_19 : decode cX0_firstTo 19 = .ok (.iload 5, 2) := dk_21 5 (dk_at dksX0_firstTo_0 19 rfl rfl)
theorem dX0_firstTo_21 : decode cX0_firstTo 21 = .ok (.iaload, 1) := dk_46 (dk_at dksX0_firstTo_0 21 rfl rfl)
theorem dX0_firstTo_22 : decode cX0_firstTo 22 = .ok (.ifCond .eq 64, 3) := dk_153 0 64 (dk_at dksX0_firstTo_1 0 rfl rfl)
theorem dX0_firstTo_25 : decode cX0_firstTo 25 = .ok (.aload 4, 2) := dk_25 4 (dk_at dksX0_firstTo_1 3 rfl rfl)
theorem dX0_firstTo_27 : decode cX0_firstTo 27 = .ok (.aload_n 0, 1) := dk_42 (dk_at dksX0_firstTo_1 5 rfl rfl)
theorem dX0_firstTo_28 : decode cX0_firstTo 28 = .ok (.getfield 61, 3) := dk_180 0 61 (dk_at dksX0_firstTo_1 6 rfl rfl)
theorem dX0_firstTo_31 : decode cX0_firstTo 31 = .ok (.getfield 183, 3) := dk_180 0 183 (dk_at dksX0_firstTo_1 9 rfl rfl)
theorem dX0_firstTo_34 : decode cX0_firstTo 34 = .ok (.iload_n 2, 1) := dk_28 (dk_at dksX0_firstTo_1 12 rfl rfl)
theorem dX0_firstTo_35 : decode cX0_firstTo 35 = .ok (.aaload, 1) := dk_50 (dk_at dksX0_firstTo_1 13 rfl rfl)
theorem dX0_firstTo_36 : decode cX0_firstTo 36 = .ok (.iload 5, 2) := dk_21 5 (dk_at dksX0_firstTo_1 14 rfl rfl)
theorem dX0_firstTo_38 : decode cX0_firstTo 38 = .ok (.iaload, 1) := dk_46 (dk_at dksX0_firstTo_1 16 rfl rfl)
theorem dX0_firstTo_39 : decode cX0_firstTo 39 = .ok (.aload_n 0, 1) := dk_42 (dk_at dksX0_firstTo_1 17 rfl rfl)
theorem dX0_firstTo_40 : decode cX0_firstTo 40 = .ok (.getfield 61, 3) := dk_180 0 61 (dk_at dksX0_firstTo_1 18 rfl rfl)
theorem dX0_firstTo_43 : decode cX0_firstTo 43 = .ok (.getfield 190, 3) := dk_180 0 190 (dk_at dksX0_firstTo_1 21 rfl rfl)
theorem dX0_firstTo_46 : decode cX0_firstTo 46 = .ok (.iload_n 2, 1) := dk_28 (dk_at dksX0_firstTo_2 0 rfl rfl)
theorem dX0_firstTo_47 : decode cX0_firstTo 47 = .ok (.aaload, 1) := dk_50 (dk_at dksX0_firstTo_2 1 rfl rfl)
theorem dX0_firstTo_48 : decode cX0_firstTo 48 = .ok (.iload 5, 2) := dk_21 5 (dk_at dksX0_firstTo_2 2 rfl rfl)
theorem dX0_firstTo_50 : decode cX0_firstTo 50 = .ok (.iaload, 1) := dk_46 (dk_at dksX0_firstTo_2 4 rfl rfl)
theorem dX0_firstTo_51 : decode cX0_firstTo 51 = .ok (.iconst 1, 1) := dk_4 (dk_at dksX0_firstTo_2 5 rfl rfl)
theorem dX0_firstTo_52 : decode cX0_firstTo 52 = .ok (.if_icmp .ne 7, 3) := dk_160 0 7 (dk_at dksX0_firstTo_2 6 rfl rfl)
theorem dX0_firstTo_55 : decode cX0_firstTo 55 = .ok (.iconst 1, 1) := dk_4 (dk_at dksX0_firstTo_2 9 rfl rfl)
theorem dX0_firstTo_56 : decode cX0_firstTo 56 = .ok (.goto 4, 3) := dk_167 0 4 (dk_at dksX0_firstTo_2 10 rfl rfl)
theorem dX0_firstTo_59 : decode cX0_firstTo 59 = .ok (.iconst 0, 1) := dk_3 (dk_at dksX0_firstTo_2 13 rfl rfl)
theorem dX0_firstTo_60 : decode cX0_firstTo 60 = .ok (.invokeinterface 197 3, 5) := by decide +kernel
theorem dX0_firstTo_65 : decode cX0_firstTo 65 = .ok (.aload_n 0, 1) := dk_42 (dk_at dksX0_firstTo_2 19 rfl rfl)
theorem dX0_firstTo_66 : decode cX0_firstTo 66 = .ok (.getfield 92, 3) := dk_180 0 92 (dk_at dksX0_firstTo_2 20 rfl rfl)
theorem dX0_firstTo_69 : decode cX0_firstTo 69 = .ok (.iload 5, 2) := dk_21 5 (dk_at dksX0_firstTo_3 0 rfl rfl)
theorem dX0_firstTo_71 : decode cX0_firstTo 71 = .ok (.aaload, 1) := dk_50 (dk_at dksX0_firstTo_3 2 rfl rfl)
theorem dX0_firstTo_72 : decode cX0_firstTo 72 = .ok (.iload_n 3, 1) := dk_29 (dk_at dksX0_firstTo_3 3 rfl rfl)
theorem dX0_firstTo_73 : decode cX0_firstTo 73 = .ok (.iaload, 1) := dk_46 (dk_at dksX0_firstTo_3 4 rfl rfl)
theorem dX0_firstTo_74 : decode cX0_firstTo 74 = .ok (.iadd, 1) := dk_96 (dk_at dksX0_firstTo_3 5 rfl rfl)
theorem dX0_firstTo_75 : decode cX0_firstTo 75 = .ok (.aload_n 0, 1) := dk_42 (dk_at dksX0_firstTo_3 6 rfl rfl)
theorem dX0_firstTo_76 : decode cX0_firstTo 76 = .ok (.getfield 92, 3) := dk_180 0 92 (dk_at dksX0_firstTo_3 7 rfl rfl)
theorem dX0_firstTo_79 : decode cX0_firstTo 79 = .ok (.iload_n 2, 1) := dk_28 (dk_at dksX0_firstTo_3 10 rfl rfl)
theorem dX0_firstTo_80 : decode cX0_firstTo 80 = .ok (.aaload, 1) := dk_50 (dk_at dksX0_firstTo_3 11 rfl rfl)
theorem dX0_firstTo_81 : decode cX0_firstTo 81 = .ok (.iload_n 3, 1) := dk_29 (dk_at dksX0_firstTo_3 12 rfl rfl)
theorem dX0_firstTo_82 : decode cX0_firstTo 82 = .ok (.iaload, 1) := dk_46 (dk_at dksX0_firstTo_3 13 rfl rfl)
theorem dX0_firstTo_83 : decode cX0_firstTo 83 = .ok (.if_icmp .eq 9, 3) := dk_159 0 9 (dk_at dksX0_firstTo_3 14 rfl rfl)
theorem dX0_firstTo_86 : decode cX0_firstTo 86 = .ok (.iinc 5 1, 3) := dk_132 5 1 (dk_at dksX0_firstTo_3 17 rfl rfl)
theorem dX0_firstTo_89 : decode cX0_firstTo 89 = .ok (.goto (-79), 3) := dk_167 255 177 (dk_at dksX0_firstTo_3 20 rfl rfl)
theorem dX0_firstTo_92 : decode cX0_firstTo 92 = .ok (.iload 5, 2) := dk_21 5 (dk_at dksX0_firstTo_4 0 rfl rfl)
theorem dX0_firstTo_94 : decode cX0_firstTo 94 = .ok (.ireturn, 1) := dk_172 (dk_at dksX0_firstTo_4 2 rfl rfl)
abbrev cX0_take : ByteArray := prog_1_method_42_code
def yX0_take : MethodName := ⟨RX0, "take", "(II)I"⟩
def dkwX0_take_3 : List UInt8 := [4, 27, 182, 0, 255, 42, 180, 0, 61, 42, 180, 0, 61, 27, 182, 0, 170, 182, 0, 173, 172]
abbrev dktX0_take_3 : List UInt8 := dkwX0_take_3 ++ []
def dkwX0_take_2 : List UInt8 := [182, 0, 142, 172, 42, 27, 28, 182, 0, 252, 154, 0, 9, 42, 4, 182, 0, 142, 172, 42, 180, 0, 61, 28]
abbrev dktX0_take_2 : List UInt8 := dkwX0_take_2 ++ dktX0_take_3
def dkwX0_take_1 : List UInt8 := [180, 0, 61, 28, 42, 180, 0, 61, 180, 0, 113, 4, 50, 27, 46, 182, 0, 249, 154, 0, 9, 42, 7]
abbrev dktX0_take_1 : List UInt8 := dkwX0_take_1 ++ dktX0_take_2
def dkwX0_take_0 : List UInt8 := [42, 27, 182, 0, 161, 153, 0, 11, 42, 28, 182, 0, 217, 154, 0, 9, 42, 3, 182, 0, 142, 172, 42]
abbrev dktX0_take_0 : List UInt8 := dkwX0_take_0 ++ dktX0_take_1
theorem dksX0_take_0 : cX0_take.data.toList.drop 0 = dktX0_take_0 := by decide +kernel
theorem dksX0_take_1 : cX0_take.data.toList.drop 23 = dktX0_take_1 := dk_seg dksX0_take_0 23 rfl rfl
theorem dksX0_take_2 : cX0_take.data.toList.drop 46 = dktX0_take_2 := dk_seg dksX0_take_1 23 rfl rfl
theorem dksX0_take_3 : cX0_take.data.toList.drop 70 = dktX0_take_3 := dk_seg dksX0_take_2 24 rfl rfl
theorem dX0_take_0 : decode cX0_take 0 = .ok (.aload_n 0, 1) := dk_42 (dk_at dksX0_take_0 0 rfl rfl)
theorem dX0_take_1 : decode cX0_take 1 = .ok (.iload_n 1, 1) := dk_27 (dk_at dksX0_take_0 1 rfl rfl)
theorem dX0_take_2 : decode cX0_take 2 = .ok (.invokevirtual 161, 3) := dk_182 0 161 (dk_at dksX0_take_0 2 rfl rfl)
theorem dX0_take_5 : decode cX0_take 5 = .ok (.ifCond .eq 11, 3) := dk_153 0 11 (dk_at dksX0_take_0 5 rfl rfl)
theorem dX0_take_8 : decode cX0_take 8 = .ok (.aload_n 0, 1) := dk_42 (dk_at dksX0_take_0 8 rfl rfl)
theorem dX0_take_9 : decode cX0_take 9 = .ok (.iload_n 2, 1) := dk_28 (dk_at dksX0_take_0 9 rfl rfl)
theorem dX0_take_10 : decode cX0_take 10 = .ok (.invokevirtual 217, 3) := dk_182 0 217 (dk_at dksX0_take_0 10 rfl rfl)
theorem dX0_take_13 : decode cX0_take 13 = .ok (.ifCond .ne 9, 3) := dk_154 0 9 (dk_at dksX0_take_0 13 rfl rfl)
theorem dX0_take_16 : decode cX0_take 16 = .ok (.aload_n 0, 1) := dk_42 (dk_at dksX0_take_0 16 rfl rfl)
theorem dX0_take_17 : decode cX0_take 17 = .ok (.iconst 0, 1) := dk_3 (dk_at dksX0_take_0 17 rfl rfl)
theorem dX0_take_18 : decode cX0_take 18 = .ok (.invokevirtual 142, 3) := dk_182 0 142 (dk_at dksX0_take_0 18 rfl rfl)
theorem dX0_take_21 : decode cX0_take 21 = .ok (.ireturn, 1) := dk_172 (dk_at dksX0_take_0 21 rfl rfl)
theorem dX0_take_22 : decode cX0_take 22 = .ok (.aload_n 0, 1) := dk_42 (dk_at dksX0_take_0 22 rfl rfl)
theorem dX0_take_23 : decode cX0_take 23 = .ok (.getfield 61, 3) := dk_180 0 61 (dk_at dksX0_take_1 0 rfl rfl)
theorem dX0_take_26 : decode cX0_take 26 = .ok (.iload_n 2, 1) := dk_28 (dk_at dksX0_take_1 3 rfl rfl)
theorem dX0_take_27 : decode cX0_take 27 = .ok (.aload_n 0, 1) := dk_42 (dk_at dksX0_take_1 4 rfl rfl)
theorem dX0_take_28 : decode cX0_take 28 = .ok (.getfield 61, 3) := dk_180 0 61 (dk_at dksX0_take_1 5 rfl rfl)
theorem dX0_take_31 : decode cX0_take 31 = .ok (.getfield 113, 3) := dk_180 0 113 (dk_at dksX0_take_1 8 rfl rfl)
theorem dX0_take_34 : decode cX0_take 34 = .ok (.iconst 1, 1) := dk_4 (dk_at dksX0_take_1 11 rfl rfl)
theorem dX0_take_35 : decode cX0_take 35 = .ok (.aaload, 1) := dk_50 (dk_at dksX0_take_1 12 rfl rfl)
theorem dX0_take_36 : decode cX0_take 36 = .ok (.iload_n 1, 1) := dk_27 (dk_at dksX0_take_1 13 rfl rfl)
theorem dX0_take_37 : decode cX0_take 37 = .ok (.iaload, 1) := dk_46 (dk_at dksX0_take_1 14 rfl rfl)
theorem dX0_take_38 : decode cX0_take 38 = .ok (.invokevirtual 249, 3) := dk_182 0 249 (dk_at dksX0_take_1 15 rfl rfl)
theorem dX0_take_41 : decode cX0_take 41 = .ok (.ifCond .ne 9, 3) := dk_154 0 9 (dk_at dksX0_take_1 18 rfl rfl)
theorem dX0_take_44 : decode cX0_take 44 = .ok (.aload_n 0, 1) := dk_42 (dk_at dksX0_take_1 21 rfl rfl)
theorem dX0_take_45 : decode cX0_take 45 = .ok (.iconst 4, 1) := dk_7 (dk_at dksX0_take_1 22 rfl rfl)
theorem dX0_take_46 : decode cX0_take 46 = .ok (.invokevirtual 142, 3) := dk_182 0 142 (dk_at dksX0_take_2 0 rfl rfl)
theorem dX0_take_49 : decode cX0_take 49 = .ok (.ireturn, 1) := dk_172 (dk_at dksX0_take_2 3 rfl rfl)
theorem dX0_take_50 : decode cX0_take 50 = .ok (.aload_n 0, 1) := dk_42 (dk_at dksX0_take_2 4 rfl rfl)
theorem dX0_take_51 : decode cX0_take 51 = .ok (.iload_n 1, 1) := dk_27 (dk_at dksX0_take_2 5 rfl rfl)
theorem dX0_take_52 : decode cX0_take 52 = .ok (.iload_n 2, 1) := dk_28 (dk_at dksX0_take_2 6 rfl rfl)
theorem dX0_take_53 : decode cX0_take 53 = .ok (.invokevirtual 252, 3) := dk_182 0 252 (dk_at dksX0_take_2 7 rfl rfl)
theorem dX0_take_56 : decode cX0_take 56 = .ok (.ifCond .ne 9, 3) := dk_154 0 9 (dk_at dksX0_take_2 10 rfl rfl)
theorem dX0_take_59 : decode cX0_take 59 = .ok (.aload_n 0, 1) := dk_42 (dk_at dksX0_take_2 13 rfl rfl)
theorem dX0_take_60 : decode cX0_take 60 = .ok (.iconst 1, 1) := dk_4 (dk_at dksX0_take_2 14 rfl rfl)
theorem dX0_take_61 : decode cX0_take 61 = .ok (.invokevirtual 142, 3) := dk_182 0 142 (dk_at dksX0_take_2 15 rfl rfl)
theorem dX0_take_64 : decode cX0_take 64 = .ok (.ireturn, 1) := dk_172 (dk_at dksX0_take_2 18 rfl rfl)
theorem dX0_take_65 : decode cX0_take 65 = .ok (.aload_n 0, 1) := dk_42 (dk_at dksX0_take_2 19 rfl rfl)
theorem dX0_take_66 : decode cX0_take 66 = .ok (.getfield 61, 3) := dk_180 0 61 (dk_at dksX0_take_2 20 rfl rfl)
theorem dX0_take_69 : decode cX0_take 69 = .ok (.iload_n 2, 1) := dk_28 (dk_at dksX0_take_2 23 rfl rfl)
theorem dX0_take_70 : decode cX0_take 70 = .ok (.iconst 1, 1) := dk_4 (dk_at dksX0_take_3 0 rfl rfl)
theorem dX0_take_71 : decode cX0_take 71 = .ok (.iload_n 1, 1) := dk_27 (dk_at dksX0_take_3 1 rfl rfl)
theorem dX0_take_72 : decode cX0_take 72 = .ok (.invokevirtual 255, 3) := dk_182 0 255 (dk_at dksX0_take_3 2 rfl rfl)
theorem dX0_take_75 : decode cX0_take 75 = .ok (.aload_n 0, 1) := dk_42 (dk_at dksX0_take_3 5 rfl rfl)
theorem dX0_take_76 : decode cX0_take 76 = .ok (.getfield 61, 3) := dk_180 0 61 (dk_at dksX0_take_3 6 rfl rfl)
theorem dX0_take_79 : decode cX0_take 79 = .ok (.aload_n 0, 1) := dk_42 (dk_at dksX0_take_3 9 rfl rfl)
theorem dX0_take_80 : decode cX0_take 80 = .ok (.getfield 61, 3) := dk_180 0 61 (dk_at dksX0_take_3 10 rfl rfl)
theorem dX0_take_83 : decode cX0_take 83 = .ok (.iload_n 1, 1) := dk_27 (dk_at dksX0_take_3 13 rfl rfl)
theorem dX0_take_84 : decode cX0_take 84 = .ok (.invokevirtual 170, 3) := dk_182 0 170 (dk_at dksX0_take_3 14 rfl rfl)
theorem dX0_take_87 : decode cX0_take 87 = .ok (.invokevirtual 173, 3) := dk_182 0 173 (dk_at dksX0_take_3 17 rfl rfl)
theorem dX0_take_90 : decode cX0_take 90 = .ok (.ireturn, 1) := dk_172 (dk_at dksX0_take_3 20 rfl rfl)
abbrev cX0_canTake : ByteArray := prog_1_method_41_code
def yX0_canTake : MethodName := ⟨RX0, "canTake", "(II)Z"⟩
def dkwX0_canTake_1 : List UInt8 := [28, 46, 96, 42, 27, 182, 0, 167, 163, 0, 7, 4, 167, 0, 4, 3, 172]
abbrev dktX0_canTake_1 : List UInt8 := dkwX0_canTake_1 ++ []
def dkwX0_canTake_0 : List UInt8 := [42, 180, 0, 61, 42, 180, 0, 61, 27, 182, 0, 170, 182, 0, 173, 42, 180, 0, 61, 180, 0, 214, 3, 50]
abbrev dktX0_canTake_0 : List UInt8 := dkwX0_canTake_0 ++ dktX0_canTake_1
theorem dksX0_canTake_0 : cX0_canTake.data.toList.drop 0 = dktX0_canTake_0 := by decide +kernel
theorem dksX0_canTake_1 : cX0_canTake.data.toList.drop 24 = dktX0_canTake_1 := dk_seg dksX0_canTake_0 24 rfl rfl
theorem dX0_canTake_0 : decode cX0_canTake 0 = .ok (.aload_n 0, 1) := dk_42 (dk_at dksX0_canTake_0 0 rfl rfl)
theorem dX0_canTake_1 : decode cX0_canTake 1 = .ok (.getfield 61, 3) := dk_180 0 61 (dk_at dksX0_canTake_0 1 rfl rfl)
theorem dX0_canTake_4 : decode cX0_canTake 4 = .ok (.aload_n 0, 1) := dk_42 (dk_at dksX0_canTake_0 4 rfl rfl)
theorem dX0_canTake_5 : decode cX0_canTake 5 = .ok (.getfield 61, 3) := dk_180 0 61 (dk_at dksX0_canTake_0 5 rfl rfl)
theorem dX0_canTake_8 : decode cX0_canTake 8 = .ok (.iload_n 1, 1) := dk_27 (dk_at dksX0_canTake_0 8 rfl rfl)
theorem dX0_canTake_9 : decode cX0_canTake 9 = .ok (.invokevirtual 170, 3) := dk_182 0 170 (dk_at dksX0_canTake_0 9 rfl rfl)
theorem dX0_canTake_12 : decode cX0_canTake 12 = .ok (.invokevirtual 173, 3) := dk_182 0 173 (dk_at dksX0_canTake_0 12 rfl rfl)
theorem dX0_canTake_15 : decode cX0_canTake 15 = .ok (.aload_n 0, 1) := dk_42 (dk_at dksX0_canTake_0 15 rfl rfl)
theorem dX0_canTake_16 : decode cX0_canTake 16 = .ok (.getfield 61, 3) := dk_180 0 61 (dk_at dksX0_canTake_0 16 rfl rfl)
theorem dX0_canTake_19 : decode cX0_canTake 19 = .ok (.getfield 214, 3) := dk_180 0 214 (dk_at dksX0_canTake_0 19 rfl rfl)
theorem dX0_canTake_22 : decode cX0_canTake 22 = .ok (.iconst 0, 1) := dk_3 (dk_at dksX0_canTake_0 22 rfl rfl)
theorem dX0_canTake_23 : decode cX0_canTake 23 = .ok (.aaload, 1) := dk_50 (dk_at dksX0_canTake_0 23 rfl rfl)
theorem dX0_canTake_24 : decode cX0_canTake 24 = .ok (.iload_n 2, 1) := dk_28 (dk_at dksX0_canTake_1 0 rfl rfl)
theorem dX0_canTake_25 : decode cX0_canTake 25 = .ok (.iaload, 1) := dk_46 (dk_at dksX0_canTake_1 1 rfl rfl)
theorem dX0_canTake_26 : decode cX0_canTake 26 = .ok (.iadd, 1) := dk_96 (dk_at dksX0_canTake_1 2 rfl rfl)
theorem dX0_canTake_27 : decode cX0_canTake 27 = .ok (.aload_n 0, 1) := dk_42 (dk_at dksX0_canTake_1 3 rfl rfl)
theorem dX0_canTake_28 : decode cX0_canTake 28 = .ok (.iload_n 1, 1) := dk_27 (dk_at dksX0_canTake_1 4 rfl rfl)
theorem dX0_canTake_29 : decode cX0_canTake 29 = .ok (.invokevirtual 167, 3) := dk_182 0 167 (dk_at dksX0_canTake_1 5 rfl rfl)
theorem dX0_canTake_32 : decode cX0_canTake 32 = .ok (.if_icmp .gt 7, 3) := dk_163 0 7 (dk_at dksX0_canTake_1 8 rfl rfl)
theorem dX0_canTake_35 : decode cX0_canTake 35 = .ok (.iconst 1, 1) := dk_4 (dk_at dksX0_canTake_1 11 rfl rfl)
theorem dX0_canTake_36 : decode cX0_canTake 36 = .ok (.goto 4, 3) := dk_167 0 4 (dk_at dksX0_canTake_1 12 rfl rfl)
theorem dX0_canTake_39 : decode cX0_canTake 39 = .ok (.iconst 0, 1) := dk_3 (dk_at dksX0_canTake_1 15 rfl rfl)
theorem dX0_canTake_40 : decode cX0_canTake 40 = .ok (.ireturn, 1) := dk_172 (dk_at dksX0_canTake_1 16 rfl rfl)
abbrev cX0_drop : ByteArray := prog_1_method_43_code
def yX0_drop : MethodName := ⟨RX0, "drop", "(II)I"⟩
def dkwX0_drop_4 : List UInt8 := [180, 0, 61, 42, 180, 0, 61, 27, 182, 0, 170, 182, 0, 173, 172]
abbrev dktX0_drop_4 : List UInt8 := dkwX0_drop_4 ++ []
def dkwX0_drop_3 : List UInt8 := [42, 180, 0, 61, 28, 3, 2, 182, 0, 255, 42, 180, 0, 61, 180, 0, 214, 4, 50, 28, 29, 79, 42]
abbrev dktX0_drop_3 : List UInt8 := dkwX0_drop_3 ++ dktX0_drop_4
def dkwX0_drop_2 : List UInt8 := [153, 0, 18, 42, 180, 0, 61, 180, 0, 214, 5, 50, 28, 46, 29, 160, 0, 9, 42, 7, 182, 0, 142, 172]
abbrev dktX0_drop_2 : List UInt8 := dkwX0_drop_2 ++ dktX0_drop_3
def dkwX0_drop_1 : List UInt8 := [180, 0, 61, 180, 0, 113, 4, 50, 27, 46, 62, 42, 180, 0, 61, 27, 182, 0, 170, 28, 184, 1, 2]
abbrev dktX0_drop_1 : List UInt8 := dkwX0_drop_1 ++ dktX0_drop_2
def dkwX0_drop_0 : List UInt8 := [42, 27, 182, 0, 161, 153, 0, 11, 42, 28, 182, 0, 217, 154, 0, 9, 42, 3, 182, 0, 142, 172, 42]
abbrev dktX0_drop_0 : List UInt8 := dkwX0_drop_0 ++ dktX0_drop_1
theorem dksX0_drop_0 : cX0_drop.data.toList.drop 0 = dktX0_drop_0 := by decide +kernel
theorem dksX0_drop_1 : cX0_drop.data.toList.drop 23 = dktX0_drop_1 := dk_seg dksX0_drop_0 23 rfl rfl
theorem dksX0_drop_2 : cX0_drop.data.toList.drop 46 = dktX0_drop_2 := dk_seg dksX0_drop_1 23 rfl rfl
theorem dksX0_drop_3 : cX0_drop.data.toList.drop 70 = dktX0_drop_3 := dk_seg dksX0_drop_2 24 rfl rfl
theorem dksX0_drop_4 : cX0_drop.data.toList.drop 93 = dktX0_drop_4 := dk_seg dksX0_drop_3 23 rfl rfl
theorem dX0_drop_0 : decode cX0_drop 0 = .ok (.aload_n 0, 1) := dk_42 (dk_at dksX0_drop_0 0 rfl rfl)
theorem dX0_drop_1 : decode cX0_drop 1 = .ok (.iload_n 1, 1) := dk_27 (dk_at dksX0_drop_0 1 rfl rfl)
theorem dX0_drop_2 : decode cX0_drop 2 = .ok (.invokevirtual 161, 3) := dk_182 0 161 (dk_at dksX0_drop_0 2 rfl rfl)
theorem dX0_drop_5 : decode cX0_drop 5 = .ok (.ifCond .eq 11, 3) := dk_153 0 11 (dk_at dksX0_drop_0 5 rfl rfl)
theorem dX0_drop_8 : decode cX0_drop 8 = .ok (.aload_n 0, 1) := dk_42 (dk_at dksX0_drop_0 8 rfl rfl)
theorem dX0_drop_9 : decode cX0_drop 9 = .ok (.iload_n 2, 1) := dk_28 (dk_at dksX0_drop_0 9 rfl rfl)
theorem dX0_drop_10 : decode cX0_drop 10 = .ok (.invokevirtual 217, 3) := dk_182 0 217 (dk_at dksX0_drop_0 10 rfl rfl)
theorem dX0_drop_13 : decode cX0_drop 13 = .ok (.ifCond .ne 9, 3) := dk_154 0 9 (dk_at dksX0_drop_0 13 rfl rfl)
theorem dX0_drop_16 : decode cX0_drop 16 = .ok (.aload_n 0, 1) := dk_42 (dk_at dksX0_drop_0 16 rfl rfl)
theorem dX0_drop_17 : decode cX0_drop 17 = .ok (.iconst 0, 1) := dk_3 (dk_at dksX0_drop_0 17 rfl rfl)
theorem dX0_drop_18 : decode cX0_drop 18 = .ok (.invokevirtual 142, 3) := dk_182 0 142 (dk_at dksX0_drop_0 18 rfl rfl)
theorem dX0_drop_21 : decode cX0_drop 21 = .ok (.ireturn, 1) := dk_172 (dk_at dksX0_drop_0 21 rfl rfl)
theorem dX0_drop_22 : decode cX0_drop 22 = .ok (.aload_n 0, 1) := dk_42 (dk_at dksX0_drop_0 22 rfl rfl)
theorem dX0_drop_23 : decode cX0_drop 23 = .ok (.getfield 61, 3) := dk_180 0 61 (dk_at dksX0_drop_1 0 rfl rfl)
theorem dX0_drop_26 : decode cX0_drop 26 = .ok (.getfield 113, 3) := dk_180 0 113 (dk_at dksX0_drop_1 3 rfl rfl)
theorem dX0_drop_29 : decode cX0_drop 29 = .ok (.iconst 1, 1) := dk_4 (dk_at dksX0_drop_1 6 rfl rfl)
theorem dX0_drop_30 : decode cX0_drop 30 = .ok (.aaload, 1) := dk_50 (dk_at dksX0_drop_1 7 rfl rfl)
theorem dX0_drop_31 : decode cX0_drop 31 = .ok (.iload_n 1, 1) := dk_27 (dk_at dksX0_drop_1 8 rfl rfl)
theorem dX0_drop_32 : decode cX0_drop 32 = .ok (.iaload, 1) := dk_46 (dk_at dksX0_drop_1 9 rfl rfl)
theorem dX0_drop_33 : decode cX0_drop 33 = .ok (.istore_n 3, 1) := dk_62 (dk_at dksX0_drop_1 10 rfl rfl)
theorem dX0_drop_34 : decode cX0_drop 34 = .ok (.aload_n 0, 1) := dk_42 (dk_at dksX0_drop_1 11 rfl rfl)
theorem dX0_drop_35 : decode cX0_drop 35 = .ok (.getfield 61, 3) := dk_180 0 61 (dk_at dksX0_drop_1 12 rfl rfl)
theorem dX0_drop_38 : decode cX0_drop 38 = .ok (.iload_n 1, 1) := dk_27 (dk_at dksX0_drop_1 15 rfl rfl)
theorem dX0_drop_39 : decode cX0_drop 39 = .ok (.invokevirtual 170, 3) := dk_182 0 170 (dk_at dksX0_drop_1 16 rfl rfl)
theorem dX0_drop_42 : decode cX0_drop 42 = .ok (.iload_n 2, 1) := dk_28 (dk_at dksX0_drop_1 19 rfl rfl)
theorem dX0_drop_43 : decode cX0_drop 43 = .ok (.invokestatic 258, 3) := dk_184 1 2 (dk_at dksX0_drop_1 20 rfl rfl)
theorem dX0_drop_46 : decode cX0_drop 46 = .ok (.ifCond .eq 18, 3) := dk_153 0 18 (dk_at dksX0_drop_2 0 rfl rfl)
theorem dX0_drop_49 : decode cX0_drop 49 = .ok (.aload_n 0, 1) := dk_42 (dk_at dksX0_drop_2 3 rfl rfl)
theorem dX0_drop_50 : decode cX0_drop 50 = .ok (.getfield 61, 3) := dk_180 0 61 (dk_at dksX0_drop_2 4 rfl rfl)
theorem dX0_drop_53 : decode cX0_drop 53 = .ok (.getfield 214, 3) := dk_180 0 214 (dk_at dksX0_drop_2 7 rfl rfl)
theorem dX0_drop_56 : decode cX0_drop 56 = .ok (.iconst 2, 1) := dk_5 (dk_at dksX0_drop_2 10 rfl rfl)
theorem dX0_drop_57 : decode cX0_drop 57 = .ok (.aaload, 1) := dk_50 (dk_at dksX0_drop_2 11 rfl rfl)
theorem dX0_drop_58 : decode cX0_drop 58 = .ok (.iload_n 2, 1) := dk_28 (dk_at dksX0_drop_2 12 rfl rfl)
theorem dX0_drop_59 : decode cX0_drop 59 = .ok (.iaload, 1) := dk_46 (dk_at dksX0_drop_2 13 rfl rfl)
theorem dX0_drop_60 : decode cX0_drop 60 = .ok (.iload_n 3, 1) := dk_29 (dk_at dksX0_drop_2 14 rfl rfl)
theorem dX0_drop_61 : decode cX0_drop 61 = .ok (.if_icmp .ne 9, 3) := dk_160 0 9 (dk_at dksX0_drop_2 15 rfl rfl)
theorem dX0_drop_64 : decode cX0_drop 64 = .ok (.aload_n 0, 1) := dk_42 (dk_at dksX0_drop_2 18 rfl rfl)
theorem dX0_drop_65 : decode cX0_drop 65 = .ok (.iconst 4, 1) := dk_7 (dk_at dksX0_drop_2 19 rfl rfl)
theorem dX0_drop_66 : decode cX0_drop 66 = .ok (.invokevirtual 142, 3) := dk_182 0 142 (dk_at dksX0_drop_2 20 rfl rfl)
theorem dX0_drop_69 : decode cX0_drop 69 = .ok (.ireturn, 1) := dk_172 (dk_at dksX0_drop_2 23 rfl rfl)
theorem dX0_drop_70 : decode cX0_drop 70 = .ok (.aload_n 0, 1) := dk_42 (dk_at dksX0_drop_3 0 rfl rfl)
theorem dX0_drop_71 : decode cX0_drop 71 = .ok (.getfield 61, 3) := dk_180 0 61 (dk_at dksX0_drop_3 1 rfl rfl)
theorem dX0_drop_74 : decode cX0_drop 74 = .ok (.iload_n 2, 1) := dk_28 (dk_at dksX0_drop_3 4 rfl rfl)
theorem dX0_drop_75 : decode cX0_drop 75 = .ok (.iconst 0, 1) := dk_3 (dk_at dksX0_drop_3 5 rfl rfl)
theorem dX0_drop_76 : decode cX0_drop 76 = .ok (.iconst (-1), 1) := dk_2 (dk_at dksX0_drop_3 6 rfl rfl)
theorem dX0_drop_77 : decode cX0_drop 77 = .ok (.invokevirtual 255, 3) := dk_182 0 255 (dk_at dksX0_drop_3 7 rfl rfl)
theorem dX0_drop_80 : decode cX0_drop 80 = .ok (.aload_n 0, 1) := dk_42 (dk_at dksX0_drop_3 10 rfl rfl)
theorem dX0_drop_81 : decode cX0_drop 81 = .ok (.getfield 61, 3) := dk_180 0 61 (dk_at dksX0_drop_3 11 rfl rfl)
theorem dX0_drop_84 : decode cX0_drop 84 = .ok (.getfield 214, 3) := dk_180 0 214 (dk_at dksX0_drop_3 14 rfl rfl)
theorem dX0_drop_87 : decode cX0_drop 87 = .ok (.iconst 1, 1) := dk_4 (dk_at dksX0_drop_3 17 rfl rfl)
theorem dX0_drop_88 : decode cX0_drop 88 = .ok (.aaload, 1) := dk_50 (dk_at dksX0_drop_3 18 rfl rfl)
theorem dX0_drop_89 : decode cX0_drop 89 = .ok (.iload_n 2, 1) := dk_28 (dk_at dksX0_drop_3 19 rfl rfl)
theorem dX0_drop_90 : decode cX0_drop 90 = .ok (.iload_n 3, 1) := dk_29 (dk_at dksX0_drop_3 20 rfl rfl)
theorem dX0_drop_91 : decode cX0_drop 91 = .ok (.iastore, 1) := dk_79 (dk_at dksX0_drop_3 21 rfl rfl)
theorem dX0_drop_92 : decode cX0_drop 92 = .ok (.aload_n 0, 1) := dk_42 (dk_at dksX0_drop_3 22 rfl rfl)
theorem dX0_drop_93 : decode cX0_drop 93 = .ok (.getfield 61, 3) := dk_180 0 61 (dk_at dksX0_drop_4 0 rfl rfl)
theorem dX0_drop_96 : decode cX0_drop 96 = .ok (.aload_n 0, 1) := dk_42 (dk_at dksX0_drop_4 3 rfl rfl)
theorem dX0_drop_97 : decode cX0_drop 97 = .ok (.getfield 61, 3) := dk_180 0 61 (dk_at dksX0_drop_4 4 rfl rfl)
theorem dX0_drop_100 : decode cX0_drop 100 = .ok (.iload_n 1, 1) := dk_27 (dk_at dksX0_drop_4 7 rfl rfl)
theorem dX0_drop_101 : decode cX0_drop 101 = .ok (.invokevirtual 170, 3) := dk_182 0 170 (dk_at dksX0_drop_4 8 rfl rfl)
theorem dX0_drop_104 : decode cX0_drop 104 = .ok (.invokevirtual 173, 3) := dk_182 0 173 (dk_at dksX0_drop_4 11 rfl rfl)
theorem dX0_drop_107 : decode cX0_drop 107 = .ok (.ireturn, 1) := dk_172 (dk_at dksX0_drop_4 14 rfl rfl)
abbrev cX0_walk : ByteArray := prog_1_method_46_code
def yX0_walk : MethodName := ⟨RX0, "walk", "(II)I"⟩
def dkwX0_walk_2 : List UInt8 := [182, 0, 142, 167, 0, 10, 42, 27, 28, 29, 182, 1, 11, 172]
abbrev dktX0_walk_2 : List UInt8 := dkwX0_walk_2 ++ []
def dkwX0_walk_1 : List UInt8 := [180, 0, 61, 180, 0, 113, 4, 50, 27, 46, 28, 182, 0, 242, 62, 29, 2, 160, 0, 11, 42, 6]
abbrev dktX0_walk_1 : List UInt8 := dkwX0_walk_1 ++ dktX0_walk_2
def dkwX0_walk_0 : List UInt8 := [42, 27, 182, 0, 161, 153, 0, 10, 28, 184, 0, 7, 154, 0, 9, 42, 3, 182, 0, 142, 172, 42, 27, 42]
abbrev dktX0_walk_0 : List UInt8 := dkwX0_walk_0 ++ dktX0_walk_1
theorem dksX0_walk_0 : cX0_walk.data.toList.drop 0 = dktX0_walk_0 := by decide +kernel
theorem dksX0_walk_1 : cX0_walk.data.toList.drop 24 = dktX0_walk_1 := dk_seg dksX0_walk_0 24 rfl rfl
theorem dksX0_walk_2 : cX0_walk.data.toList.drop 46 = dktX0_walk_2 := dk_seg dksX0_walk_1 22 rfl rfl
theorem dX0_walk_0 : decode cX0_walk 0 = .ok (.aload_n 0, 1) := dk_42 (dk_at dksX0_walk_0 0 rfl rfl)
theorem dX0_walk_1 : decode cX0_walk 1 = .ok (.iload_n 1, 1) := dk_27 (dk_at dksX0_walk_0 1 rfl rfl)
theorem dX0_walk_2 : decode cX0_walk 2 = .ok (.invokevirtual 161, 3) := dk_182 0 161 (dk_at dksX0_walk_0 2 rfl rfl)
theorem dX0_walk_5 : decode cX0_walk 5 = .ok (.ifCond .eq 10, 3) := dk_153 0 10 (dk_at dksX0_walk_0 5 rfl rfl)
theorem dX0_walk_8 : decode cX0_walk 8 = .ok (.iload_n 2, 1) := dk_28 (dk_at dksX0_walk_0 8 rfl rfl)
theorem dX0_walk_9 : decode cX0_walk 9 = .ok (.invokestatic 7, 3) := dk_184 0 7 (dk_at dksX0_walk_0 9 rfl rfl)
theorem dX0_walk_12 : decode cX0_walk 12 = .ok (.ifCond .ne 9, 3) := dk_154 0 9 (dk_at dksX0_walk_0 12 rfl rfl)
theorem dX0_walk_15 : decode cX0_walk 15 = .ok (.aload_n 0, 1) := dk_42 (dk_at dksX0_walk_0 15 rfl rfl)
theorem dX0_walk_16 : decode cX0_walk 16 = .ok (.iconst 0, 1) := dk_3 (dk_at dksX0_walk_0 16 rfl rfl)
theorem dX0_walk_17 : decode cX0_walk 17 = .ok (.invokevirtual 142, 3) := dk_182 0 142 (dk_at dksX0_walk_0 17 rfl rfl)
theorem dX0_walk_20 : decode cX0_walk 20 = .ok (.ireturn, 1) := dk_172 (dk_at dksX0_walk_0 20 rfl rfl)
theorem dX0_walk_21 : decode cX0_walk 21 = .ok (.aload_n 0, 1) := dk_42 (dk_at dksX0_walk_0 21 rfl rfl)
theorem dX0_walk_22 : decode cX0_walk 22 = .ok (.iload_n 1, 1) := dk_27 (dk_at dksX0_walk_0 22 rfl rfl)
theorem dX0_walk_23 : decode cX0_walk 23 = .ok (.aload_n 0, 1) := dk_42 (dk_at dksX0_walk_0 23 rfl rfl)
theorem dX0_walk_24 : decode cX0_walk 24 = .ok (.getfield 61, 3) := dk_180 0 61 (dk_at dksX0_walk_1 0 rfl rfl)
theorem dX0_walk_27 : decode cX0_walk 27 = .ok (.getfield 113, 3) := dk_180 0 113 (dk_at dksX0_walk_1 3 rfl rfl)
theorem dX0_walk_30 : decode cX0_walk 30 = .ok (.iconst 1, 1) := dk_4 (dk_at dksX0_walk_1 6 rfl rfl)
theorem dX0_walk_31 : decode cX0_walk 31 = .ok (.aaload, 1) := dk_50 (dk_at dksX0_walk_1 7 rfl rfl)
theorem dX0_walk_32 : decode cX0_walk 32 = .ok (.iload_n 1, 1) := dk_27 (dk_at dksX0_walk_1 8 rfl rfl)
theorem dX0_walk_33 : decode cX0_walk 33 = .ok (.iaload, 1) := dk_46 (dk_at dksX0_walk_1 9 rfl rfl)
theorem dX0_walk_34 : decode cX0_walk 34 = .ok (.iload_n 2, 1) := dk_28 (dk_at dksX0_walk_1 10 rfl rfl)
theorem dX0_walk_35 : decode cX0_walk 35 = .ok (.invokevirtual 242, 3) := dk_182 0 242 (dk_at dksX0_walk_1 11 rfl rfl)
theorem dX0_walk_38 : decode cX0_walk 38 = .ok (.istore_n 3, 1) := dk_62 (dk_at dksX0_walk_1 14 rfl rfl)
theorem dX0_walk_39 : decode cX0_walk 39 = .ok (.iload_n 3, 1) := dk_29 (dk_at dksX0_walk_1 15 rfl rfl)
theorem dX0_walk_40 : decode cX0_walk 40 = .ok (.iconst (-1), 1) := dk_2 (dk_at dksX0_walk_1 16 rfl rfl)
theorem dX0_walk_41 : decode cX0_walk 41 = .ok (.if_icmp .ne 11, 3) := dk_160 0 11 (dk_at dksX0_walk_1 17 rfl rfl)
theorem dX0_walk_44 : decode cX0_walk 44 = .ok (.aload_n 0, 1) := dk_42 (dk_at dksX0_walk_1 20 rfl rfl)
theorem dX0_walk_45 : decode cX0_walk 45 = .ok (.iconst 3, 1) := dk_6 (dk_at dksX0_walk_1 21 rfl rfl)
theorem dX0_walk_46 : decode cX0_walk 46 = .ok (.invokevirtual 142, 3) := dk_182 0 142 (dk_at dksX0_walk_2 0 rfl rfl)
theorem dX0_walk_49 : decode cX0_walk 49 = .ok (.goto 10, 3) := dk_167 0 10 (dk_at dksX0_walk_2 3 rfl rfl)
theorem dX0_walk_52 : decode cX0_walk 52 = .ok (.aload_n 0, 1) := dk_42 (dk_at dksX0_walk_2 6 rfl rfl)
theorem dX0_walk_53 : decode cX0_walk 53 = .ok (.iload_n 1, 1) := dk_27 (dk_at dksX0_walk_2 7 rfl rfl)
theorem dX0_walk_54 : decode cX0_walk 54 = .ok (.iload_n 2, 1) := dk_28 (dk_at dksX0_walk_2 8 rfl rfl)
theorem dX0_walk_55 : decode cX0_walk 55 = .ok (.iload_n 3, 1) := dk_29 (dk_at dksX0_walk_2 9 rfl rfl)
theorem dX0_walk_56 : decode cX0_walk 56 = .ok (.invokevirtual 267, 3) := dk_182 1 11 (dk_at dksX0_walk_2 10 rfl rfl)
theorem dX0_walk_59 : decode cX0_walk 59 = .ok (.ireturn, 1) := dk_172 (dk_at dksX0_walk_2 13 rfl rfl)
abbrev cX0_walks : ByteArray := prog_1_method_45_code
def yX0_walks : MethodName := ⟨RX0, "walks", "(III)I"⟩
def dkwX0_walks_1 : List UInt8 := [27, 28, 79, 42, 27, 28, 182, 1, 8, 172]
abbrev dktX0_walks_1 : List UInt8 := dkwX0_walks_1 ++ []
def dkwX0_walks_0 : List UInt8 := [42, 180, 0, 61, 180, 0, 113, 7, 50, 27, 92, 46, 29, 96, 79, 42, 180, 0, 61, 180, 0, 113, 4, 50]
abbrev dktX0_walks_0 : List UInt8 := dkwX0_walks_0 ++ dktX0_walks_1
theorem dksX0_walks_0 : cX0_walks.data.toList.drop 0 = dktX0_walks_0 := by decide +kernel
theorem dksX0_walks_1 : cX0_walks.data.toList.drop 24 = dktX0_walks_1 := dk_seg dksX0_walks_0 24 rfl rfl
theorem dX0_walks_0 : decode cX0_walks 0 = .ok (.aload_n 0, 1) := dk_42 (dk_at dksX0_walks_0 0 rfl rfl)
theorem dX0_walks_1 : decode cX0_walks 1 = .ok (.getfield 61, 3) := dk_180 0 61 (dk_at dksX0_walks_0 1 rfl rfl)
theorem dX0_walks_4 : decode cX0_walks 4 = .ok (.getfield 113, 3) := dk_180 0 113 (dk_at dksX0_walks_0 4 rfl rfl)
theorem dX0_walks_7 : decode cX0_walks 7 = .ok (.iconst 4, 1) := dk_7 (dk_at dksX0_walks_0 7 rfl rfl)
theorem dX0_walks_8 : decode cX0_walks 8 = .ok (.aaload, 1) := dk_50 (dk_at dksX0_walks_0 8 rfl rfl)
theorem dX0_walks_9 : decode cX0_walks 9 = .ok (.iload_n 1, 1) := dk_27 (dk_at dksX0_walks_0 9 rfl rfl)
theorem dX0_walks_10 : decode cX0_walks 10 = .ok (.dup2, 1) := dk_92 (dk_at dksX0_walks_0 10 rfl rfl)
theorem dX0_walks_11 : decode cX0_walks 11 = .ok (.iaload, 1) := dk_46 (dk_at dksX0_walks_0 11 rfl rfl)
theorem dX0_walks_12 : decode cX0_walks 12 = .ok (.iload_n 3, 1) := dk_29 (dk_at dksX0_walks_0 12 rfl rfl)
theorem dX0_walks_13 : decode cX0_walks 13 = .ok (.iadd, 1) := dk_96 (dk_at dksX0_walks_0 13 rfl rfl)
theorem dX0_walks_14 : decode cX0_walks 14 = .ok (.iastore, 1) := dk_79 (dk_at dksX0_walks_0 14 rfl rfl)
theorem dX0_walks_15 : decode cX0_walks 15 = .ok (.aload_n 0, 1) := dk_42 (dk_at dksX0_walks_0 15 rfl rfl)
theorem dX0_walks_16 : decode cX0_walks 16 = .ok (.getfield 61, 3) := dk_180 0 61 (dk_at dksX0_walks_0 16 rfl rfl)
theorem dX0_walks_19 : decode cX0_walks 19 = .ok (.getfield 113, 3) := dk_180 0 113 (dk_at dksX0_walks_0 19 rfl rfl)
theorem dX0_walks_22 : decode cX0_walks 22 = .ok (.iconst 1, 1) := dk_4 (dk_at dksX0_walks_0 22 rfl rfl)
theorem dX0_walks_23 : decode cX0_walks 23 = .ok (.aaload, 1) := dk_50 (dk_at dksX0_walks_0 23 rfl rfl)
theorem dX0_walks_24 : decode cX0_walks 24 = .ok (.iload_n 1, 1) := dk_27 (dk_at dksX0_walks_1 0 rfl rfl)
theorem dX0_walks_25 : decode cX0_walks 25 = .ok (.iload_n 2, 1) := dk_28 (dk_at dksX0_walks_1 1 rfl rfl)
theorem dX0_walks_26 : decode cX0_walks 26 = .ok (.iastore, 1) := dk_79 (dk_at dksX0_walks_1 2 rfl rfl)
theorem dX0_walks_27 : decode cX0_walks 27 = .ok (.aload_n 0, 1) := dk_42 (dk_at dksX0_walks_1 3 rfl rfl)
theorem dX0_walks_28 : decode cX0_walks 28 = .ok (.iload_n 1, 1) := dk_27 (dk_at dksX0_walks_1 4 rfl rfl)
theorem dX0_walks_29 : decode cX0_walks 29 = .ok (.iload_n 2, 1) := dk_28 (dk_at dksX0_walks_1 5 rfl rfl)
theorem dX0_walks_30 : decode cX0_walks 30 = .ok (.invokevirtual 264, 3) := dk_182 1 8 (dk_at dksX0_walks_1 6 rfl rfl)
theorem dX0_walks_33 : decode cX0_walks 33 = .ok (.ireturn, 1) := dk_172 (dk_at dksX0_walks_1 9 rfl rfl)
abbrev cX0_arrives : ByteArray := prog_1_method_44_code
def yX0_arrives : MethodName := ⟨RX0, "arrives", "(II)I"⟩
def dkwX0_arrives_4 : List UInt8 := [167, 255, 175, 42, 180, 0, 61, 180, 0, 113, 6, 50, 27, 92, 46, 21, 4, 96, 79, 21, 4, 172]
abbrev dktX0_arrives_4 : List UInt8 := dkwX0_arrives_4 ++ []
def dkwX0_arrives_3 : List UInt8 := [42, 27, 21, 6, 182, 1, 5, 96, 54, 4, 42, 180, 0, 61, 21, 5, 5, 27, 182, 0, 255, 132, 5, 1]
abbrev dktX0_arrives_3 : List UInt8 := dkwX0_arrives_3 ++ dktX0_arrives_4
def dkwX0_arrives_2 : List UInt8 := [28, 160, 0, 44, 42, 21, 5, 182, 0, 220, 54, 6, 21, 4, 21, 6, 2, 160, 0, 7, 3, 167, 0, 10]
abbrev dktX0_arrives_2 : List UInt8 := dkwX0_arrives_2 ++ dktX0_arrives_3
def dkwX0_arrives_1 : List UInt8 := [162, 0, 75, 29, 21, 5, 184, 1, 2, 153, 0, 60, 42, 180, 0, 61, 180, 0, 214, 5, 50, 21, 5, 46]
abbrev dktX0_arrives_1 : List UInt8 := dkwX0_arrives_1 ++ dktX0_arrives_2
def dkwX0_arrives_0 : List UInt8 := [42, 180, 0, 61, 27, 182, 0, 170, 62, 3, 54, 4, 3, 54, 5, 21, 5, 42, 180, 0, 61, 180, 0, 127]
abbrev dktX0_arrives_0 : List UInt8 := dkwX0_arrives_0 ++ dktX0_arrives_1
theorem dksX0_arrives_0 : cX0_arrives.data.toList.drop 0 = dktX0_arrives_0 := by decide +kernel
theorem dksX0_arrives_1 : cX0_arrives.data.toList.drop 24 = dktX0_arrives_1 := dk_seg dksX0_arrives_0 24 rfl rfl
theorem dksX0_arrives_2 : cX0_arrives.data.toList.drop 48 = dktX0_arrives_2 := dk_seg dksX0_arrives_1 24 rfl rfl
theorem dksX0_arrives_3 : cX0_arrives.data.toList.drop 72 = dktX0_arrives_3 := dk_seg dksX0_arrives_2 24 rfl rfl
theorem dksX0_arrives_4 : cX0_arrives.data.toList.drop 96 = dktX0_arrives_4 := dk_seg dksX0_arrives_3 24 rfl rfl
theorem dX0_arrives_0 : decode cX0_arrives 0 = .ok (.aload_n 0, 1) := dk_42 (dk_at dksX0_arrives_0 0 rfl rfl)
theorem dX0_arrives_1 : decode cX0_arrives 1 = .ok (.getfield 61, 3) := dk_180 0 61 (dk_at dksX0_arrives_0 1 rfl rfl)
theorem dX0_arrives_4 : decode cX0_arrives 4 = .ok (.iload_n 1, 1) := dk_27 (dk_at dksX0_arrives_0 4 rfl rfl)
theorem dX0_arrives_5 : decode cX0_arrives 5 = .ok (.invokevirtual 170, 3) := dk_182 0 170 (dk_at dksX0_arrives_0 5 rfl rfl)
theorem dX0_arrives_8 : decode cX0_arrives 8 = .ok (.istore_n 3, 1) := dk_62 (dk_at dksX0_arrives_0 8 rfl rfl)
theorem dX0_arrives_9 : decode cX0_arrives 9 = .ok (.iconst 0, 1) := dk_3 (dk_at dksX0_arrives_0 9 rfl rfl)
theorem dX0_arrives_10 : decode cX0_arrives 10 = .ok (.istore 4, 2) := dk_54 4 (dk_at dksX0_arrives_0 10 rfl rfl)
theorem dX0_arrives_12 : decode cX0_arrives 12 = .ok (.iconst 0, 1) := dk_3 (dk_at dksX0_arrives_0 12 rfl rfl)
theorem dX0_arrives_13 : decode cX0_arrives 13 = .ok (.istore 5, 2) := dk_54 5 (dk_at dksX0_arrives_0 13 rfl rfl)
theorem dX0_arrives_15 : decode cX0_arrives 15 = .ok (.iload 5, 2) := dk_21 5 (dk_at dksX0_arrives_0 15 rfl rfl)
theorem dX0_arrives_17 : decode cX0_arrives 17 = .ok (.aload_n 0, 1) := dk_42 (dk_at dksX0_arrives_0 17 rfl rfl)
theorem dX0_arrives_18 : decode cX0_arrives 18 = .ok (.getfield 61, 3) := dk_180 0 61 (dk_at dksX0_arrives_0 18 rfl rfl)
theorem dX0_arrives_21 : decode cX0_arrives 21 = .ok (.getfield 127, 3) := dk_180 0 127 (dk_at dksX0_arrives_0 21 rfl rfl)
theorem dX0_arrives_24 : decode cX0_arrives 24 = .ok (.if_icmp .ge 75, 3) := dk_162 0 75 (dk_at dksX0_arrives_1 0 rfl rfl)
theorem dX0_arrives_27 : decode cX0_arrives 27 = .ok (.iload_n 3, 1) := dk_29 (dk_at dksX0_arrives_1 3 rfl rfl)
theorem dX0_arrives_28 : decode cX0_arrives 28 = .ok (.iload 5, 2) := dk_21 5 (dk_at dksX0_arrives_1 4 rfl rfl)
theorem dX0_arrives_30 : decode cX0_arrives 30 = .ok (.invokestatic 258, 3) := dk_184 1 2 (dk_at dksX0_arrives_1 6 rfl rfl)
theorem dX0_arrives_33 : decode cX0_arrives 33 = .ok (.ifCond .eq 60, 3) := dk_153 0 60 (dk_at dksX0_arrives_1 9 rfl rfl)
theorem dX0_arrives_36 : decode cX0_arrives 36 = .ok (.aload_n 0, 1) := dk_42 (dk_at dksX0_arrives_1 12 rfl rfl)
theorem dX0_arrives_37 : decode cX0_arrives 37 = .ok (.getfield 61, 3) := dk_180 0 61 (dk_at dksX0_arrives_1 13 rfl rfl)
theorem dX0_arrives_40 : decode cX0_arrives 40 = .ok (.getfield 214, 3) := dk_180 0 214 (dk_at dksX0_arrives_1 16 rfl rfl)
theorem dX0_arrives_43 : decode cX0_arrives 43 = .ok (.iconst 2, 1) := dk_5 (dk_at dksX0_arrives_1 19 rfl rfl)
theorem dX0_arrives_44 : decode cX0_arrives 44 = .ok (.aaload, 1) := dk_50 (dk_at dksX0_arrives_1 20 rfl rfl)
theorem dX0_arrives_45 : decode cX0_arrives 45 = .ok (.iload 5, 2) := dk_21 5 (dk_at dksX0_arrives_1 21 rfl rfl)
theorem dX0_arrives_47 : decode cX0_arrives 47 = .ok (.iaload, 1) := dk_46 (dk_at dksX0_arrives_1 23 rfl rfl)
theorem dX0_arrives_48 : decode cX0_arrives 48 = .ok (.iload_n 2, 1) := dk_28 (dk_at dksX0_arrives_2 0 rfl rfl)
theorem dX0_arrives_49 : decode cX0_arrives 49 = .ok (.if_icmp .ne 44, 3) := dk_160 0 44 (dk_at dksX0_arrives_2 1 rfl rfl)
theorem dX0_arrives_52 : decode cX0_arrives 52 = .ok (.aload_n 0, 1) := dk_42 (dk_at dksX0_arrives_2 4 rfl rfl)
theorem dX0_arrives_53 : decode cX0_arrives 53 = .ok (.iload 5, 2) := dk_21 5 (dk_at dksX0_arrives_2 5 rfl rfl)
theorem dX0_arrives_55 : decode cX0_arrives 55 = .ok (.invokevirtual 220, 3) := dk_182 0 220 (dk_at dksX0_arrives_2 7 rfl rfl)
theorem dX0_arrives_58 : decode cX0_arrives 58 = .ok (.istore 6, 2) := dk_54 6 (dk_at dksX0_arrives_2 10 rfl rfl)
theorem dX0_arrives_60 : decode cX0_arrives 60 = .ok (.iload 4, 2) := dk_21 4 (dk_at dksX0_arrives_2 12 rfl rfl)
theorem dX0_arrives_62 : decode cX0_arrives 62 = .ok (.iload 6, 2) := dk_21 6 (dk_at dksX0_arrives_2 14 rfl rfl)
theorem dX0_arrives_64 : decode cX0_arrives 64 = .ok (.iconst (-1), 1) := dk_2 (dk_at dksX0_arrives_2 16 rfl rfl)
theorem dX0_arrives_65 : decode cX0_arrives 65 = .ok (.if_icmp .ne 7, 3) := dk_160 0 7 (dk_at dksX0_arrives_2 17 rfl rfl)
theorem dX0_arrives_68 : decode cX0_arrives 68 = .ok (.iconst 0, 1) := dk_3 (dk_at dksX0_arrives_2 20 rfl rfl)
theorem dX0_arrives_69 : decode cX0_arrives 69 = .ok (.goto 10, 3) := dk_167 0 10 (dk_at dksX0_arrives_2 21 rfl rfl)
theorem dX0_arrives_72 : decode cX0_arrives 72 = .ok (.aload_n 0, 1) := dk_42 (dk_at dksX0_arrives_3 0 rfl rfl)
theorem dX0_arrives_73 : decode cX0_arrives 73 = .ok (.iload_n 1, 1) := dk_27 (dk_at dksX0_arrives_3 1 rfl rfl)
theorem dX0_arrives_74 : decode cX0_arrives 74 = .ok (.iload 6, 2) := dk_21 6 (dk_at dksX0_arrives_3 2 rfl rfl)
theorem dX0_arrives_76 : decode cX0_arrives 76 = .ok (.invokevirtual 261, 3) := dk_182 1 5 (dk_at dksX0_arrives_3 4 rfl rfl)
theorem dX0_arrives_79 : decode cX0_arrives 79 = .ok (.iadd, 1) := dk_96 (dk_at dksX0_arrives_3 7 rfl rfl)
theorem dX0_arrives_80 : decode cX0_arrives 80 = .ok (.istore 4, 2) := dk_54 4 (dk_at dksX0_arrives_3 8 rfl rfl)
theorem dX0_arrives_82 : decode cX0_arrives 82 = .ok (.aload_n 0, 1) := dk_42 (dk_at dksX0_arrives_3 10 rfl rfl)
theorem dX0_arrives_83 : decode cX0_arrives 83 = .ok (.getfield 61, 3) := dk_180 0 61 (dk_at dksX0_arrives_3 11 rfl rfl)
theorem dX0_arrives_86 : decode cX0_arrives 86 = .ok (.iload 5, 2) := dk_21 5 (dk_at dksX0_arrives_3 14 rfl rfl)
theorem dX0_arrives_88 : decode cX0_arrives 88 = .ok (.iconst 2, 1) := dk_5 (dk_at dksX0_arrives_3 16 rfl rfl)
theorem dX0_arrives_89 : decode cX0_arrives 89 = .ok (.iload_n 1, 1) := dk_27 (dk_at dksX0_arrives_3 17 rfl rfl)
theorem dX0_arrives_90 : decode cX0_arrives 90 = .ok (.invokevirtual 255, 3) := dk_182 0 255 (dk_at dksX0_arrives_3 18 rfl rfl)
theorem dX0_arrives_93 : decode cX0_arrives 93 = .ok (.iinc 5 1, 3) := dk_132 5 1 (dk_at dksX0_arrives_3 21 rfl rfl)
theorem dX0_arrives_96 : decode cX0_arrives 96 = .ok (.goto (-81), 3) := dk_167 255 175 (dk_at dksX0_arrives_4 0 rfl rfl)
theorem dX0_arrives_99 : decode cX0_arrives 99 = .ok (.aload_n 0, 1) := dk_42 (dk_at dksX0_arrives_4 3 rfl rfl)
theorem dX0_arrives_100 : decode cX0_arrives 100 = .ok (.getfield 61, 3) := dk_180 0 61 (dk_at dksX0_arrives_4 4 rfl rfl)
theorem dX0_arrives_103 : decode cX0_arrives 103 = .ok (.getfield 113, 3) := dk_180 0 113 (dk_at dksX0_arrives_4 7 rfl rfl)
theorem dX0_arrives_106 : decode cX0_arrives 106 = .ok (.iconst 3, 1) := dk_6 (dk_at dksX0_arrives_4 10 rfl rfl)
theorem dX0_arrives_107 : decode cX0_arrives 107 = .ok (.aaload, 1) := dk_50 (dk_at dksX0_arrives_4 11 rfl rfl)
theorem dX0_arrives_108 : decode cX0_arrives 108 = .ok (.iload_n 1, 1) := dk_27 (dk_at dksX0_arrives_4 12 rfl rfl)
theorem dX0_arrives_109 : decode cX0_arrives 109 = .ok (.dup2, 1) := dk_92 (dk_at dksX0_arrives_4 13 rfl rfl)
theorem dX0_arrives_110 : decode cX0_arrives 110 = .ok (.iaload, 1) := dk_46 (dk_at dksX0_arrives_4 14 rfl rfl)
theorem dX0_arrives_111 : decode cX0_arrives 111 = .ok (.iload 4, 2) := dk_21 4 (dk_at dksX0_arrives_4 15 rfl rfl)
theorem dX0_arrives_113 : decode cX0_arrives 113 = .ok (.iadd, 1) := dk_96 (dk_at dksX0_arrives_4 17 rfl rfl)
theorem dX0_arrives_114 : decode cX0_arrives 114 = .ok (.iastore, 1) := dk_79 (dk_at dksX0_arrives_4 18 rfl rfl)
theorem dX0_arrives_115 : decode cX0_arrives 115 = .ok (.iload 4, 2) := dk_21 4 (dk_at dksX0_arrives_4 19 rfl rfl)
theorem dX0_arrives_117 : decode cX0_arrives 117 = .ok (.ireturn, 1) := dk_172 (dk_at dksX0_arrives_4 21 rfl rfl)
abbrev cX0_getsOf : ByteArray := prog_1_method_24_code
def yX0_getsOf : MethodName := ⟨RX0, "getsOf", "(II)I"⟩
def dkwX0_getsOf_0 : List UInt8 := [42, 27, 182, 0, 148, 78, 45, 28, 185, 0, 158, 2, 0, 172]
abbrev dktX0_getsOf_0 : List UInt8 := dkwX0_getsOf_0 ++ []
theorem dksX0_getsOf_0 : cX0_getsOf.data.toList.drop 0 = dktX0_getsOf_0 := by decide +kernel
theorem dX0_getsOf_0 : decode cX0_getsOf 0 = .ok (.aload_n 0, 1) := dk_42 (dk_at dksX0_getsOf_0 0 rfl rfl)
theorem dX0_getsOf_1 : decode cX0_getsOf 1 = .ok (.iload_n 1, 1) := dk_27 (dk_at dksX0_getsOf_0 1 rfl rfl)
theorem dX0_getsOf_2 : decode cX0_getsOf 2 = .ok (.invokevirtual 148, 3) := dk_182 0 148 (dk_at dksX0_getsOf_0 2 rfl rfl)
theorem dX0_getsOf_5 : decode cX0_getsOf 5 = .ok (.astore_n 3, 1) := dk_78 (dk_at dksX0_getsOf_0 5 rfl rfl)
theorem dX0_getsOf_6 : decode cX0_getsOf 6 = .ok (.aload_n 3, 1) := dk_45 (dk_at dksX0_getsOf_0 6 rfl rfl)
theorem dX0_getsOf_7 : decode cX0_getsOf 7 = .ok (.iload_n 2, 1) := dk_28 (dk_at dksX0_getsOf_0 7 rfl rfl)
theorem dX0_getsOf_8 : decode cX0_getsOf 8 = .ok (.invokeinterface 158 2, 5) := by decide +kernel
theorem dX0_getsOf_13 : decode cX0_getsOf 13 = .ok (.ireturn, 1) := dk_172 (dk_at dksX0_getsOf_0 13 rfl rfl)
abbrev cX0_buy : ByteArray := prog_1_method_47_code
def yX0_buy : MethodName := ⟨RX0, "buy", "(II)I"⟩
def dkwX0_buy_4 : List UInt8 := [180, 0, 61, 180, 0, 236, 3, 50, 28, 46, 100, 79, 42, 180, 0, 61, 180, 0, 113, 6, 50, 27, 46, 172]
abbrev dktX0_buy_4 : List UInt8 := dkwX0_buy_4 ++ []
def dkwX0_buy_3 : List UInt8 := [180, 0, 61, 180, 0, 236, 4, 50, 28, 27, 79, 42, 180, 0, 61, 180, 0, 113, 6, 50, 27, 92, 46, 42]
abbrev dktX0_buy_3 : List UInt8 := dkwX0_buy_3 ++ dktX0_buy_4
def dkwX0_buy_2 : List UInt8 := [46, 42, 180, 0, 61, 180, 0, 236, 3, 50, 28, 46, 162, 0, 9, 42, 7, 182, 0, 142, 172, 42]
abbrev dktX0_buy_2 : List UInt8 := dkwX0_buy_2 ++ dktX0_buy_3
def dkwX0_buy_1 : List UInt8 := [180, 0, 61, 180, 0, 236, 4, 50, 28, 46, 2, 160, 0, 28, 42, 180, 0, 61, 180, 0, 113, 6, 50, 27]
abbrev dktX0_buy_1 : List UInt8 := dkwX0_buy_1 ++ dktX0_buy_2
def dkwX0_buy_0 : List UInt8 := [42, 27, 182, 0, 161, 153, 0, 11, 42, 28, 182, 0, 233, 154, 0, 9, 42, 3, 182, 0, 142, 172, 42]
abbrev dktX0_buy_0 : List UInt8 := dkwX0_buy_0 ++ dktX0_buy_1
theorem dksX0_buy_0 : cX0_buy.data.toList.drop 0 = dktX0_buy_0 := by decide +kernel
theorem dksX0_buy_1 : cX0_buy.data.toList.drop 23 = dktX0_buy_1 := dk_seg dksX0_buy_0 23 rfl rfl
theorem dksX0_buy_2 : cX0_buy.data.toList.drop 47 = dktX0_buy_2 := dk_seg dksX0_buy_1 24 rfl rfl
theorem dksX0_buy_3 : cX0_buy.data.toList.drop 69 = dktX0_buy_3 := dk_seg dksX0_buy_2 22 rfl rfl
theorem dksX0_buy_4 : cX0_buy.data.toList.drop 93 = dktX0_buy_4 := dk_seg dksX0_buy_3 24 rfl rfl
theorem dX0_buy_0 : decode cX0_buy 0 = .ok (.aload_n 0, 1) := dk_42 (dk_at dksX0_buy_0 0 rfl rfl)
theorem dX0_buy_1 : decode cX0_buy 1 = .ok (.iload_n 1, 1) := dk_27 (dk_at dksX0_buy_0 1 rfl rfl)
theorem dX0_buy_2 : decode cX0_buy 2 = .ok (.invokevirtual 161, 3) := dk_182 0 161 (dk_at dksX0_buy_0 2 rfl rfl)
theorem dX0_buy_5 : decode cX0_buy 5 = .ok (.ifCond .eq 11, 3) := dk_153 0 11 (dk_at dksX0_buy_0 5 rfl rfl)
theorem dX0_buy_8 : decode cX0_buy 8 = .ok (.aload_n 0, 1) := dk_42 (dk_at dksX0_buy_0 8 rfl rfl)
theorem dX0_buy_9 : decode cX0_buy 9 = .ok (.iload_n 2, 1) := dk_28 (dk_at dksX0_buy_0 9 rfl rfl)
theorem dX0_buy_10 : decode cX0_buy 10 = .ok (.invokevirtual 233, 3) := dk_182 0 233 (dk_at dksX0_buy_0 10 rfl rfl)
theorem dX0_buy_13 : decode cX0_buy 13 = .ok (.ifCond .ne 9, 3) := dk_154 0 9 (dk_at dksX0_buy_0 13 rfl rfl)
theorem dX0_buy_16 : decode cX0_buy 16 = .ok (.aload_n 0, 1) := dk_42 (dk_at dksX0_buy_0 16 rfl rfl)
theorem dX0_buy_17 : decode cX0_buy 17 = .ok (.iconst 0, 1) := dk_3 (dk_at dksX0_buy_0 17 rfl rfl)
theorem dX0_buy_18 : decode cX0_buy 18 = .ok (.invokevirtual 142, 3) := dk_182 0 142 (dk_at dksX0_buy_0 18 rfl rfl)
theorem dX0_buy_21 : decode cX0_buy 21 = .ok (.ireturn, 1) := dk_172 (dk_at dksX0_buy_0 21 rfl rfl)
theorem dX0_buy_22 : decode cX0_buy 22 = .ok (.aload_n 0, 1) := dk_42 (dk_at dksX0_buy_0 22 rfl rfl)
theorem dX0_buy_23 : decode cX0_buy 23 = .ok (.getfield 61, 3) := dk_180 0 61 (dk_at dksX0_buy_1 0 rfl rfl)
theorem dX0_buy_26 : decode cX0_buy 26 = .ok (.getfield 236, 3) := dk_180 0 236 (dk_at dksX0_buy_1 3 rfl rfl)
theorem dX0_buy_29 : decode cX0_buy 29 = .ok (.iconst 1, 1) := dk_4 (dk_at dksX0_buy_1 6 rfl rfl)
theorem dX0_buy_30 : decode cX0_buy 30 = .ok (.aaload, 1) := dk_50 (dk_at dksX0_buy_1 7 rfl rfl)
theorem dX0_buy_31 : decode cX0_buy 31 = .ok (.iload_n 2, 1) := dk_28 (dk_at dksX0_buy_1 8 rfl rfl)
theorem dX0_buy_32 : decode cX0_buy 32 = .ok (.iaload, 1) := dk_46 (dk_at dksX0_buy_1 9 rfl rfl)
theorem dX0_buy_33 : decode cX0_buy 33 = .ok (.iconst (-1), 1) := dk_2 (dk_at dksX0_buy_1 10 rfl rfl)
theorem dX0_buy_34 : decode cX0_buy 34 = .ok (.if_icmp .ne 28, 3) := dk_160 0 28 (dk_at dksX0_buy_1 11 rfl rfl)
theorem dX0_buy_37 : decode cX0_buy 37 = .ok (.aload_n 0, 1) := dk_42 (dk_at dksX0_buy_1 14 rfl rfl)
theorem dX0_buy_38 : decode cX0_buy 38 = .ok (.getfield 61, 3) := dk_180 0 61 (dk_at dksX0_buy_1 15 rfl rfl)
theorem dX0_buy_41 : decode cX0_buy 41 = .ok (.getfield 113, 3) := dk_180 0 113 (dk_at dksX0_buy_1 18 rfl rfl)
theorem dX0_buy_44 : decode cX0_buy 44 = .ok (.iconst 3, 1) := dk_6 (dk_at dksX0_buy_1 21 rfl rfl)
theorem dX0_buy_45 : decode cX0_buy 45 = .ok (.aaload, 1) := dk_50 (dk_at dksX0_buy_1 22 rfl rfl)
theorem dX0_buy_46 : decode cX0_buy 46 = .ok (.iload_n 1, 1) := dk_27 (dk_at dksX0_buy_1 23 rfl rfl)
theorem dX0_buy_47 : decode cX0_buy 47 = .ok (.iaload, 1) := dk_46 (dk_at dksX0_buy_2 0 rfl rfl)
theorem dX0_buy_48 : decode cX0_buy 48 = .ok (.aload_n 0, 1) := dk_42 (dk_at dksX0_buy_2 1 rfl rfl)
theorem dX0_buy_49 : decode cX0_buy 49 = .ok (.getfield 61, 3) := dk_180 0 61 (dk_at dksX0_buy_2 2 rfl rfl)
theorem dX0_buy_52 : decode cX0_buy 52 = .ok (.getfield 236, 3) := dk_180 0 236 (dk_at dksX0_buy_2 5 rfl rfl)
theorem dX0_buy_55 : decode cX0_buy 55 = .ok (.iconst 0, 1) := dk_3 (dk_at dksX0_buy_2 8 rfl rfl)
theorem dX0_buy_56 : decode cX0_buy 56 = .ok (.aaload, 1) := dk_50 (dk_at dksX0_buy_2 9 rfl rfl)
theorem dX0_buy_57 : decode cX0_buy 57 = .ok (.iload_n 2, 1) := dk_28 (dk_at dksX0_buy_2 10 rfl rfl)
theorem dX0_buy_58 : decode cX0_buy 58 = .ok (.iaload, 1) := dk_46 (dk_at dksX0_buy_2 11 rfl rfl)
theorem dX0_buy_59 : decode cX0_buy 59 = .ok (.if_icmp .ge 9, 3) := dk_162 0 9 (dk_at dksX0_buy_2 12 rfl rfl)
theorem dX0_buy_62 : decode cX0_buy 62 = .ok (.aload_n 0, 1) := dk_42 (dk_at dksX0_buy_2 15 rfl rfl)
theorem dX0_buy_63 : decode cX0_buy 63 = .ok (.iconst 4, 1) := dk_7 (dk_at dksX0_buy_2 16 rfl rfl)
theorem dX0_buy_64 : decode cX0_buy 64 = .ok (.invokevirtual 142, 3) := dk_182 0 142 (dk_at dksX0_buy_2 17 rfl rfl)
theorem dX0_buy_67 : decode cX0_buy 67 = .ok (.ireturn, 1) := dk_172 (dk_at dksX0_buy_2 20 rfl rfl)
theorem dX0_buy_68 : decode cX0_buy 68 = .ok (.aload_n 0, 1) := dk_42 (dk_at dksX0_buy_2 21 rfl rfl)
theorem dX0_buy_69 : decode cX0_buy 69 = .ok (.getfield 61, 3) := dk_180 0 61 (dk_at dksX0_buy_3 0 rfl rfl)
theorem dX0_buy_72 : decode cX0_buy 72 = .ok (.getfield 236, 3) := dk_180 0 236 (dk_at dksX0_buy_3 3 rfl rfl)
theorem dX0_buy_75 : decode cX0_buy 75 = .ok (.iconst 1, 1) := dk_4 (dk_at dksX0_buy_3 6 rfl rfl)
theorem dX0_buy_76 : decode cX0_buy 76 = .ok (.aaload, 1) := dk_50 (dk_at dksX0_buy_3 7 rfl rfl)
theorem dX0_buy_77 : decode cX0_buy 77 = .ok (.iload_n 2, 1) := dk_28 (dk_at dksX0_buy_3 8 rfl rfl)
theorem dX0_buy_78 : decode cX0_buy 78 = .ok (.iload_n 1, 1) := dk_27 (dk_at dksX0_buy_3 9 rfl rfl)
theorem dX0_buy_79 : decode cX0_buy 79 = .ok (.iastore, 1) := dk_79 (dk_at dksX0_buy_3 10 rfl rfl)
theorem dX0_buy_80 : decode cX0_buy 80 = .ok (.aload_n 0, 1) := dk_42 (dk_at dksX0_buy_3 11 rfl rfl)
theorem dX0_buy_81 : decode cX0_buy 81 = .ok (.getfield 61, 3) := dk_180 0 61 (dk_at dksX0_buy_3 12 rfl rfl)
theorem dX0_buy_84 : decode cX0_buy 84 = .ok (.getfield 113, 3) := dk_180 0 113 (dk_at dksX0_buy_3 15 rfl rfl)
theorem dX0_buy_87 : decode cX0_buy 87 = .ok (.iconst 3, 1) := dk_6 (dk_at dksX0_buy_3 18 rfl rfl)
theorem dX0_buy_88 : decode cX0_buy 88 = .ok (.aaload, 1) := dk_50 (dk_at dksX0_buy_3 19 rfl rfl)
theorem dX0_buy_89 : decode cX0_buy 89 = .ok (.iload_n 1, 1) := dk_27 (dk_at dksX0_buy_3 20 rfl rfl)
theorem dX0_buy_90 : decode cX0_buy 90 = .ok (.dup2, 1) := dk_92 (dk_at dksX0_buy_3 21 rfl rfl)
theorem dX0_buy_91 : decode cX0_buy 91 = .ok (.iaload, 1) := dk_46 (dk_at dksX0_buy_3 22 rfl rfl)
theorem dX0_buy_92 : decode cX0_buy 92 = .ok (.aload_n 0, 1) := dk_42 (dk_at dksX0_buy_3 23 rfl rfl)
theorem dX0_buy_93 : decode cX0_buy 93 = .ok (.getfield 61, 3) := dk_180 0 61 (dk_at dksX0_buy_4 0 rfl rfl)
theorem dX0_buy_96 : decode cX0_buy 96 = .ok (.getfield 236, 3) := dk_180 0 236 (dk_at dksX0_buy_4 3 rfl rfl)
theorem dX0_buy_99 : decode cX0_buy 99 = .ok (.iconst 0, 1) := dk_3 (dk_at dksX0_buy_4 6 rfl rfl)
theorem dX0_buy_100 : decode cX0_buy 100 = .ok (.aaload, 1) := dk_50 (dk_at dksX0_buy_4 7 rfl rfl)
theorem dX0_buy_101 : decode cX0_buy 101 = .ok (.iload_n 2, 1) := dk_28 (dk_at dksX0_buy_4 8 rfl rfl)
theorem dX0_buy_102 : decode cX0_buy 102 = .ok (.iaload, 1) := dk_46 (dk_at dksX0_buy_4 9 rfl rfl)
theorem dX0_buy_103 : decode cX0_buy 103 = .ok (.isub, 1) := dk_100 (dk_at dksX0_buy_4 10 rfl rfl)
theorem dX0_buy_104 : decode cX0_buy 104 = .ok (.iastore, 1) := dk_79 (dk_at dksX0_buy_4 11 rfl rfl)
theorem dX0_buy_105 : decode cX0_buy 105 = .ok (.aload_n 0, 1) := dk_42 (dk_at dksX0_buy_4 12 rfl rfl)
theorem dX0_buy_106 : decode cX0_buy 106 = .ok (.getfield 61, 3) := dk_180 0 61 (dk_at dksX0_buy_4 13 rfl rfl)
theorem dX0_buy_109 : decode cX0_buy 109 = .ok (.getfield 113, 3) := dk_180 0 113 (dk_at dksX0_buy_4 16 rfl rfl)
theorem dX0_buy_112 : decode cX0_buy 112 = .ok (.iconst 3, 1) := dk_6 (dk_at dksX0_buy_4 19 rfl rfl)
theorem dX0_buy_113 : decode cX0_buy 113 = .ok (.aaload, 1) := dk_50 (dk_at dksX0_buy_4 20 rfl rfl)
theorem dX0_buy_114 : decode cX0_buy 114 = .ok (.iload_n 1, 1) := dk_27 (dk_at dksX0_buy_4 21 rfl rfl)
theorem dX0_buy_115 : decode cX0_buy 115 = .ok (.iaload, 1) := dk_46 (dk_at dksX0_buy_4 22 rfl rfl)
theorem dX0_buy_116 : decode cX0_buy 116 = .ok (.ireturn, 1) := dk_172 (dk_at dksX0_buy_4 23 rfl rfl)
abbrev cX0_now : ByteArray := prog_1_method_48_code
def yX0_now : MethodName := ⟨RX0, "now", "(I)I"⟩
def dkwX0_now_4 : List UInt8 := [182, 0, 142, 172]
abbrev dktX0_now_4 : List UInt8 := dkwX0_now_4 ++ []
def dkwX0_now_3 : List UInt8 := [182, 1, 17, 172, 42, 180, 0, 61, 6, 182, 1, 20, 172, 42, 180, 0, 61, 7, 182, 1, 20, 172, 42, 3]
abbrev dktX0_now_3 : List UInt8 := dkwX0_now_3 ++ dktX0_now_4
def dkwX0_now_2 : List UInt8 := [42, 180, 0, 61, 3, 182, 1, 14, 172, 42, 180, 0, 61, 5, 182, 1, 14, 172, 42, 180, 0, 61]
abbrev dktX0_now_2 : List UInt8 := dkwX0_now_2 ++ dktX0_now_3
def dkwX0_now_1 : List UInt8 := [170, 0, 0, 0, 0, 0, 79, 0, 0, 0, 0, 0, 0, 0, 4, 0, 0, 0, 35, 0, 0, 0, 44, 0, 0, 0, 53, 0, 0, 0, 61, 0, 0, 0, 70]
abbrev dktX0_now_1 : List UInt8 := dkwX0_now_1 ++ dktX0_now_2
def dkwX0_now_0 : List UInt8 := [27]
abbrev dktX0_now_0 : List UInt8 := dkwX0_now_0 ++ dktX0_now_1
theorem dksX0_now_0 : cX0_now.data.toList.drop 0 = dktX0_now_0 := by decide +kernel
theorem dksX0_now_1 : cX0_now.data.toList.drop 1 = dktX0_now_1 := dk_seg dksX0_now_0 1 rfl rfl
theorem dksX0_now_2 : cX0_now.data.toList.drop 36 = dktX0_now_2 := dk_seg dksX0_now_1 35 rfl rfl
theorem dksX0_now_3 : cX0_now.data.toList.drop 58 = dktX0_now_3 := dk_seg dksX0_now_2 22 rfl rfl
theorem dksX0_now_4 : cX0_now.data.toList.drop 82 = dktX0_now_4 := dk_seg dksX0_now_3 24 rfl rfl
theorem dX0_now_0 : decode cX0_now 0 = .ok (.iload_n 1, 1) := dk_27 (dk_at dksX0_now_0 0 rfl rfl)
theorem dX0_now_1 : decode cX0_now 1 = .ok (.tableswitch 79 0 4 #[35, 44, 53, 61, 70], 35) := by decide +kernel
theorem dX0_now_36 : decode cX0_now 36 = .ok (.aload_n 0, 1) := dk_42 (dk_at dksX0_now_2 0 rfl rfl)
theorem dX0_now_37 : decode cX0_now 37 = .ok (.getfield 61, 3) := dk_180 0 61 (dk_at dksX0_now_2 1 rfl rfl)
theorem dX0_now_40 : decode cX0_now 40 = .ok (.iconst 0, 1) := dk_3 (dk_at dksX0_now_2 4 rfl rfl)
theorem dX0_now_41 : decode cX0_now 41 = .ok (.invokevirtual 270, 3) := dk_182 1 14 (dk_at dksX0_now_2 5 rfl rfl)
theorem dX0_now_44 : decode cX0_now 44 = .ok (.ireturn, 1) := dk_172 (dk_at dksX0_now_2 8 rfl rfl)
theorem dX0_now_45 : decode cX0_now 45 = .ok (.aload_n 0, 1) := dk_42 (dk_at dksX0_now_2 9 rfl rfl)
theorem dX0_now_46 : decode cX0_now 46 = .ok (.getfield 61, 3) := dk_180 0 61 (dk_at dksX0_now_2 10 rfl rfl)
theorem dX0_now_49 : decode cX0_now 49 = .ok (.iconst 2, 1) := dk_5 (dk_at dksX0_now_2 13 rfl rfl)
theorem dX0_now_50 : decode cX0_now 50 = .ok (.invokevirtual 270, 3) := dk_182 1 14 (dk_at dksX0_now_2 14 rfl rfl)
theorem dX0_now_53 : decode cX0_now 53 = .ok (.ireturn, 1) := dk_172 (dk_at dksX0_now_2 17 rfl rfl)
theorem dX0_now_54 : decode cX0_now 54 = .ok (.aload_n 0, 1) := dk_42 (dk_at dksX0_now_2 18 rfl rfl)
theorem dX0_now_55 : decode cX0_now 55 = .ok (.getfield 61, 3) := dk_180 0 61 (dk_at dksX0_now_2 19 rfl rfl)
theorem dX0_now_58 : decode cX0_now 58 = .ok (.invokevirtual 273, 3) := dk_182 1 17 (dk_at dksX0_now_3 0 rfl rfl)
theorem dX0_now_61 : decode cX0_now 61 = .ok (.ireturn, 1) := dk_172 (dk_at dksX0_now_3 3 rfl rfl)
theorem dX0_now_62 : decode cX0_now 62 = .ok (.aload_n 0, 1) := dk_42 (dk_at dksX0_now_3 4 rfl rfl)
theorem dX0_now_63 : decode cX0_now 63 = .ok (.getfield 61, 3) := dk_180 0 61 (dk_at dksX0_now_3 5 rfl rfl)
theorem dX0_now_66 : decode cX0_now 66 = .ok (.iconst 3, 1) := dk_6 (dk_at dksX0_now_3 8 rfl rfl)
theorem dX0_now_67 : decode cX0_now 67 = .ok (.invokevirtual 276, 3) := dk_182 1 20 (dk_at dksX0_now_3 9 rfl rfl)
theorem dX0_now_70 : decode cX0_now 70 = .ok (.ireturn, 1) := dk_172 (dk_at dksX0_now_3 12 rfl rfl)
theorem dX0_now_71 : decode cX0_now 71 = .ok (.aload_n 0, 1) := dk_42 (dk_at dksX0_now_3 13 rfl rfl)
theorem dX0_now_72 : decode cX0_now 72 = .ok (.getfield 61, 3) := dk_180 0 61 (dk_at dksX0_now_3 14 rfl rfl)
theorem dX0_now_75 : decode cX0_now 75 = .ok (.iconst 4, 1) := dk_7 (dk_at dksX0_now_3 17 rfl rfl)
theorem dX0_now_76 : decode cX0_now 76 = .ok (.invokevirtual 276, 3) := dk_182 1 20 (dk_at dksX0_now_3 18 rfl rfl)
theorem dX0_now_79 : decode cX0_now 79 = .ok (.ireturn, 1) := dk_172 (dk_at dksX0_now_3 21 rfl rfl)
theorem dX0_now_80 : decode cX0_now 80 = .ok (.aload_n 0, 1) := dk_42 (dk_at dksX0_now_3 22 rfl rfl)
theorem dX0_now_81 : decode cX0_now 81 = .ok (.iconst 0, 1) := dk_3 (dk_at dksX0_now_3 23 rfl rfl)
theorem dX0_now_82 : decode cX0_now 82 = .ok (.invokevirtual 142, 3) := dk_182 0 142 (dk_at dksX0_now_4 0 rfl rfl)
theorem dX0_now_85 : decode cX0_now 85 = .ok (.ireturn, 1) := dk_172 (dk_at dksX0_now_4 3 rfl rfl)
abbrev cX0_round : ByteArray := prog_1_method_59_code
def yX0_round : MethodName := ⟨RX0, "round", "(II)I"⟩
def dkwX0_round_1 : List UInt8 := [167, 0, 8, 42, 29, 182, 0, 142, 172]
abbrev dktX0_round_1 : List UInt8 := dkwX0_round_1 ++ []
def dkwX0_round_0 : List UInt8 := [42, 27, 28, 182, 1, 53, 62, 29, 2, 160, 0, 16, 42, 42, 27, 28, 182, 1, 56, 182, 0, 223]
abbrev dktX0_round_0 : List UInt8 := dkwX0_round_0 ++ dktX0_round_1
theorem dksX0_round_0 : cX0_round.data.toList.drop 0 = dktX0_round_0 := by decide +kernel
theorem dksX0_round_1 : cX0_round.data.toList.drop 22 = dktX0_round_1 := dk_seg dksX0_round_0 22 rfl rfl
theorem dX0_round_0 : decode cX0_round 0 = .ok (.aload_n 0, 1) := dk_42 (dk_at dksX0_round_0 0 rfl rfl)
theorem dX0_round_1 : decode cX0_round 1 = .ok (.iload_n 1, 1) := dk_27 (dk_at dksX0_round_0 1 rfl rfl)
theorem dX0_round_2 : decode cX0_round 2 = .ok (.iload_n 2, 1) := dk_28 (dk_at dksX0_round_0 2 rfl rfl)
theorem dX0_round_3 : decode cX0_round 3 = .ok (.invokevirtual 309, 3) := dk_182 1 53 (dk_at dksX0_round_0 3 rfl rfl)
theorem dX0_round_6 : decode cX0_round 6 = .ok (.istore_n 3, 1) := dk_62 (dk_at dksX0_round_0 6 rfl rfl)
theorem dX0_round_7 : decode cX0_round 7 = .ok (.iload_n 3, 1) := dk_29 (dk_at dksX0_round_0 7 rfl rfl)
theorem dX0_round_8 : decode cX0_round 8 = .ok (.iconst (-1), 1) := dk_2 (dk_at dksX0_round_0 8 rfl rfl)
theorem dX0_round_9 : decode cX0_round 9 = .ok (.if_icmp .ne 16, 3) := dk_160 0 16 (dk_at dksX0_round_0 9 rfl rfl)
theorem dX0_round_12 : decode cX0_round 12 = .ok (.aload_n 0, 1) := dk_42 (dk_at dksX0_round_0 12 rfl rfl)
theorem dX0_round_13 : decode cX0_round 13 = .ok (.aload_n 0, 1) := dk_42 (dk_at dksX0_round_0 13 rfl rfl)
theorem dX0_round_14 : decode cX0_round 14 = .ok (.iload_n 1, 1) := dk_27 (dk_at dksX0_round_0 14 rfl rfl)
theorem dX0_round_15 : decode cX0_round 15 = .ok (.iload_n 2, 1) := dk_28 (dk_at dksX0_round_0 15 rfl rfl)
theorem dX0_round_16 : decode cX0_round 16 = .ok (.invokevirtual 312, 3) := dk_182 1 56 (dk_at dksX0_round_0 16 rfl rfl)
theorem dX0_round_19 : decode cX0_round 19 = .ok (.invokevirtual 223, 3) := dk_182 0 223 (dk_at dksX0_round_0 19 rfl rfl)
theorem dX0_round_22 : decode cX0_round 22 = .ok (.goto 8, 3) := dk_167 0 8 (dk_at dksX0_round_1 0 rfl rfl)
theorem dX0_round_25 : decode cX0_round 25 = .ok (.aload_n 0, 1) := dk_42 (dk_at dksX0_round_1 3 rfl rfl)
theorem dX0_round_26 : decode cX0_round 26 = .ok (.iload_n 3, 1) := dk_29 (dk_at dksX0_round_1 4 rfl rfl)
theorem dX0_round_27 : decode cX0_round 27 = .ok (.invokevirtual 142, 3) := dk_182 0 142 (dk_at dksX0_round_1 5 rfl rfl)
theorem dX0_round_30 : decode cX0_round 30 = .ok (.ireturn, 1) := dk_172 (dk_at dksX0_round_1 8 rfl rfl)
abbrev cX0_whyNot : ByteArray := prog_1_method_58_code
def yX0_whyNot : MethodName := ⟨RX0, "whyNot", "(II)I"⟩
def dkwX0_whyNot_1 : List UInt8 := [182, 1, 47, 153, 0, 15, 42, 27, 182, 1, 50, 153, 0, 7, 2, 167, 0, 4, 7, 172]
abbrev dktX0_whyNot_1 : List UInt8 := dkwX0_whyNot_1 ++ []
def dkwX0_whyNot_0 : List UInt8 := [42, 27, 182, 0, 161, 153, 0, 11, 42, 28, 182, 1, 44, 154, 0, 7, 3, 167, 0, 24, 42, 28]
abbrev dktX0_whyNot_0 : List UInt8 := dkwX0_whyNot_0 ++ dktX0_whyNot_1
theorem dksX0_whyNot_0 : cX0_whyNot.data.toList.drop 0 = dktX0_whyNot_0 := by decide +kernel
theorem dksX0_whyNot_1 : cX0_whyNot.data.toList.drop 22 = dktX0_whyNot_1 := dk_seg dksX0_whyNot_0 22 rfl rfl
theorem dX0_whyNot_0 : decode cX0_whyNot 0 = .ok (.aload_n 0, 1) := dk_42 (dk_at dksX0_whyNot_0 0 rfl rfl)
theorem dX0_whyNot_1 : decode cX0_whyNot 1 = .ok (.iload_n 1, 1) := dk_27 (dk_at dksX0_whyNot_0 1 rfl rfl)
theorem dX0_whyNot_2 : decode cX0_whyNot 2 = .ok (.invokevirtual 161, 3) := dk_182 0 161 (dk_at dksX0_whyNot_0 2 rfl rfl)
theorem dX0_whyNot_5 : decode cX0_whyNot 5 = .ok (.ifCond .eq 11, 3) := dk_153 0 11 (dk_at dksX0_whyNot_0 5 rfl rfl)
theorem dX0_whyNot_8 : decode cX0_whyNot 8 = .ok (.aload_n 0, 1) := dk_42 (dk_at dksX0_whyNot_0 8 rfl rfl)
theorem dX0_whyNot_9 : decode cX0_whyNot 9 = .ok (.iload_n 2, 1) := dk_28 (dk_at dksX0_whyNot_0 9 rfl rfl)
theorem dX0_whyNot_10 : decode cX0_whyNot 10 = .ok (.invokevirtual 300, 3) := dk_182 1 44 (dk_at dksX0_whyNot_0 10 rfl rfl)
theorem dX0_whyNot_13 : decode cX0_whyNot 13 = .ok (.ifCond .ne 7, 3) := dk_154 0 7 (dk_at dksX0_whyNot_0 13 rfl rfl)
theorem dX0_whyNot_16 : decode cX0_whyNot 16 = .ok (.iconst 0, 1) := dk_3 (dk_at dksX0_whyNot_0 16 rfl rfl)
theorem dX0_whyNot_17 : decode cX0_whyNot 17 = .ok (.goto 24, 3) := dk_167 0 24 (dk_at dksX0_whyNot_0 17 rfl rfl)
theorem dX0_whyNot_20 : decode cX0_whyNot 20 = .ok (.aload_n 0, 1) := dk_42 (dk_at dksX0_whyNot_0 20 rfl rfl)
theorem dX0_whyNot_21 : decode cX0_whyNot 21 = .ok (.iload_n 2, 1) := dk_28 (dk_at dksX0_whyNot_0 21 rfl rfl)
theorem dX0_whyNot_22 : decode cX0_whyNot 22 = .ok (.invokevirtual 303, 3) := dk_182 1 47 (dk_at dksX0_whyNot_1 0 rfl rfl)
theorem dX0_whyNot_25 : decode cX0_whyNot 25 = .ok (.ifCond .eq 15, 3) := dk_153 0 15 (dk_at dksX0_whyNot_1 3 rfl rfl)
theorem dX0_whyNot_28 : decode cX0_whyNot 28 = .ok (.aload_n 0, 1) := dk_42 (dk_at dksX0_whyNot_1 6 rfl rfl)
theorem dX0_whyNot_29 : decode cX0_whyNot 29 = .ok (.iload_n 1, 1) := dk_27 (dk_at dksX0_whyNot_1 7 rfl rfl)
theorem dX0_whyNot_30 : decode cX0_whyNot 30 = .ok (.invokevirtual 306, 3) := dk_182 1 50 (dk_at dksX0_whyNot_1 8 rfl rfl)
theorem dX0_whyNot_33 : decode cX0_whyNot 33 = .ok (.ifCond .eq 7, 3) := dk_153 0 7 (dk_at dksX0_whyNot_1 11 rfl rfl)
theorem dX0_whyNot_36 : decode cX0_whyNot 36 = .ok (.iconst (-1), 1) := dk_2 (dk_at dksX0_whyNot_1 14 rfl rfl)
theorem dX0_whyNot_37 : decode cX0_whyNot 37 = .ok (.goto 4, 3) := dk_167 0 4 (dk_at dksX0_whyNot_1 15 rfl rfl)
theorem dX0_whyNot_40 : decode cX0_whyNot 40 = .ok (.iconst 4, 1) := dk_7 (dk_at dksX0_whyNot_1 18 rfl rfl)
theorem dX0_whyNot_41 : decode cX0_whyNot 41 = .ok (.ireturn, 1) := dk_172 (dk_at dksX0_whyNot_1 19 rfl rfl)
abbrev cX0_isFew : ByteArray := prog_1_method_20_code
def yX0_isFew : MethodName := ⟨RX0, "isFew", "(I)Z"⟩
def dkwX0_isFew_0 : List UInt8 := [42, 27, 182, 0, 133, 153, 0, 15, 27, 184, 0, 136, 8, 163, 0, 7, 4, 167, 0, 4, 3, 172]
abbrev dktX0_isFew_0 : List UInt8 := dkwX0_isFew_0 ++ []
theorem dksX0_isFew_0 : cX0_isFew.data.toList.drop 0 = dktX0_isFew_0 := by decide +kernel
theorem dX0_isFew_0 : decode cX0_isFew 0 = .ok (.aload_n 0, 1) := dk_42 (dk_at dksX0_isFew_0 0 rfl rfl)
theorem dX0_isFew_1 : decode cX0_isFew 1 = .ok (.iload_n 1, 1) := dk_27 (dk_at dksX0_isFew_0 1 rfl rfl)
theorem dX0_isFew_2 : decode cX0_isFew 2 = .ok (.invokevirtual 133, 3) := dk_182 0 133 (dk_at dksX0_isFew_0 2 rfl rfl)
theorem dX0_isFew_5 : decode cX0_isFew 5 = .ok (.ifCond .eq 15, 3) := dk_153 0 15 (dk_at dksX0_isFew_0 5 rfl rfl)
theorem dX0_isFew_8 : decode cX0_isFew 8 = .ok (.iload_n 1, 1) := dk_27 (dk_at dksX0_isFew_0 8 rfl rfl)
theorem dX0_isFew_9 : decode cX0_isFew 9 = .ok (.invokestatic 136, 3) := dk_184 0 136 (dk_at dksX0_isFew_0 9 rfl rfl)
theorem dX0_isFew_12 : decode cX0_isFew 12 = .ok (.iconst 5, 1) := dk_8 (dk_at dksX0_isFew_0 12 rfl rfl)
theorem dX0_isFew_13 : decode cX0_isFew 13 = .ok (.if_icmp .gt 7, 3) := dk_163 0 7 (dk_at dksX0_isFew_0 13 rfl rfl)
theorem dX0_isFew_16 : decode cX0_isFew 16 = .ok (.iconst 1, 1) := dk_4 (dk_at dksX0_isFew_0 16 rfl rfl)
theorem dX0_isFew_17 : decode cX0_isFew 17 = .ok (.goto 4, 3) := dk_167 0 4 (dk_at dksX0_isFew_0 17 rfl rfl)
theorem dX0_isFew_20 : decode cX0_isFew 20 = .ok (.iconst 0, 1) := dk_3 (dk_at dksX0_isFew_0 20 rfl rfl)
theorem dX0_isFew_21 : decode cX0_isFew 21 = .ok (.ireturn, 1) := dk_172 (dk_at dksX0_isFew_0 21 rfl rfl)
abbrev cX0_isSet : ByteArray := prog_1_method_19_code
def yX0_isSet : MethodName := ⟨RX0, "isSet", "(I)Z"⟩
def dkwX0_isSet_0 : List UInt8 := [27, 3, 4, 42, 180, 0, 61, 180, 0, 127, 120, 4, 100, 184, 0, 3, 172]
abbrev dktX0_isSet_0 : List UInt8 := dkwX0_isSet_0 ++ []
theorem dksX0_isSet_0 : cX0_isSet.data.toList.drop 0 = dktX0_isSet_0 := by decide +kernel
theorem dX0_isSet_0 : decode cX0_isSet 0 = .ok (.iload_n 1, 1) := dk_27 (dk_at dksX0_isSet_0 0 rfl rfl)
theorem dX0_isSet_1 : decode cX0_isSet 1 = .ok (.iconst 0, 1) := dk_3 (dk_at dksX0_isSet_0 1 rfl rfl)
theorem dX0_isSet_2 : decode cX0_isSet 2 = .ok (.iconst 1, 1) := dk_4 (dk_at dksX0_isSet_0 2 rfl rfl)
theorem dX0_isSet_3 : decode cX0_isSet 3 = .ok (.aload_n 0, 1) := dk_42 (dk_at dksX0_isSet_0 3 rfl rfl)
theorem dX0_isSet_4 : decode cX0_isSet 4 = .ok (.getfield 61, 3) := dk_180 0 61 (dk_at dksX0_isSet_0 4 rfl rfl)
theorem dX0_isSet_7 : decode cX0_isSet 7 = .ok (.getfield 127, 3) := dk_180 0 127 (dk_at dksX0_isSet_0 7 rfl rfl)
theorem dX0_isSet_10 : decode cX0_isSet 10 = .ok (.ishl, 1) := dk_120 (dk_at dksX0_isSet_0 10 rfl rfl)
theorem dX0_isSet_11 : decode cX0_isSet 11 = .ok (.iconst 1, 1) := dk_4 (dk_at dksX0_isSet_0 11 rfl rfl)
theorem dX0_isSet_12 : decode cX0_isSet 12 = .ok (.isub, 1) := dk_100 (dk_at dksX0_isSet_0 12 rfl rfl)
theorem dX0_isSet_13 : decode cX0_isSet 13 = .ok (.invokestatic 3, 3) := dk_184 0 3 (dk_at dksX0_isSet_0 13 rfl rfl)
theorem dX0_isSet_16 : decode cX0_isSet 16 = .ok (.ireturn, 1) := dk_172 (dk_at dksX0_isSet_0 16 rfl rfl)
abbrev cX0_allLie : ByteArray := prog_1_method_56_code
def yX0_allLie : MethodName := ⟨RX0, "allLie", "(I)Z"⟩
def dkwX0_allLie_0 : List UInt8 := [27, 42, 180, 0, 61, 3, 182, 1, 14, 2, 130, 126, 154, 0, 7, 4, 167, 0, 4, 3, 172]
abbrev dktX0_allLie_0 : List UInt8 := dkwX0_allLie_0 ++ []
theorem dksX0_allLie_0 : cX0_allLie.data.toList.drop 0 = dktX0_allLie_0 := by decide +kernel
theorem dX0_allLie_0 : decode cX0_allLie 0 = .ok (.iload_n 1, 1) := dk_27 (dk_at dksX0_allLie_0 0 rfl rfl)
theorem dX0_allLie_1 : decode cX0_allLie 1 = .ok (.aload_n 0, 1) := dk_42 (dk_at dksX0_allLie_0 1 rfl rfl)
theorem dX0_allLie_2 : decode cX0_allLie 2 = .ok (.getfield 61, 3) := dk_180 0 61 (dk_at dksX0_allLie_0 2 rfl rfl)
theorem dX0_allLie_5 : decode cX0_allLie 5 = .ok (.iconst 0, 1) := dk_3 (dk_at dksX0_allLie_0 5 rfl rfl)
theorem dX0_allLie_6 : decode cX0_allLie 6 = .ok (.invokevirtual 270, 3) := dk_182 1 14 (dk_at dksX0_allLie_0 6 rfl rfl)
theorem dX0_allLie_9 : decode cX0_allLie 9 = .ok (.iconst (-1), 1) := dk_2 (dk_at dksX0_allLie_0 9 rfl rfl)
theorem dX0_allLie_10 : decode cX0_allLie 10 = .ok (.ixor, 1) := dk_130 (dk_at dksX0_allLie_0 10 rfl rfl)
theorem dX0_allLie_11 : decode cX0_allLie 11 = .ok (.iand, 1) := dk_126 (dk_at dksX0_allLie_0 11 rfl rfl)
theorem dX0_allLie_12 : decode cX0_allLie 12 = .ok (.ifCond .ne 7, 3) := dk_154 0 7 (dk_at dksX0_allLie_0 12 rfl rfl)
theorem dX0_allLie_15 : decode cX0_allLie 15 = .ok (.iconst 1, 1) := dk_4 (dk_at dksX0_allLie_0 15 rfl rfl)
theorem dX0_allLie_16 : decode cX0_allLie 16 = .ok (.goto 4, 3) := dk_167 0 4 (dk_at dksX0_allLie_0 16 rfl rfl)
theorem dX0_allLie_19 : decode cX0_allLie 19 = .ok (.iconst 0, 1) := dk_3 (dk_at dksX0_allLie_0 19 rfl rfl)
theorem dX0_allLie_20 : decode cX0_allLie 20 = .ok (.ireturn, 1) := dk_172 (dk_at dksX0_allLie_0 20 rfl rfl)
abbrev cX0_isEmpty : ByteArray := prog_1_method_57_code
def yX0_isEmpty : MethodName := ⟨RX0, "isEmpty", "(I)Z"⟩
def dkwX0_isEmpty_0 : List UInt8 := [42, 180, 0, 61, 27, 182, 0, 170, 154, 0, 7, 4, 167, 0, 4, 3, 172]
abbrev dktX0_isEmpty_0 : List UInt8 := dkwX0_isEmpty_0 ++ []
theorem dksX0_isEmpty_0 : cX0_isEmpty.data.toList.drop 0 = dktX0_isEmpty_0 := by decide +kernel
theorem dX0_isEmpty_0 : decode cX0_isEmpty 0 = .ok (.aload_n 0, 1) := dk_42 (dk_at dksX0_isEmpty_0 0 rfl rfl)
theorem dX0_isEmpty_1 : decode cX0_isEmpty 1 = .ok (.getfield 61, 3) := dk_180 0 61 (dk_at dksX0_isEmpty_0 1 rfl rfl)
theorem dX0_isEmpty_4 : decode cX0_isEmpty 4 = .ok (.iload_n 1, 1) := dk_27 (dk_at dksX0_isEmpty_0 4 rfl rfl)
theorem dX0_isEmpty_5 : decode cX0_isEmpty 5 = .ok (.invokevirtual 170, 3) := dk_182 0 170 (dk_at dksX0_isEmpty_0 5 rfl rfl)
theorem dX0_isEmpty_8 : decode cX0_isEmpty 8 = .ok (.ifCond .ne 7, 3) := dk_154 0 7 (dk_at dksX0_isEmpty_0 8 rfl rfl)
theorem dX0_isEmpty_11 : decode cX0_isEmpty 11 = .ok (.iconst 1, 1) := dk_4 (dk_at dksX0_isEmpty_0 11 rfl rfl)
theorem dX0_isEmpty_12 : decode cX0_isEmpty 12 = .ok (.goto 4, 3) := dk_167 0 4 (dk_at dksX0_isEmpty_0 12 rfl rfl)
theorem dX0_isEmpty_15 : decode cX0_isEmpty 15 = .ok (.iconst 0, 1) := dk_3 (dk_at dksX0_isEmpty_0 15 rfl rfl)
theorem dX0_isEmpty_16 : decode cX0_isEmpty 16 = .ok (.ireturn, 1) := dk_172 (dk_at dksX0_isEmpty_0 16 rfl rfl)
abbrev cX0_roundOf : ByteArray := prog_1_method_55_code
def yX0_roundOf : MethodName := ⟨RX0, "roundOf", "(II)I"⟩
def dkwX0_roundOf_9 : List UInt8 := [167, 0, 4, 2, 172]
abbrev dktX0_roundOf_9 : List UInt8 := dkwX0_roundOf_9 ++ []
def dkwX0_roundOf_8 : List UInt8 := [54, 4, 132, 6, 1, 167, 255, 184, 132, 5, 1, 167, 255, 161, 21, 4, 18, 196, 162, 0, 8, 21, 4]
abbrev dktX0_roundOf_8 : List UInt8 := dkwX0_roundOf_8 ++ dktX0_roundOf_9
def dkwX0_roundOf_7 : List UInt8 := [100, 160, 0, 21, 21, 4, 42, 180, 0, 101, 21, 5, 50, 21, 6, 46, 184, 0, 205, 167, 0, 5, 21, 4]
abbrev dktX0_roundOf_7 : List UInt8 := dkwX0_roundOf_7 ++ dktX0_roundOf_8
def dkwX0_roundOf_6 : List UInt8 := [162, 0, 50, 42, 21, 5, 21, 6, 29, 182, 1, 41, 21, 5, 42, 180, 0, 98, 42, 180, 1, 23, 46, 4]
abbrev dktX0_roundOf_6 : List UInt8 := dkwX0_roundOf_6 ++ dktX0_roundOf_7
def dkwX0_roundOf_5 : List UInt8 := [3, 54, 6, 21, 6, 16, 7, 162, 0, 71, 42, 180, 0, 101, 21, 5, 50, 21, 6, 46, 18, 196]
abbrev dktX0_roundOf_5 : List UInt8 := dkwX0_roundOf_5 ++ dktX0_roundOf_6
def dkwX0_roundOf_4 : List UInt8 := [167, 0, 5, 18, 196, 54, 4, 3, 54, 5, 21, 5, 42, 180, 0, 98, 42, 180, 1, 23, 46, 162, 0, 87]
abbrev dktX0_roundOf_4 : List UInt8 := dkwX0_roundOf_4 ++ dktX0_roundOf_5
def dkwX0_roundOf_3 : List UInt8 := [180, 0, 113, 4, 50, 27, 46, 3, 79, 42, 27, 182, 0, 167, 62, 42, 180, 1, 23, 154, 0, 7, 3]
abbrev dktX0_roundOf_3 : List UInt8 := dkwX0_roundOf_3 ++ dktX0_roundOf_4
def dkwX0_roundOf_2 : List UInt8 := [132, 4, 1, 167, 255, 235, 132, 3, 1, 167, 255, 213, 42, 180, 0, 101, 3, 50, 42, 180, 0, 61]
abbrev dktX0_roundOf_2 : List UInt8 := dkwX0_roundOf_2 ++ dktX0_roundOf_3
def dkwX0_roundOf_1 : List UInt8 := [162, 0, 36, 3, 54, 4, 21, 4, 16, 7, 162, 0, 20, 42, 180, 0, 101, 29, 50, 21, 4, 18, 196, 79]
abbrev dktX0_roundOf_1 : List UInt8 := dkwX0_roundOf_1 ++ dktX0_roundOf_2
def dkwX0_roundOf_0 : List UInt8 := [42, 28, 182, 1, 38, 42, 27, 182, 0, 239, 3, 62, 29, 42, 180, 0, 98, 42, 180, 1, 23, 46]
abbrev dktX0_roundOf_0 : List UInt8 := dkwX0_roundOf_0 ++ dktX0_roundOf_1
theorem dksX0_roundOf_0 : cX0_roundOf.data.toList.drop 0 = dktX0_roundOf_0 := by decide +kernel
theorem dksX0_roundOf_1 : cX0_roundOf.data.toList.drop 22 = dktX0_roundOf_1 := dk_seg dksX0_roundOf_0 22 rfl rfl
theorem dksX0_roundOf_2 : cX0_roundOf.data.toList.drop 46 = dktX0_roundOf_2 := dk_seg dksX0_roundOf_1 24 rfl rfl
theorem dksX0_roundOf_3 : cX0_roundOf.data.toList.drop 68 = dktX0_roundOf_3 := dk_seg dksX0_roundOf_2 22 rfl rfl
theorem dksX0_roundOf_4 : cX0_roundOf.data.toList.drop 91 = dktX0_roundOf_4 := dk_seg dksX0_roundOf_3 23 rfl rfl
theorem dksX0_roundOf_5 : cX0_roundOf.data.toList.drop 115 = dktX0_roundOf_5 := dk_seg dksX0_roundOf_4 24 rfl rfl
theorem dksX0_roundOf_6 : cX0_roundOf.data.toList.drop 137 = dktX0_roundOf_6 := dk_seg dksX0_roundOf_5 22 rfl rfl
theorem dksX0_roundOf_7 : cX0_roundOf.data.toList.drop 161 = dktX0_roundOf_7 := dk_seg dksX0_roundOf_6 24 rfl rfl
theorem dksX0_roundOf_8 : cX0_roundOf.data.toList.drop 185 = dktX0_roundOf_8 := dk_seg dksX0_roundOf_7 24 rfl rfl
theorem dksX0_roundOf_9 : cX0_roundOf.data.toList.drop 208 = dktX0_roundOf_9 := dk_seg dksX0_roundOf_8 23 rfl rfl
theorem dX0_roundOf_0 : decode cX0_roundOf 0 = .ok (.aload_n 0, 1) := dk_42 (dk_at dksX0_roundOf_0 0 rfl rfl)
theorem dX0_roundOf_1 : decode cX0_roundOf 1 = .ok (.iload_n 2, 1) := dk_28 (dk_at dksX0_roundOf_0 1 rfl rfl)
theorem dX0_roundOf_2 : decode cX0_roundOf 2 = .ok (.invokevirtual 294, 3) := dk_182 1 38 (dk_at dksX0_roundOf_0 2 rfl rfl)
theorem dX0_roundOf_5 : decode cX0_roundOf 5 = .ok (.aload_n 0, 1) := dk_42 (dk_at dksX0_roundOf_0 5 rfl rfl)
theorem dX0_roundOf_6 : decode cX0_roundOf 6 = .ok (.iload_n 1, 1) := dk_27 (dk_at dksX0_roundOf_0 6 rfl rfl)
theorem dX0_roundOf_7 : decode cX0_roundOf 7 = .ok (.invokevirtual 239, 3) := dk_182 0 239 (dk_at dksX0_roundOf_0 7 rfl rfl)
theorem dX0_roundOf_10 : decode cX0_roundOf 10 = .ok (.iconst 0, 1) := dk_3 (dk_at dksX0_roundOf_0 10 rfl rfl)
theorem dX0_roundOf_11 : decode cX0_roundOf 11 = .ok (.istore_n 3, 1) := dk_62 (dk_at dksX0_roundOf_0 11 rfl rfl)
theorem dX0_roundOf_12 : decode cX0_roundOf 12 = .ok (.iload_n 3, 1) := dk_29 (dk_at dksX0_roundOf_0 12 rfl rfl)
theorem dX0_roundOf_13 : decode cX0_roundOf 13 = .ok (.aload_n 0, 1) := dk_42 (dk_at dksX0_roundOf_0 13 rfl rfl)
theorem dX0_roundOf_14 : decode cX0_roundOf 14 = .ok (.getfield 98, 3) := dk_180 0 98 (dk_at dksX0_roundOf_0 14 rfl rfl)
theorem dX0_roundOf_17 : decode cX0_roundOf 17 = .ok (.aload_n 0, 1) := dk_42 (dk_at dksX0_roundOf_0 17 rfl rfl)
theorem dX0_roundOf_18 : decode cX0_roundOf 18 = .ok (.getfield 279, 3) := dk_180 1 23 (dk_at dksX0_roundOf_0 18 rfl rfl)
theorem dX0_roundOf_21 : decode cX0_roundOf 21 = .ok (.iaload, 1) := dk_46 (dk_at dksX0_roundOf_0 21 rfl rfl)
theorem dX0_roundOf_22 : decode cX0_roundOf 22 = .ok (.if_icmp .ge 36, 3) := dk_162 0 36 (dk_at dksX0_roundOf_1 0 rfl rfl)
theorem dX0_roundOf_25 : decode cX0_roundOf 25 = .ok (.iconst 0, 1) := dk_3 (dk_at dksX0_roundOf_1 3 rfl rfl)
theorem dX0_roundOf_26 : decode cX0_roundOf 26 = .ok (.istore 4, 2) := dk_54 4 (dk_at dksX0_roundOf_1 4 rfl rfl)
theorem dX0_roundOf_28 : decode cX0_roundOf 28 = .ok (.iload 4, 2) := dk_21 4 (dk_at dksX0_roundOf_1 6 rfl rfl)
theorem dX0_roundOf_30 : decode cX0_roundOf 30 = .ok (.bipush 7, 2) := dk_16 7 (dk_at dksX0_roundOf_1 8 rfl rfl)
theorem dX0_roundOf_32 : decode cX0_roundOf 32 = .ok (.if_icmp .ge 20, 3) := dk_162 0 20 (dk_at dksX0_roundOf_1 10 rfl rfl)
theorem dX0_roundOf_35 : decode cX0_roundOf 35 = .ok (.aload_n 0, 1) := dk_42 (dk_at dksX0_roundOf_1 13 rfl rfl)
theorem dX0_roundOf_36 : decode cX0_roundOf 36 = .ok (.getfield 101, 3) := dk_180 0 101 (dk_at dksX0_roundOf_1 14 rfl rfl)
theorem dX0_roundOf_39 : decode cX0_roundOf 39 = .ok (.iload_n 3, 1) := dk_29 (dk_at dksX0_roundOf_1 17 rfl rfl)
theorem dX0_roundOf_40 : decode cX0_roundOf 40 = .ok (.aaload, 1) := dk_50 (dk_at dksX0_roundOf_1 18 rfl rfl)
theorem dX0_roundOf_41 : decode cX0_roundOf 41 = .ok (.iload 4, 2) := dk_21 4 (dk_at dksX0_roundOf_1 19 rfl rfl)
theorem dX0_roundOf_43 : decode cX0_roundOf 43 = .ok (.ldc 196, 2) := dk_18 196 (dk_at dksX0_roundOf_1 21 rfl rfl)
theorem dX0_roundOf_45 : decode cX0_roundOf 45 = .ok (.iastore, 1) := dk_79 (dk_at dksX0_roundOf_1 23 rfl rfl)
theorem dX0_roundOf_46 : decode cX0_roundOf 46 = .ok (.iinc 4 1, 3) := dk_132 4 1 (dk_at dksX0_roundOf_2 0 rfl rfl)
theorem dX0_roundOf_49 : decode cX0_roundOf 49 = .ok (.goto (-21), 3) := dk_167 255 235 (dk_at dksX0_roundOf_2 3 rfl rfl)
theorem dX0_roundOf_52 : decode cX0_roundOf 52 = .ok (.iinc 3 1, 3) := dk_132 3 1 (dk_at dksX0_roundOf_2 6 rfl rfl)
theorem dX0_roundOf_55 : decode cX0_roundOf 55 = .ok (.goto (-43), 3) := dk_167 255 213 (dk_at dksX0_roundOf_2 9 rfl rfl)
theorem dX0_roundOf_58 : decode cX0_roundOf 58 = .ok (.aload_n 0, 1) := dk_42 (dk_at dksX0_roundOf_2 12 rfl rfl)
theorem dX0_roundOf_59 : decode cX0_roundOf 59 = .ok (.getfield 101, 3) := dk_180 0 101 (dk_at dksX0_roundOf_2 13 rfl rfl)
theorem dX0_roundOf_62 : decode cX0_roundOf 62 = .ok (.iconst 0, 1) := dk_3 (dk_at dksX0_roundOf_2 16 rfl rfl)
theorem dX0_roundOf_63 : decode cX0_roundOf 63 = .ok (.aaload, 1) := dk_50 (dk_at dksX0_roundOf_2 17 rfl rfl)
theorem dX0_roundOf_64 : decode cX0_roundOf 64 = .ok (.aload_n 0, 1) := dk_42 (dk_at dksX0_roundOf_2 18 rfl rfl)
theorem dX0_roundOf_65 : decode cX0_roundOf 65 = .ok (.getfield 61, 3) := dk_180 0 61 (dk_at dksX0_roundOf_2 19 rfl rfl)
theorem dX0_roundOf_68 : decode cX0_roundOf 68 = .ok (.getfield 113, 3) := dk_180 0 113 (dk_at dksX0_roundOf_3 0 rfl rfl)
theorem dX0_roundOf_71 : decode cX0_roundOf 71 = .ok (.iconst 1, 1) := dk_4 (dk_at dksX0_roundOf_3 3 rfl rfl)
theorem dX0_roundOf_72 : decode cX0_roundOf 72 = .ok (.aaload, 1) := dk_50 (dk_at dksX0_roundOf_3 4 rfl rfl)
theorem dX0_roundOf_73 : decode cX0_roundOf 73 = .ok (.iload_n 1, 1) := dk_27 (dk_at dksX0_roundOf_3 5 rfl rfl)
theorem dX0_roundOf_74 : decode cX0_roundOf 74 = .ok (.iaload, 1) := dk_46 (dk_at dksX0_roundOf_3 6 rfl rfl)
theorem dX0_roundOf_75 : decode cX0_roundOf 75 = .ok (.iconst 0, 1) := dk_3 (dk_at dksX0_roundOf_3 7 rfl rfl)
theorem dX0_roundOf_76 : decode cX0_roundOf 76 = .ok (.iastore, 1) := dk_79 (dk_at dksX0_roundOf_3 8 rfl rfl)
theorem dX0_roundOf_77 : decode cX0_roundOf 77 = .ok (.aload_n 0, 1) := dk_42 (dk_at dksX0_roundOf_3 9 rfl rfl)
theorem dX0_roundOf_78 : decode cX0_roundOf 78 = .ok (.iload_n 1, 1) := dk_27 (dk_at dksX0_roundOf_3 10 rfl rfl)
theorem dX0_roundOf_79 : decode cX0_roundOf 79 = .ok (.invokevirtual 167, 3) := dk_182 0 167 (dk_at dksX0_roundOf_3 11 rfl rfl)
theorem dX0_roundOf_82 : decode cX0_roundOf 82 = .ok (.istore_n 3, 1) := dk_62 (dk_at dksX0_roundOf_3 14 rfl rfl)
theorem dX0_roundOf_83 : decode cX0_roundOf 83 = .ok (.aload_n 0, 1) := dk_42 (dk_at dksX0_roundOf_3 15 rfl rfl)
theorem dX0_roundOf_84 : decode cX0_roundOf 84 = .ok (.getfield 279, 3) := dk_180 1 23 (dk_at dksX0_roundOf_3 16 rfl rfl)
theorem dX0_roundOf_87 : decode cX0_roundOf 87 = .ok (.ifCond .ne 7, 3) := dk_154 0 7 (dk_at dksX0_roundOf_3 19 rfl rfl)
theorem dX0_roundOf_90 : decode cX0_roundOf 90 = .ok (.iconst 0, 1) := dk_3 (dk_at dksX0_roundOf_3 22 rfl rfl)
theorem dX0_roundOf_91 : decode cX0_roundOf 91 = .ok (.goto 5, 3) := dk_167 0 5 (dk_at dksX0_roundOf_4 0 rfl rfl)
theorem dX0_roundOf_94 : decode cX0_roundOf 94 = .ok (.ldc 196, 2) := dk_18 196 (dk_at dksX0_roundOf_4 3 rfl rfl)
theorem dX0_roundOf_96 : decode cX0_roundOf 96 = .ok (.istore 4, 2) := dk_54 4 (dk_at dksX0_roundOf_4 5 rfl rfl)
theorem dX0_roundOf_98 : decode cX0_roundOf 98 = .ok (.iconst 0, 1) := dk_3 (dk_at dksX0_roundOf_4 7 rfl rfl)
theorem dX0_roundOf_99 : decode cX0_roundOf 99 = .ok (.istore 5, 2) := dk_54 5 (dk_at dksX0_roundOf_4 8 rfl rfl)
theorem dX0_roundOf_101 : decode cX0_roundOf 101 = .ok (.iload 5, 2) := dk_21 5 (dk_at dksX0_roundOf_4 10 rfl rfl)
theorem dX0_roundOf_103 : decode cX0_roundOf 103 = .ok (.aload_n 0, 1) := dk_42 (dk_at dksX0_roundOf_4 12 rfl rfl)
theorem dX0_roundOf_104 : decode cX0_roundOf 104 = .ok (.getfield 98, 3) := dk_180 0 98 (dk_at dksX0_roundOf_4 13 rfl rfl)
theorem dX0_roundOf_107 : decode cX0_roundOf 107 = .ok (.aload_n 0, 1) := dk_42 (dk_at dksX0_roundOf_4 16 rfl rfl)
theorem dX0_roundOf_108 : decode cX0_roundOf 108 = .ok (.getfield 279, 3) := dk_180 1 23 (dk_at dksX0_roundOf_4 17 rfl rfl)
theorem dX0_roundOf_111 : decode cX0_roundOf 111 = .ok (.iaload, 1) := dk_46 (dk_at dksX0_roundOf_4 20 rfl rfl)
theorem dX0_roundOf_112 : decode cX0_roundOf 112 = .ok (.if_icmp .ge 87, 3) := dk_162 0 87 (dk_at dksX0_roundOf_4 21 rfl rfl)
theorem dX0_roundOf_115 : decode cX0_roundOf 115 = .ok (.iconst 0, 1) := dk_3 (dk_at dksX0_roundOf_5 0 rfl rfl)
theorem dX0_roundOf_116 : decode cX0_roundOf 116 = .ok (.istore 6, 2) := dk_54 6 (dk_at dksX0_roundOf_5 1 rfl rfl)
theorem dX0_roundOf_118 : decode cX0_roundOf 118 = .ok (.iload 6, 2) := dk_21 6 (dk_at dksX0_roundOf_5 3 rfl rfl)
theorem dX0_roundOf_120 : decode cX0_roundOf 120 = .ok (.bipush 7, 2) := dk_16 7 (dk_at dksX0_roundOf_5 5 rfl rfl)
theorem dX0_roundOf_122 : decode cX0_roundOf 122 = .ok (.if_icmp .ge 71, 3) := dk_162 0 71 (dk_at dksX0_roundOf_5 7 rfl rfl)
theorem dX0_roundOf_125 : decode cX0_roundOf 125 = .ok (.aload_n 0, 1) := dk_42 (dk_at dksX0_roundOf_5 10 rfl rfl)
theorem dX0_roundOf_126 : decode cX0_roundOf 126 = .ok (.getfield 101, 3) := dk_180 0 101 (dk_at dksX0_roundOf_5 11 rfl rfl)
theorem dX0_roundOf_129 : decode cX0_roundOf 129 = .ok (.iload 5, 2) := dk_21 5 (dk_at dksX0_roundOf_5 14 rfl rfl)
theorem dX0_roundOf_131 : decode cX0_roundOf 131 = .ok (.aaload, 1) := dk_50 (dk_at dksX0_roundOf_5 16 rfl rfl)
theorem dX0_roundOf_132 : decode cX0_roundOf 132 = .ok (.iload 6, 2) := dk_21 6 (dk_at dksX0_roundOf_5 17 rfl rfl)
theorem dX0_roundOf_134 : decode cX0_roundOf 134 = .ok (.iaload, 1) := dk_46 (dk_at dksX0_roundOf_5 19 rfl rfl)
theorem dX0_roundOf_135 : decode cX0_roundOf 135 = .ok (.ldc 196, 2) := dk_18 196 (dk_at dksX0_roundOf_5 20 rfl rfl)
theorem dX0_roundOf_137 : decode cX0_roundOf 137 = .ok (.if_icmp .ge 50, 3) := dk_162 0 50 (dk_at dksX0_roundOf_6 0 rfl rfl)
theorem dX0_roundOf_140 : decode cX0_roundOf 140 = .ok (.aload_n 0, 1) := dk_42 (dk_at dksX0_roundOf_6 3 rfl rfl)
theorem dX0_roundOf_141 : decode cX0_roundOf 141 = .ok (.iload 5, 2) := dk_21 5 (dk_at dksX0_roundOf_6 4 rfl rfl)
theorem dX0_roundOf_143 : decode cX0_roundOf 143 = .ok (.iload 6, 2) := dk_21 6 (dk_at dksX0_roundOf_6 6 rfl rfl)
theorem dX0_roundOf_145 : decode cX0_roundOf 145 = .ok (.iload_n 3, 1) := dk_29 (dk_at dksX0_roundOf_6 8 rfl rfl)
theorem dX0_roundOf_146 : decode cX0_roundOf 146 = .ok (.invokevirtual 297, 3) := dk_182 1 41 (dk_at dksX0_roundOf_6 9 rfl rfl)
theorem dX0_roundOf_149 : decode cX0_roundOf 149 = .ok (.iload 5, 2) := dk_21 5 (dk_at dksX0_roundOf_6 12 rfl rfl)
theorem dX0_roundOf_151 : decode cX0_roundOf 151 = .ok (.aload_n 0, 1) := dk_42 (dk_at dksX0_roundOf_6 14 rfl rfl)
theorem dX0_roundOf_152 : decode cX0_roundOf 152 = .ok (.getfield 98, 3) := dk_180 0 98 (dk_at dksX0_roundOf_6 15 rfl rfl)
theorem dX0_roundOf_155 : decode cX0_roundOf 155 = .ok (.aload_n 0, 1) := dk_42 (dk_at dksX0_roundOf_6 18 rfl rfl)
theorem dX0_roundOf_156 : decode cX0_roundOf 156 = .ok (.getfield 279, 3) := dk_180 1 23 (dk_at dksX0_roundOf_6 19 rfl rfl)
theorem dX0_roundOf_159 : decode cX0_roundOf 159 = .ok (.iaload, 1) := dk_46 (dk_at dksX0_roundOf_6 22 rfl rfl)
theorem dX0_roundOf_160 : decode cX0_roundOf 160 = .ok (.iconst 1, 1) := dk_4 (dk_at dksX0_roundOf_6 23 rfl rfl)
theorem dX0_roundOf_161 : decode cX0_roundOf 161 = .ok (.isub, 1) := dk_100 (dk_at dksX0_roundOf_7 0 rfl rfl)
theorem dX0_roundOf_162 : decode cX0_roundOf 162 = .ok (.if_icmp .ne 21, 3) := dk_160 0 21 (dk_at dksX0_roundOf_7 1 rfl rfl)
theorem dX0_roundOf_165 : decode cX0_roundOf 165 = .ok (.iload 4, 2) := dk_21 4 (dk_at dksX0_roundOf_7 4 rfl rfl)
theorem dX0_roundOf_167 : decode cX0_roundOf 167 = .ok (.aload_n 0, 1) := dk_42 (dk_at dksX0_roundOf_7 6 rfl rfl)
theorem dX0_roundOf_168 : decode cX0_roundOf 168 = .ok (.getfield 101, 3) := dk_180 0 101 (dk_at dksX0_roundOf_7 7 rfl rfl)
theorem dX0_roundOf_171 : decode cX0_roundOf 171 = .ok (.iload 5, 2) := dk_21 5 (dk_at dksX0_roundOf_7 10 rfl rfl)
theorem dX0_roundOf_173 : decode cX0_roundOf 173 = .ok (.aaload, 1) := dk_50 (dk_at dksX0_roundOf_7 12 rfl rfl)
theorem dX0_roundOf_174 : decode cX0_roundOf 174 = .ok (.iload 6, 2) := dk_21 6 (dk_at dksX0_roundOf_7 13 rfl rfl)
theorem dX0_roundOf_176 : decode cX0_roundOf 176 = .ok (.iaload, 1) := dk_46 (dk_at dksX0_roundOf_7 15 rfl rfl)
theorem dX0_roundOf_177 : decode cX0_roundOf 177 = .ok (.invokestatic 205, 3) := dk_184 0 205 (dk_at dksX0_roundOf_7 16 rfl rfl)
theorem dX0_roundOf_180 : decode cX0_roundOf 180 = .ok (.goto 5, 3) := dk_167 0 5 (dk_at dksX0_roundOf_7 19 rfl rfl)
theorem dX0_roundOf_183 : decode cX0_roundOf 183 = .ok (.iload 4, 2) := dk_21 4 (dk_at dksX0_roundOf_7 22 rfl rfl)
theorem dX0_roundOf_185 : decode cX0_roundOf 185 = .ok (.istore 4, 2) := dk_54 4 (dk_at dksX0_roundOf_8 0 rfl rfl)
theorem dX0_roundOf_187 : decode cX0_roundOf 187 = .ok (.iinc 6 1, 3) := dk_132 6 1 (dk_at dksX0_roundOf_8 2 rfl rfl)
theorem dX0_roundOf_190 : decode cX0_roundOf 190 = .ok (.goto (-72), 3) := dk_167 255 184 (dk_at dksX0_roundOf_8 5 rfl rfl)
theorem dX0_roundOf_193 : decode cX0_roundOf 193 = .ok (.iinc 5 1, 3) := dk_132 5 1 (dk_at dksX0_roundOf_8 8 rfl rfl)
theorem dX0_roundOf_196 : decode cX0_roundOf 196 = .ok (.goto (-95), 3) := dk_167 255 161 (dk_at dksX0_roundOf_8 11 rfl rfl)
theorem dX0_roundOf_199 : decode cX0_roundOf 199 = .ok (.iload 4, 2) := dk_21 4 (dk_at dksX0_roundOf_8 14 rfl rfl)
theorem dX0_roundOf_201 : decode cX0_roundOf 201 = .ok (.ldc 196, 2) := dk_18 196 (dk_at dksX0_roundOf_8 16 rfl rfl)
theorem dX0_roundOf_203 : decode cX0_roundOf 203 = .ok (.if_icmp .ge 8, 3) := dk_162 0 8 (dk_at dksX0_roundOf_8 18 rfl rfl)
theorem dX0_roundOf_206 : decode cX0_roundOf 206 = .ok (.iload 4, 2) := dk_21 4 (dk_at dksX0_roundOf_8 21 rfl rfl)
theorem dX0_roundOf_208 : decode cX0_roundOf 208 = .ok (.goto 4, 3) := dk_167 0 4 (dk_at dksX0_roundOf_9 0 rfl rfl)
theorem dX0_roundOf_211 : decode cX0_roundOf 211 = .ok (.iconst (-1), 1) := dk_2 (dk_at dksX0_roundOf_9 3 rfl rfl)
theorem dX0_roundOf_212 : decode cX0_roundOf 212 = .ok (.ireturn, 1) := dk_172 (dk_at dksX0_roundOf_9 4 rfl rfl)
abbrev cX0_collects : ByteArray := prog_1_method_49_code
def yX0_collects : MethodName := ⟨RX0, "collects", "(I)V"⟩
def dkwX0_collects_2 : List UInt8 := [132, 2, 1, 167, 255, 214, 177]
abbrev dktX0_collects_2 : List UInt8 := dkwX0_collects_2 ++ []
def dkwX0_collects_1 : List UInt8 := [153, 0, 23, 42, 180, 0, 95, 42, 180, 1, 23, 28, 79, 42, 89, 180, 1, 23, 4, 96, 181, 1, 23]
abbrev dktX0_collects_1 : List UInt8 := dkwX0_collects_1 ++ dktX0_collects_2
def dkwX0_collects_0 : List UInt8 := [42, 3, 181, 1, 23, 3, 61, 28, 42, 180, 0, 61, 180, 0, 127, 162, 0, 37, 27, 28, 184, 1, 2]
abbrev dktX0_collects_0 : List UInt8 := dkwX0_collects_0 ++ dktX0_collects_1
theorem dksX0_collects_0 : cX0_collects.data.toList.drop 0 = dktX0_collects_0 := by decide +kernel
theorem dksX0_collects_1 : cX0_collects.data.toList.drop 23 = dktX0_collects_1 := dk_seg dksX0_collects_0 23 rfl rfl
theorem dksX0_collects_2 : cX0_collects.data.toList.drop 46 = dktX0_collects_2 := dk_seg dksX0_collects_1 23 rfl rfl
theorem dX0_collects_0 : decode cX0_collects 0 = .ok (.aload_n 0, 1) := dk_42 (dk_at dksX0_collects_0 0 rfl rfl)
theorem dX0_collects_1 : decode cX0_collects 1 = .ok (.iconst 0, 1) := dk_3 (dk_at dksX0_collects_0 1 rfl rfl)
theorem dX0_collects_2 : decode cX0_collects 2 = .ok (.putfield 279, 3) := dk_181 1 23 (dk_at dksX0_collects_0 2 rfl rfl)
theorem dX0_collects_5 : decode cX0_collects 5 = .ok (.iconst 0, 1) := dk_3 (dk_at dksX0_collects_0 5 rfl rfl)
theorem dX0_collects_6 : decode cX0_collects 6 = .ok (.istore_n 2, 1) := dk_61 (dk_at dksX0_collects_0 6 rfl rfl)
theorem dX0_collects_7 : decode cX0_collects 7 = .ok (.iload_n 2, 1) := dk_28 (dk_at dksX0_collects_0 7 rfl rfl)
theorem dX0_collects_8 : decode cX0_collects 8 = .ok (.aload_n 0, 1) := dk_42 (dk_at dksX0_collects_0 8 rfl rfl)
theorem dX0_collects_9 : decode cX0_collects 9 = .ok (.getfield 61, 3) := dk_180 0 61 (dk_at dksX0_collects_0 9 rfl rfl)
theorem dX0_collects_12 : decode cX0_collects 12 = .ok (.getfield 127, 3) := dk_180 0 127 (dk_at dksX0_collects_0 12 rfl rfl)
theorem dX0_collects_15 : decode cX0_collects 15 = .ok (.if_icmp .ge 37, 3) := dk_162 0 37 (dk_at dksX0_collects_0 15 rfl rfl)
theorem dX0_collects_18 : decode cX0_collects 18 = .ok (.iload_n 1, 1) := dk_27 (dk_at dksX0_collects_0 18 rfl rfl)
theorem dX0_collects_19 : decode cX0_collects 19 = .ok (.iload_n 2, 1) := dk_28 (dk_at dksX0_collects_0 19 rfl rfl)
theorem dX0_collects_20 : decode cX0_collects 20 = .ok (.invokestatic 258, 3) := dk_184 1 2 (dk_at dksX0_collects_0 20 rfl rfl)
theorem dX0_collects_23 : decode cX0_collects 23 = .ok (.ifCond .eq 23, 3) := dk_153 0 23 (dk_at dksX0_collects_1 0 rfl rfl)
theorem dX0_collects_26 : decode cX0_collects 26 = .ok (.aload_n 0, 1) := dk_42 (dk_at dksX0_collects_1 3 rfl rfl)
theorem dX0_collects_27 : decode cX0_collects 27 = .ok (.getfield 95, 3) := dk_180 0 95 (dk_at dksX0_collects_1 4 rfl rfl)
theorem dX0_collects_30 : decode cX0_collects 30 = .ok (.aload_n 0, 1) := dk_42 (dk_at dksX0_collects_1 7 rfl rfl)
theorem dX0_collects_31 : decode cX0_collects 31 = .ok (.getfield 279, 3) := dk_180 1 23 (dk_at dksX0_collects_1 8 rfl rfl)
theorem dX0_collects_34 : decode cX0_collects 34 = .ok (.iload_n 2, 1) := dk_28 (dk_at dksX0_collects_1 11 rfl rfl)
theorem dX0_collects_35 : decode cX0_collects 35 = .ok (.iastore, 1) := dk_79 (dk_at dksX0_collects_1 12 rfl rfl)
theorem dX0_collects_36 : decode cX0_collects 36 = .ok (.aload_n 0, 1) := dk_42 (dk_at dksX0_collects_1 13 rfl rfl)
theorem dX0_collects_37 : decode cX0_collects 37 = .ok (.dup, 1) := dk_89 (dk_at dksX0_collects_1 14 rfl rfl)
theorem dX0_collects_38 : decode cX0_collects 38 = .ok (.getfield 279, 3) := dk_180 1 23 (dk_at dksX0_collects_1 15 rfl rfl)
theorem dX0_collects_41 : decode cX0_collects 41 = .ok (.iconst 1, 1) := dk_4 (dk_at dksX0_collects_1 18 rfl rfl)
theorem dX0_collects_42 : decode cX0_collects 42 = .ok (.iadd, 1) := dk_96 (dk_at dksX0_collects_1 19 rfl rfl)
theorem dX0_collects_43 : decode cX0_collects 43 = .ok (.putfield 279, 3) := dk_181 1 23 (dk_at dksX0_collects_1 20 rfl rfl)
theorem dX0_collects_46 : decode cX0_collects 46 = .ok (.iinc 2 1, 3) := dk_132 2 1 (dk_at dksX0_collects_2 0 rfl rfl)
theorem dX0_collects_49 : decode cX0_collects 49 = .ok (.goto (-42), 3) := dk_167 255 214 (dk_at dksX0_collects_2 3 rfl rfl)
theorem dX0_collects_52 : decode cX0_collects 52 = .ok (.return_, 1) := dk_177 (dk_at dksX0_collects_2 6 rfl rfl)
abbrev cX0_goesOn : ByteArray := prog_1_method_54_code
def yX0_goesOn : MethodName := ⟨RX0, "goesOn", "(III)V"⟩
def dkwX0_goesOn_7 : List UInt8 := [182, 1, 35, 132, 5, 1, 167, 255, 101, 177]
abbrev dktX0_goesOn_7 : List UInt8 := dkwX0_goesOn_7 ++ []
def dkwX0_goesOn_6 : List UInt8 := [21, 8, 27, 164, 0, 23, 42, 21, 8, 21, 7, 21, 4, 42, 180, 0, 92, 28, 50, 21, 7, 46, 96]
abbrev dktX0_goesOn_6 : List UInt8 := dkwX0_goesOn_6 ++ dktX0_goesOn_7
def dkwX0_goesOn_5 : List UInt8 := [54, 9, 21, 8, 21, 9, 153, 0, 13, 42, 180, 0, 98, 21, 5, 46, 167, 0, 4, 3, 96, 54, 8]
abbrev dktX0_goesOn_5 : List UInt8 := dkwX0_goesOn_5 ++ dktX0_goesOn_6
def dkwX0_goesOn_4 : List UInt8 := [42, 180, 0, 61, 180, 0, 214, 3, 50, 21, 6, 46, 182, 1, 32, 29, 163, 0, 7, 4, 167, 0, 4, 3]
abbrev dktX0_goesOn_4 : List UInt8 := dkwX0_goesOn_4 ++ dktX0_goesOn_5
def dkwX0_goesOn_3 : List UInt8 := [54, 7, 42, 27, 21, 7, 182, 1, 29, 54, 8, 42, 27, 21, 5, 182, 1, 26, 154, 0, 29, 42, 21, 8]
abbrev dktX0_goesOn_3 : List UInt8 := dkwX0_goesOn_3 ++ dktX0_goesOn_4
def dkwX0_goesOn_2 : List UInt8 := [180, 0, 214, 4, 50, 21, 6, 46, 167, 0, 15, 42, 180, 0, 61, 180, 0, 214, 5, 50, 21, 6, 46]
abbrev dktX0_goesOn_2 : List UInt8 := dkwX0_goesOn_2 ++ dktX0_goesOn_3
def dkwX0_goesOn_1 : List UInt8 := [180, 0, 95, 21, 5, 46, 54, 6, 42, 27, 21, 5, 182, 1, 26, 154, 0, 18, 42, 180, 0, 61]
abbrev dktX0_goesOn_1 : List UInt8 := dkwX0_goesOn_1 ++ dktX0_goesOn_2
def dkwX0_goesOn_0 : List UInt8 := [42, 180, 0, 101, 27, 50, 28, 46, 54, 4, 3, 54, 5, 21, 5, 42, 180, 1, 23, 162, 0, 152, 42]
abbrev dktX0_goesOn_0 : List UInt8 := dkwX0_goesOn_0 ++ dktX0_goesOn_1
theorem dksX0_goesOn_0 : cX0_goesOn.data.toList.drop 0 = dktX0_goesOn_0 := by decide +kernel
theorem dksX0_goesOn_1 : cX0_goesOn.data.toList.drop 23 = dktX0_goesOn_1 := dk_seg dksX0_goesOn_0 23 rfl rfl
theorem dksX0_goesOn_2 : cX0_goesOn.data.toList.drop 45 = dktX0_goesOn_2 := dk_seg dksX0_goesOn_1 22 rfl rfl
theorem dksX0_goesOn_3 : cX0_goesOn.data.toList.drop 68 = dktX0_goesOn_3 := dk_seg dksX0_goesOn_2 23 rfl rfl
theorem dksX0_goesOn_4 : cX0_goesOn.data.toList.drop 92 = dktX0_goesOn_4 := dk_seg dksX0_goesOn_3 24 rfl rfl
theorem dksX0_goesOn_5 : cX0_goesOn.data.toList.drop 116 = dktX0_goesOn_5 := dk_seg dksX0_goesOn_4 24 rfl rfl
theorem dksX0_goesOn_6 : cX0_goesOn.data.toList.drop 139 = dktX0_goesOn_6 := dk_seg dksX0_goesOn_5 23 rfl rfl
theorem dksX0_goesOn_7 : cX0_goesOn.data.toList.drop 162 = dktX0_goesOn_7 := dk_seg dksX0_goesOn_6 23 rfl rfl
theorem dX0_goesOn_0 : decode cX0_goesOn 0 = .ok (.aload_n 0, 1) := dk_42 (dk_at dksX0_goesOn_0 0 rfl rfl)
theorem dX0_goesOn_1 : decode cX0_goesOn 1 = .ok (.getfield 101, 3) := dk_180 0 101 (dk_at dksX0_goesOn_0 1 rfl rfl)
theorem dX0_goesOn_4 : decode cX0_goesOn 4 = .ok (.iload_n 1, 1) := dk_27 (dk_at dksX0_goesOn_0 4 rfl rfl)
theorem dX0_goesOn_5 : decode cX0_goesOn 5 = .ok (.aaload, 1) := dk_50 (dk_at dksX0_goesOn_0 5 rfl rfl)
theorem dX0_goesOn_6 : decode cX0_goesOn 6 = .ok (.iload_n 2, 1) := dk_28 (dk_at dksX0_goesOn_0 6 rfl rfl)
theorem dX0_goesOn_7 : decode cX0_goesOn 7 = .ok (.iaload, 1) := dk_46 (dk_at dksX0_goesOn_0 7 rfl rfl)
theorem dX0_goesOn_8 : decode cX0_goesOn 8 = .ok (.istore 4, 2) := dk_54 4 (dk_at dksX0_goesOn_0 8 rfl rfl)
theorem dX0_goesOn_10 : decode cX0_goesOn 10 = .ok (.iconst 0, 1) := dk_3 (dk_at dksX0_goesOn_0 10 rfl rfl)
theorem dX0_goesOn_11 : decode cX0_goesOn 11 = .ok (.istore 5, 2) := dk_54 5 (dk_at dksX0_goesOn_0 11 rfl rfl)
theorem dX0_goesOn_13 : decode cX0_goesOn 13 = .ok (.iload 5, 2) := dk_21 5 (dk_at dksX0_goesOn_0 13 rfl rfl)
theorem dX0_goesOn_15 : decode cX0_goesOn 15 = .ok (.aload_n 0, 1) := dk_42 (dk_at dksX0_goesOn_0 15 rfl rfl)
theorem dX0_goesOn_16 : decode cX0_goesOn 16 = .ok (.getfield 279, 3) := dk_180 1 23 (dk_at dksX0_goesOn_0 16 rfl rfl)
theorem dX0_goesOn_19 : decode cX0_goesOn 19 = .ok (.if_icmp .ge 152, 3) := dk_162 0 152 (dk_at dksX0_goesOn_0 19 rfl rfl)
theorem dX0_goesOn_22 : decode cX0_goesOn 22 = .ok (.aload_n 0, 1) := dk_42 (dk_at dksX0_goesOn_0 22 rfl rfl)
theorem dX0_goesOn_23 : decode cX0_goesOn 23 = .ok (.getfield 95, 3) := dk_180 0 95 (dk_at dksX0_goesOn_1 0 rfl rfl)
theorem dX0_goesOn_26 : decode cX0_goesOn 26 = .ok (.iload 5, 2) := dk_21 5 (dk_at dksX0_goesOn_1 3 rfl rfl)
theorem dX0_goesOn_28 : decode cX0_goesOn 28 = .ok (.iaload, 1) := dk_46 (dk_at dksX0_goesOn_1 5 rfl rfl)
theorem dX0_goesOn_29 : decode cX0_goesOn 29 = .ok (.istore 6, 2) := dk_54 6 (dk_at dksX0_goesOn_1 6 rfl rfl)
theorem dX0_goesOn_31 : decode cX0_goesOn 31 = .ok (.aload_n 0, 1) := dk_42 (dk_at dksX0_goesOn_1 8 rfl rfl)
theorem dX0_goesOn_32 : decode cX0_goesOn 32 = .ok (.iload_n 1, 1) := dk_27 (dk_at dksX0_goesOn_1 9 rfl rfl)
theorem dX0_goesOn_33 : decode cX0_goesOn 33 = .ok (.iload 5, 2) := dk_21 5 (dk_at dksX0_goesOn_1 10 rfl rfl)
theorem dX0_goesOn_35 : decode cX0_goesOn 35 = .ok (.invokevirtual 282, 3) := dk_182 1 26 (dk_at dksX0_goesOn_1 12 rfl rfl)
theorem dX0_goesOn_38 : decode cX0_goesOn 38 = .ok (.ifCond .ne 18, 3) := dk_154 0 18 (dk_at dksX0_goesOn_1 15 rfl rfl)
theorem dX0_goesOn_41 : decode cX0_goesOn 41 = .ok (.aload_n 0, 1) := dk_42 (dk_at dksX0_goesOn_1 18 rfl rfl)
theorem dX0_goesOn_42 : decode cX0_goesOn 42 = .ok (.getfield 61, 3) := dk_180 0 61 (dk_at dksX0_goesOn_1 19 rfl rfl)
theorem dX0_goesOn_45 : decode cX0_goesOn 45 = .ok (.getfield 214, 3) := dk_180 0 214 (dk_at dksX0_goesOn_2 0 rfl rfl)
theorem dX0_goesOn_48 : decode cX0_goesOn 48 = .ok (.iconst 1, 1) := dk_4 (dk_at dksX0_goesOn_2 3 rfl rfl)
theorem dX0_goesOn_49 : decode cX0_goesOn 49 = .ok (.aaload, 1) := dk_50 (dk_at dksX0_goesOn_2 4 rfl rfl)
theorem dX0_goesOn_50 : decode cX0_goesOn 50 = .ok (.iload 6, 2) := dk_21 6 (dk_at dksX0_goesOn_2 5 rfl rfl)
theorem dX0_goesOn_52 : decode cX0_goesOn 52 = .ok (.iaload, 1) := dk_46 (dk_at dksX0_goesOn_2 7 rfl rfl)
theorem dX0_goesOn_53 : decode cX0_goesOn 53 = .ok (.goto 15, 3) := dk_167 0 15 (dk_at dksX0_goesOn_2 8 rfl rfl)
theorem dX0_goesOn_56 : decode cX0_goesOn 56 = .ok (.aload_n 0, 1) := dk_42 (dk_at dksX0_goesOn_2 11 rfl rfl)
theorem dX0_goesOn_57 : decode cX0_goesOn 57 = .ok (.getfield 61, 3) := dk_180 0 61 (dk_at dksX0_goesOn_2 12 rfl rfl)
theorem dX0_goesOn_60 : decode cX0_goesOn 60 = .ok (.getfield 214, 3) := dk_180 0 214 (dk_at dksX0_goesOn_2 15 rfl rfl)
theorem dX0_goesOn_63 : decode cX0_goesOn 63 = .ok (.iconst 2, 1) := dk_5 (dk_at dksX0_goesOn_2 18 rfl rfl)
theorem dX0_goesOn_64 : decode cX0_goesOn 64 = .ok (.aaload, 1) := dk_50 (dk_at dksX0_goesOn_2 19 rfl rfl)
theorem dX0_goesOn_65 : decode cX0_goesOn 65 = .ok (.iload 6, 2) := dk_21 6 (dk_at dksX0_goesOn_2 20 rfl rfl)
theorem dX0_goesOn_67 : decode cX0_goesOn 67 = .ok (.iaload, 1) := dk_46 (dk_at dksX0_goesOn_2 22 rfl rfl)
theorem dX0_goesOn_68 : decode cX0_goesOn 68 = .ok (.istore 7, 2) := dk_54 7 (dk_at dksX0_goesOn_3 0 rfl rfl)
theorem dX0_goesOn_70 : decode cX0_goesOn 70 = .ok (.aload_n 0, 1) := dk_42 (dk_at dksX0_goesOn_3 2 rfl rfl)
theorem dX0_goesOn_71 : decode cX0_goesOn 71 = .ok (.iload_n 1, 1) := dk_27 (dk_at dksX0_goesOn_3 3 rfl rfl)
theorem dX0_goesOn_72 : decode cX0_goesOn 72 = .ok (.iload 7, 2) := dk_21 7 (dk_at dksX0_goesOn_3 4 rfl rfl)
theorem dX0_goesOn_74 : decode cX0_goesOn 74 = .ok (.invokevirtual 285, 3) := dk_182 1 29 (dk_at dksX0_goesOn_3 6 rfl rfl)
theorem dX0_goesOn_77 : decode cX0_goesOn 77 = .ok (.istore 8, 2) := dk_54 8 (dk_at dksX0_goesOn_3 9 rfl rfl)
theorem dX0_goesOn_79 : decode cX0_goesOn 79 = .ok (.aload_n 0, 1) := dk_42 (dk_at dksX0_goesOn_3 11 rfl rfl)
theorem dX0_goesOn_80 : decode cX0_goesOn 80 = .ok (.iload_n 1, 1) := dk_27 (dk_at dksX0_goesOn_3 12 rfl rfl)
theorem dX0_goesOn_81 : decode cX0_goesOn 81 = .ok (.iload 5, 2) := dk_21 5 (dk_at dksX0_goesOn_3 13 rfl rfl)
theorem dX0_goesOn_83 : decode cX0_goesOn 83 = .ok (.invokevirtual 282, 3) := dk_182 1 26 (dk_at dksX0_goesOn_3 15 rfl rfl)
theorem dX0_goesOn_86 : decode cX0_goesOn 86 = .ok (.ifCond .ne 29, 3) := dk_154 0 29 (dk_at dksX0_goesOn_3 18 rfl rfl)
theorem dX0_goesOn_89 : decode cX0_goesOn 89 = .ok (.aload_n 0, 1) := dk_42 (dk_at dksX0_goesOn_3 21 rfl rfl)
theorem dX0_goesOn_90 : decode cX0_goesOn 90 = .ok (.iload 8, 2) := dk_21 8 (dk_at dksX0_goesOn_3 22 rfl rfl)
theorem dX0_goesOn_92 : decode cX0_goesOn 92 = .ok (.aload_n 0, 1) := dk_42 (dk_at dksX0_goesOn_4 0 rfl rfl)
theorem dX0_goesOn_93 : decode cX0_goesOn 93 = .ok (.getfield 61, 3) := dk_180 0 61 (dk_at dksX0_goesOn_4 1 rfl rfl)
theorem dX0_goesOn_96 : decode cX0_goesOn 96 = .ok (.getfield 214, 3) := dk_180 0 214 (dk_at dksX0_goesOn_4 4 rfl rfl)
theorem dX0_goesOn_99 : decode cX0_goesOn 99 = .ok (.iconst 0, 1) := dk_3 (dk_at dksX0_goesOn_4 7 rfl rfl)
theorem dX0_goesOn_100 : decode cX0_goesOn 100 = .ok (.aaload, 1) := dk_50 (dk_at dksX0_goesOn_4 8 rfl rfl)
theorem dX0_goesOn_101 : decode cX0_goesOn 101 = .ok (.iload 6, 2) := dk_21 6 (dk_at dksX0_goesOn_4 9 rfl rfl)
theorem dX0_goesOn_103 : decode cX0_goesOn 103 = .ok (.iaload, 1) := dk_46 (dk_at dksX0_goesOn_4 11 rfl rfl)
theorem dX0_goesOn_104 : decode cX0_goesOn 104 = .ok (.invokevirtual 288, 3) := dk_182 1 32 (dk_at dksX0_goesOn_4 12 rfl rfl)
theorem dX0_goesOn_107 : decode cX0_goesOn 107 = .ok (.iload_n 3, 1) := dk_29 (dk_at dksX0_goesOn_4 15 rfl rfl)
theorem dX0_goesOn_108 : decode cX0_goesOn 108 = .ok (.if_icmp .gt 7, 3) := dk_163 0 7 (dk_at dksX0_goesOn_4 16 rfl rfl)
theorem dX0_goesOn_111 : decode cX0_goesOn 111 = .ok (.iconst 1, 1) := dk_4 (dk_at dksX0_goesOn_4 19 rfl rfl)
theorem dX0_goesOn_112 : decode cX0_goesOn 112 = .ok (.goto 4, 3) := dk_167 0 4 (dk_at dksX0_goesOn_4 20 rfl rfl)
theorem dX0_goesOn_115 : decode cX0_goesOn 115 = .ok (.iconst 0, 1) := dk_3 (dk_at dksX0_goesOn_4 23 rfl rfl)
theorem dX0_goesOn_116 : decode cX0_goesOn 116 = .ok (.istore 9, 2) := dk_54 9 (dk_at dksX0_goesOn_5 0 rfl rfl)
theorem dX0_goesOn_118 : decode cX0_goesOn 118 = .ok (.iload 8, 2) := dk_21 8 (dk_at dksX0_goesOn_5 2 rfl rfl)
theorem dX0_goesOn_120 : decode cX0_goesOn 120 = .ok (.iload 9, 2) := dk_21 9 (dk_at dksX0_goesOn_5 4 rfl rfl)
theorem dX0_goesOn_122 : decode cX0_goesOn 122 = .ok (.ifCond .eq 13, 3) := dk_153 0 13 (dk_at dksX0_goesOn_5 6 rfl rfl)
theorem dX0_goesOn_125 : decode cX0_goesOn 125 = .ok (.aload_n 0, 1) := dk_42 (dk_at dksX0_goesOn_5 9 rfl rfl)
theorem dX0_goesOn_126 : decode cX0_goesOn 126 = .ok (.getfield 98, 3) := dk_180 0 98 (dk_at dksX0_goesOn_5 10 rfl rfl)
theorem dX0_goesOn_129 : decode cX0_goesOn 129 = .ok (.iload 5, 2) := dk_21 5 (dk_at dksX0_goesOn_5 13 rfl rfl)
theorem dX0_goesOn_131 : decode cX0_goesOn 131 = .ok (.iaload, 1) := dk_46 (dk_at dksX0_goesOn_5 15 rfl rfl)
theorem dX0_goesOn_132 : decode cX0_goesOn 132 = .ok (.goto 4, 3) := dk_167 0 4 (dk_at dksX0_goesOn_5 16 rfl rfl)
theorem dX0_goesOn_135 : decode cX0_goesOn 135 = .ok (.iconst 0, 1) := dk_3 (dk_at dksX0_goesOn_5 19 rfl rfl)
theorem dX0_goesOn_136 : decode cX0_goesOn 136 = .ok (.iadd, 1) := dk_96 (dk_at dksX0_goesOn_5 20 rfl rfl)
theorem dX0_goesOn_137 : decode cX0_goesOn 137 = .ok (.istore 8, 2) := dk_54 8 (dk_at dksX0_goesOn_5 21 rfl rfl)
theorem dX0_goesOn_139 : decode cX0_goesOn 139 = .ok (.iload 8, 2) := dk_21 8 (dk_at dksX0_goesOn_6 0 rfl rfl)
theorem dX0_goesOn_141 : decode cX0_goesOn 141 = .ok (.iload_n 1, 1) := dk_27 (dk_at dksX0_goesOn_6 2 rfl rfl)
theorem dX0_goesOn_142 : decode cX0_goesOn 142 = .ok (.if_icmp .le 23, 3) := dk_164 0 23 (dk_at dksX0_goesOn_6 3 rfl rfl)
theorem dX0_goesOn_145 : decode cX0_goesOn 145 = .ok (.aload_n 0, 1) := dk_42 (dk_at dksX0_goesOn_6 6 rfl rfl)
theorem dX0_goesOn_146 : decode cX0_goesOn 146 = .ok (.iload 8, 2) := dk_21 8 (dk_at dksX0_goesOn_6 7 rfl rfl)
theorem dX0_goesOn_148 : decode cX0_goesOn 148 = .ok (.iload 7, 2) := dk_21 7 (dk_at dksX0_goesOn_6 9 rfl rfl)
theorem dX0_goesOn_150 : decode cX0_goesOn 150 = .ok (.iload 4, 2) := dk_21 4 (dk_at dksX0_goesOn_6 11 rfl rfl)
theorem dX0_goesOn_152 : decode cX0_goesOn 152 = .ok (.aload_n 0, 1) := dk_42 (dk_at dksX0_goesOn_6 13 rfl rfl)
theorem dX0_goesOn_153 : decode cX0_goesOn 153 = .ok (.getfield 92, 3) := dk_180 0 92 (dk_at dksX0_goesOn_6 14 rfl rfl)
theorem dX0_goesOn_156 : decode cX0_goesOn 156 = .ok (.iload_n 2, 1) := dk_28 (dk_at dksX0_goesOn_6 17 rfl rfl)
theorem dX0_goesOn_157 : decode cX0_goesOn 157 = .ok (.aaload, 1) := dk_50 (dk_at dksX0_goesOn_6 18 rfl rfl)
theorem dX0_goesOn_158 : decode cX0_goesOn 158 = .ok (.iload 7, 2) := dk_21 7 (dk_at dksX0_goesOn_6 19 rfl rfl)
theorem dX0_goesOn_160 : decode cX0_goesOn 160 = .ok (.iaload, 1) := dk_46 (dk_at dksX0_goesOn_6 21 rfl rfl)
theorem dX0_goesOn_161 : decode cX0_goesOn 161 = .ok (.iadd, 1) := dk_96 (dk_at dksX0_goesOn_6 22 rfl rfl)
theorem dX0_goesOn_162 : decode cX0_goesOn 162 = .ok (.invokevirtual 291, 3) := dk_182 1 35 (dk_at dksX0_goesOn_7 0 rfl rfl)
theorem dX0_goesOn_165 : decode cX0_goesOn 165 = .ok (.iinc 5 1, 3) := dk_132 5 1 (dk_at dksX0_goesOn_7 3 rfl rfl)
theorem dX0_goesOn_168 : decode cX0_goesOn 168 = .ok (.goto (-155), 3) := dk_167 255 101 (dk_at dksX0_goesOn_7 6 rfl rfl)
theorem dX0_goesOn_171 : decode cX0_goesOn 171 = .ok (.return_, 1) := dk_177 (dk_at dksX0_goesOn_7 9 rfl rfl)
abbrev cX0_digit : ByteArray := prog_1_method_50_code
def yX0_digit : MethodName := ⟨RX0, "digit", "(II)I"⟩
def dkwX0_digit_0 : List UInt8 := [27, 42, 180, 0, 98, 28, 46, 108, 6, 112, 172]
abbrev dktX0_digit_0 : List UInt8 := dkwX0_digit_0 ++ []
theorem dksX0_digit_0 : cX0_digit.data.toList.drop 0 = dktX0_digit_0 := by decide +kernel
theorem dX0_digit_0 : decode cX0_digit 0 = .ok (.iload_n 1, 1) := dk_27 (dk_at dksX0_digit_0 0 rfl rfl)
theorem dX0_digit_1 : decode cX0_digit 1 = .ok (.aload_n 0, 1) := dk_42 (dk_at dksX0_digit_0 1 rfl rfl)
theorem dX0_digit_2 : decode cX0_digit 2 = .ok (.getfield 98, 3) := dk_180 0 98 (dk_at dksX0_digit_0 2 rfl rfl)
theorem dX0_digit_5 : decode cX0_digit 5 = .ok (.iload_n 2, 1) := dk_28 (dk_at dksX0_digit_0 5 rfl rfl)
theorem dX0_digit_6 : decode cX0_digit 6 = .ok (.iaload, 1) := dk_46 (dk_at dksX0_digit_0 6 rfl rfl)
theorem dX0_digit_7 : decode cX0_digit 7 = .ok (.idiv, 1) := dk_108 (dk_at dksX0_digit_0 7 rfl rfl)
theorem dX0_digit_8 : decode cX0_digit 8 = .ok (.iconst 3, 1) := dk_6 (dk_at dksX0_digit_0 8 rfl rfl)
theorem dX0_digit_9 : decode cX0_digit 9 = .ok (.irem, 1) := dk_112 (dk_at dksX0_digit_0 9 rfl rfl)
theorem dX0_digit_10 : decode cX0_digit 10 = .ok (.ireturn, 1) := dk_172 (dk_at dksX0_digit_0 10 rfl rfl)
abbrev cX0_doneAt : ByteArray := prog_1_method_51_code
def yX0_doneAt : MethodName := ⟨RX0, "doneAt", "(II)I"⟩
def dkwX0_doneAt_2 : List UInt8 := [42, 180, 0, 98, 21, 4, 46, 167, 0, 4, 3, 96, 62, 132, 4, 1, 167, 255, 198, 29, 172]
abbrev dktX0_doneAt_2 : List UInt8 := dkwX0_doneAt_2 ++ []
def dkwX0_doneAt_1 : List UInt8 := [160, 0, 34, 42, 180, 0, 61, 180, 0, 214, 5, 50, 42, 180, 0, 95, 21, 4, 46, 46, 28, 160, 0, 13]
abbrev dktX0_doneAt_1 : List UInt8 := dkwX0_doneAt_1 ++ dktX0_doneAt_2
def dkwX0_doneAt_0 : List UInt8 := [27, 62, 3, 54, 4, 21, 4, 42, 180, 1, 23, 162, 0, 55, 29, 42, 27, 21, 4, 182, 1, 26, 4]
abbrev dktX0_doneAt_0 : List UInt8 := dkwX0_doneAt_0 ++ dktX0_doneAt_1
theorem dksX0_doneAt_0 : cX0_doneAt.data.toList.drop 0 = dktX0_doneAt_0 := by decide +kernel
theorem dksX0_doneAt_1 : cX0_doneAt.data.toList.drop 23 = dktX0_doneAt_1 := dk_seg dksX0_doneAt_0 23 rfl rfl
theorem dksX0_doneAt_2 : cX0_doneAt.data.toList.drop 47 = dktX0_doneAt_2 := dk_seg dksX0_doneAt_1 24 rfl rfl
theorem dX0_doneAt_0 : decode cX0_doneAt 0 = .ok (.iload_n 1, 1) := dk_27 (dk_at dksX0_doneAt_0 0 rfl rfl)
theorem dX0_doneAt_1 : decode cX0_doneAt 1 = .ok (.istore_n 3, 1) := dk_62 (dk_at dksX0_doneAt_0 1 rfl rfl)
theorem dX0_doneAt_2 : decode cX0_doneAt 2 = .ok (.iconst 0, 1) := dk_3 (dk_at dksX0_doneAt_0 2 rfl rfl)
theorem dX0_doneAt_3 : decode cX0_doneAt 3 = .ok (.istore 4, 2) := dk_54 4 (dk_at dksX0_doneAt_0 3 rfl rfl)
theorem dX0_doneAt_5 : decode cX0_doneAt 5 = .ok (.iload 4, 2) := dk_21 4 (dk_at dksX0_doneAt_0 5 rfl rfl)
theorem dX0_doneAt_7 : decode cX0_doneAt 7 = .ok (.aload_n 0, 1) := dk_42 (dk_at dksX0_doneAt_0 7 rfl rfl)
theorem dX0_doneAt_8 : decode cX0_doneAt 8 = .ok (.getfield 279, 3) := dk_180 1 23 (dk_at dksX0_doneAt_0 8 rfl rfl)
theorem dX0_doneAt_11 : decode cX0_doneAt 11 = .ok (.if_icmp .ge 55, 3) := dk_162 0 55 (dk_at dksX0_doneAt_0 11 rfl rfl)
theorem dX0_doneAt_14 : decode cX0_doneAt 14 = .ok (.iload_n 3, 1) := dk_29 (dk_at dksX0_doneAt_0 14 rfl rfl)
theorem dX0_doneAt_15 : decode cX0_doneAt 15 = .ok (.aload_n 0, 1) := dk_42 (dk_at dksX0_doneAt_0 15 rfl rfl)
theorem dX0_doneAt_16 : decode cX0_doneAt 16 = .ok (.iload_n 1, 1) := dk_27 (dk_at dksX0_doneAt_0 16 rfl rfl)
theorem dX0_doneAt_17 : decode cX0_doneAt 17 = .ok (.iload 4, 2) := dk_21 4 (dk_at dksX0_doneAt_0 17 rfl rfl)
theorem dX0_doneAt_19 : decode cX0_doneAt 19 = .ok (.invokevirtual 282, 3) := dk_182 1 26 (dk_at dksX0_doneAt_0 19 rfl rfl)
theorem dX0_doneAt_22 : decode cX0_doneAt 22 = .ok (.iconst 1, 1) := dk_4 (dk_at dksX0_doneAt_0 22 rfl rfl)
theorem dX0_doneAt_23 : decode cX0_doneAt 23 = .ok (.if_icmp .ne 34, 3) := dk_160 0 34 (dk_at dksX0_doneAt_1 0 rfl rfl)
theorem dX0_doneAt_26 : decode cX0_doneAt 26 = .ok (.aload_n 0, 1) := dk_42 (dk_at dksX0_doneAt_1 3 rfl rfl)
theorem dX0_doneAt_27 : decode cX0_doneAt 27 = .ok (.getfield 61, 3) := dk_180 0 61 (dk_at dksX0_doneAt_1 4 rfl rfl)
theorem dX0_doneAt_30 : decode cX0_doneAt 30 = .ok (.getfield 214, 3) := dk_180 0 214 (dk_at dksX0_doneAt_1 7 rfl rfl)
theorem dX0_doneAt_33 : decode cX0_doneAt 33 = .ok (.iconst 2, 1) := dk_5 (dk_at dksX0_doneAt_1 10 rfl rfl)
theorem dX0_doneAt_34 : decode cX0_doneAt 34 = .ok (.aaload, 1) := dk_50 (dk_at dksX0_doneAt_1 11 rfl rfl)
theorem dX0_doneAt_35 : decode cX0_doneAt 35 = .ok (.aload_n 0, 1) := dk_42 (dk_at dksX0_doneAt_1 12 rfl rfl)
theorem dX0_doneAt_36 : decode cX0_doneAt 36 = .ok (.getfield 95, 3) := dk_180 0 95 (dk_at dksX0_doneAt_1 13 rfl rfl)
theorem dX0_doneAt_39 : decode cX0_doneAt 39 = .ok (.iload 4, 2) := dk_21 4 (dk_at dksX0_doneAt_1 16 rfl rfl)
theorem dX0_doneAt_41 : decode cX0_doneAt 41 = .ok (.iaload, 1) := dk_46 (dk_at dksX0_doneAt_1 18 rfl rfl)
theorem dX0_doneAt_42 : decode cX0_doneAt 42 = .ok (.iaload, 1) := dk_46 (dk_at dksX0_doneAt_1 19 rfl rfl)
theorem dX0_doneAt_43 : decode cX0_doneAt 43 = .ok (.iload_n 2, 1) := dk_28 (dk_at dksX0_doneAt_1 20 rfl rfl)
theorem dX0_doneAt_44 : decode cX0_doneAt 44 = .ok (.if_icmp .ne 13, 3) := dk_160 0 13 (dk_at dksX0_doneAt_1 21 rfl rfl)
theorem dX0_doneAt_47 : decode cX0_doneAt 47 = .ok (.aload_n 0, 1) := dk_42 (dk_at dksX0_doneAt_2 0 rfl rfl)
theorem dX0_doneAt_48 : decode cX0_doneAt 48 = .ok (.getfield 98, 3) := dk_180 0 98 (dk_at dksX0_doneAt_2 1 rfl rfl)
theorem dX0_doneAt_51 : decode cX0_doneAt 51 = .ok (.iload 4, 2) := dk_21 4 (dk_at dksX0_doneAt_2 4 rfl rfl)
theorem dX0_doneAt_53 : decode cX0_doneAt 53 = .ok (.iaload, 1) := dk_46 (dk_at dksX0_doneAt_2 6 rfl rfl)
theorem dX0_doneAt_54 : decode cX0_doneAt 54 = .ok (.goto 4, 3) := dk_167 0 4 (dk_at dksX0_doneAt_2 7 rfl rfl)
theorem dX0_doneAt_57 : decode cX0_doneAt 57 = .ok (.iconst 0, 1) := dk_3 (dk_at dksX0_doneAt_2 10 rfl rfl)
theorem dX0_doneAt_58 : decode cX0_doneAt 58 = .ok (.iadd, 1) := dk_96 (dk_at dksX0_doneAt_2 11 rfl rfl)
theorem dX0_doneAt_59 : decode cX0_doneAt 59 = .ok (.istore_n 3, 1) := dk_62 (dk_at dksX0_doneAt_2 12 rfl rfl)
theorem dX0_doneAt_60 : decode cX0_doneAt 60 = .ok (.iinc 4 1, 3) := dk_132 4 1 (dk_at dksX0_doneAt_2 13 rfl rfl)
theorem dX0_doneAt_63 : decode cX0_doneAt 63 = .ok (.goto (-58), 3) := dk_167 255 198 (dk_at dksX0_doneAt_2 16 rfl rfl)
theorem dX0_doneAt_66 : decode cX0_doneAt 66 = .ok (.iload_n 3, 1) := dk_29 (dk_at dksX0_doneAt_2 19 rfl rfl)
theorem dX0_doneAt_67 : decode cX0_doneAt 67 = .ok (.ireturn, 1) := dk_172 (dk_at dksX0_doneAt_2 20 rfl rfl)
abbrev cX0_load : ByteArray := prog_1_method_52_code
def yX0_load : MethodName := ⟨RX0, "load", "(II)I"⟩
def dkwX0_load_2 : List UInt8 := [96, 62, 132, 4, 1, 167, 255, 209, 29, 172]
abbrev dktX0_load_2 : List UInt8 := dkwX0_load_2 ++ []
def dkwX0_load_1 : List UInt8 := [160, 0, 23, 42, 180, 0, 61, 180, 0, 214, 3, 50, 42, 180, 0, 95, 21, 4, 46, 46, 167, 0, 4, 3]
abbrev dktX0_load_1 : List UInt8 := dkwX0_load_1 ++ dktX0_load_2
def dkwX0_load_0 : List UInt8 := [28, 62, 3, 54, 4, 21, 4, 42, 180, 1, 23, 162, 0, 44, 29, 42, 27, 21, 4, 182, 1, 26, 4]
abbrev dktX0_load_0 : List UInt8 := dkwX0_load_0 ++ dktX0_load_1
theorem dksX0_load_0 : cX0_load.data.toList.drop 0 = dktX0_load_0 := by decide +kernel
theorem dksX0_load_1 : cX0_load.data.toList.drop 23 = dktX0_load_1 := dk_seg dksX0_load_0 23 rfl rfl
theorem dksX0_load_2 : cX0_load.data.toList.drop 47 = dktX0_load_2 := dk_seg dksX0_load_1 24 rfl rfl
theorem dX0_load_0 : decode cX0_load 0 = .ok (.iload_n 2, 1) := dk_28 (dk_at dksX0_load_0 0 rfl rfl)
theorem dX0_load_1 : decode cX0_load 1 = .ok (.istore_n 3, 1) := dk_62 (dk_at dksX0_load_0 1 rfl rfl)
theorem dX0_load_2 : decode cX0_load 2 = .ok (.iconst 0, 1) := dk_3 (dk_at dksX0_load_0 2 rfl rfl)
theorem dX0_load_3 : decode cX0_load 3 = .ok (.istore 4, 2) := dk_54 4 (dk_at dksX0_load_0 3 rfl rfl)
theorem dX0_load_5 : decode cX0_load 5 = .ok (.iload 4, 2) := dk_21 4 (dk_at dksX0_load_0 5 rfl rfl)
theorem dX0_load_7 : decode cX0_load 7 = .ok (.aload_n 0, 1) := dk_42 (dk_at dksX0_load_0 7 rfl rfl)
theorem dX0_load_8 : decode cX0_load 8 = .ok (.getfield 279, 3) := dk_180 1 23 (dk_at dksX0_load_0 8 rfl rfl)
theorem dX0_load_11 : decode cX0_load 11 = .ok (.if_icmp .ge 44, 3) := dk_162 0 44 (dk_at dksX0_load_0 11 rfl rfl)
theorem dX0_load_14 : decode cX0_load 14 = .ok (.iload_n 3, 1) := dk_29 (dk_at dksX0_load_0 14 rfl rfl)
theorem dX0_load_15 : decode cX0_load 15 = .ok (.aload_n 0, 1) := dk_42 (dk_at dksX0_load_0 15 rfl rfl)
theorem dX0_load_16 : decode cX0_load 16 = .ok (.iload_n 1, 1) := dk_27 (dk_at dksX0_load_0 16 rfl rfl)
theorem dX0_load_17 : decode cX0_load 17 = .ok (.iload 4, 2) := dk_21 4 (dk_at dksX0_load_0 17 rfl rfl)
theorem dX0_load_19 : decode cX0_load 19 = .ok (.invokevirtual 282, 3) := dk_182 1 26 (dk_at dksX0_load_0 19 rfl rfl)
theorem dX0_load_22 : decode cX0_load 22 = .ok (.iconst 1, 1) := dk_4 (dk_at dksX0_load_0 22 rfl rfl)
theorem dX0_load_23 : decode cX0_load 23 = .ok (.if_icmp .ne 23, 3) := dk_160 0 23 (dk_at dksX0_load_1 0 rfl rfl)
theorem dX0_load_26 : decode cX0_load 26 = .ok (.aload_n 0, 1) := dk_42 (dk_at dksX0_load_1 3 rfl rfl)
theorem dX0_load_27 : decode cX0_load 27 = .ok (.getfield 61, 3) := dk_180 0 61 (dk_at dksX0_load_1 4 rfl rfl)
theorem dX0_load_30 : decode cX0_load 30 = .ok (.getfield 214, 3) := dk_180 0 214 (dk_at dksX0_load_1 7 rfl rfl)
theorem dX0_load_33 : decode cX0_load 33 = .ok (.iconst 0, 1) := dk_3 (dk_at dksX0_load_1 10 rfl rfl)
theorem dX0_load_34 : decode cX0_load 34 = .ok (.aaload, 1) := dk_50 (dk_at dksX0_load_1 11 rfl rfl)
theorem dX0_load_35 : decode cX0_load 35 = .ok (.aload_n 0, 1) := dk_42 (dk_at dksX0_load_1 12 rfl rfl)
theorem dX0_load_36 : decode cX0_load 36 = .ok (.getfield 95, 3) := dk_180 0 95 (dk_at dksX0_load_1 13 rfl rfl)
theorem dX0_load_39 : decode cX0_load 39 = .ok (.iload 4, 2) := dk_21 4 (dk_at dksX0_load_1 16 rfl rfl)
theorem dX0_load_41 : decode cX0_load 41 = .ok (.iaload, 1) := dk_46 (dk_at dksX0_load_1 18 rfl rfl)
theorem dX0_load_42 : decode cX0_load 42 = .ok (.iaload, 1) := dk_46 (dk_at dksX0_load_1 19 rfl rfl)
theorem dX0_load_43 : decode cX0_load 43 = .ok (.goto 4, 3) := dk_167 0 4 (dk_at dksX0_load_1 20 rfl rfl)
theorem dX0_load_46 : decode cX0_load 46 = .ok (.iconst 0, 1) := dk_3 (dk_at dksX0_load_1 23 rfl rfl)
theorem dX0_load_47 : decode cX0_load 47 = .ok (.iadd, 1) := dk_96 (dk_at dksX0_load_2 0 rfl rfl)
theorem dX0_load_48 : decode cX0_load 48 = .ok (.istore_n 3, 1) := dk_62 (dk_at dksX0_load_2 1 rfl rfl)
theorem dX0_load_49 : decode cX0_load 49 = .ok (.iinc 4 1, 3) := dk_132 4 1 (dk_at dksX0_load_2 2 rfl rfl)
theorem dX0_load_52 : decode cX0_load 52 = .ok (.goto (-47), 3) := dk_167 255 209 (dk_at dksX0_load_2 5 rfl rfl)
theorem dX0_load_55 : decode cX0_load 55 = .ok (.iload_n 3, 1) := dk_29 (dk_at dksX0_load_2 8 rfl rfl)
theorem dX0_load_56 : decode cX0_load 56 = .ok (.ireturn, 1) := dk_172 (dk_at dksX0_load_2 9 rfl rfl)
abbrev cX0_shortens : ByteArray := prog_1_method_53_code
def yX0_shortens : MethodName := ⟨RX0, "shortens", "(III)V"⟩
def dkwX0_shortens_0 : List UInt8 := [42, 180, 0, 101, 27, 50, 28, 42, 180, 0, 101, 27, 50, 28, 46, 29, 184, 0, 205, 79, 177]
abbrev dktX0_shortens_0 : List UInt8 := dkwX0_shortens_0 ++ []
theorem dksX0_shortens_0 : cX0_shortens.data.toList.drop 0 = dktX0_shortens_0 := by decide +kernel
theorem dX0_shortens_0 : decode cX0_shortens 0 = .ok (.aload_n 0, 1) := dk_42 (dk_at dksX0_shortens_0 0 rfl rfl)
theorem dX0_shortens_1 : decode cX0_shortens 1 = .ok (.getfield 101, 3) := dk_180 0 101 (dk_at dksX0_shortens_0 1 rfl rfl)
theorem dX0_shortens_4 : decode cX0_shortens 4 = .ok (.iload_n 1, 1) := dk_27 (dk_at dksX0_shortens_0 4 rfl rfl)
theorem dX0_shortens_5 : decode cX0_shortens 5 = .ok (.aaload, 1) := dk_50 (dk_at dksX0_shortens_0 5 rfl rfl)
theorem dX0_shortens_6 : decode cX0_shortens 6 = .ok (.iload_n 2, 1) := dk_28 (dk_at dksX0_shortens_0 6 rfl rfl)
theorem dX0_shortens_7 : decode cX0_shortens 7 = .ok (.aload_n 0, 1) := dk_42 (dk_at dksX0_shortens_0 7 rfl rfl)
theorem dX0_shortens_8 : decode cX0_shortens 8 = .ok (.getfield 101, 3) := dk_180 0 101 (dk_at dksX0_shortens_0 8 rfl rfl)
theorem dX0_shortens_11 : decode cX0_shortens 11 = .ok (.iload_n 1, 1) := dk_27 (dk_at dksX0_shortens_0 11 rfl rfl)
theorem dX0_shortens_12 : decode cX0_shortens 12 = .ok (.aaload, 1) := dk_50 (dk_at dksX0_shortens_0 12 rfl rfl)
theorem dX0_shortens_13 : decode cX0_shortens 13 = .ok (.iload_n 2, 1) := dk_28 (dk_at dksX0_shortens_0 13 rfl rfl)
theorem dX0_shortens_14 : decode cX0_shortens 14 = .ok (.iaload, 1) := dk_46 (dk_at dksX0_shortens_0 14 rfl rfl)
theorem dX0_shortens_15 : decode cX0_shortens 15 = .ok (.iload_n 3, 1) := dk_29 (dk_at dksX0_shortens_0 15 rfl rfl)
theorem dX0_shortens_16 : decode cX0_shortens 16 = .ok (.invokestatic 205, 3) := dk_184 0 205 (dk_at dksX0_shortens_0 16 rfl rfl)
theorem dX0_shortens_19 : decode cX0_shortens 19 = .ok (.iastore, 1) := dk_79 (dk_at dksX0_shortens_0 19 rfl rfl)
theorem dX0_shortens_20 : decode cX0_shortens 20 = .ok (.return_, 1) := dk_177 (dk_at dksX0_shortens_0 20 rfl rfl)
abbrev cX0_gets : ByteArray := prog_1_method_61_code
def yX0_gets : MethodName := ⟨RX0, "gets", "(II)I"⟩
def dkwX0_gets_1 : List UInt8 := [182, 0, 223, 167, 0, 8, 42, 3, 182, 0, 142, 172]
abbrev dktX0_gets_1 : List UInt8 := dkwX0_gets_1 ++ []
def dkwX0_gets_0 : List UInt8 := [42, 27, 182, 0, 161, 153, 0, 24, 42, 28, 182, 1, 44, 153, 0, 16, 42, 42, 27, 28, 182, 1, 59]
abbrev dktX0_gets_0 : List UInt8 := dkwX0_gets_0 ++ dktX0_gets_1
theorem dksX0_gets_0 : cX0_gets.data.toList.drop 0 = dktX0_gets_0 := by decide +kernel
theorem dksX0_gets_1 : cX0_gets.data.toList.drop 23 = dktX0_gets_1 := dk_seg dksX0_gets_0 23 rfl rfl
theorem dX0_gets_0 : decode cX0_gets 0 = .ok (.aload_n 0, 1) := dk_42 (dk_at dksX0_gets_0 0 rfl rfl)
theorem dX0_gets_1 : decode cX0_gets 1 = .ok (.iload_n 1, 1) := dk_27 (dk_at dksX0_gets_0 1 rfl rfl)
theorem dX0_gets_2 : decode cX0_gets 2 = .ok (.invokevirtual 161, 3) := dk_182 0 161 (dk_at dksX0_gets_0 2 rfl rfl)
theorem dX0_gets_5 : decode cX0_gets 5 = .ok (.ifCond .eq 24, 3) := dk_153 0 24 (dk_at dksX0_gets_0 5 rfl rfl)
theorem dX0_gets_8 : decode cX0_gets 8 = .ok (.aload_n 0, 1) := dk_42 (dk_at dksX0_gets_0 8 rfl rfl)
theorem dX0_gets_9 : decode cX0_gets 9 = .ok (.iload_n 2, 1) := dk_28 (dk_at dksX0_gets_0 9 rfl rfl)
theorem dX0_gets_10 : decode cX0_gets 10 = .ok (.invokevirtual 300, 3) := dk_182 1 44 (dk_at dksX0_gets_0 10 rfl rfl)
theorem dX0_gets_13 : decode cX0_gets 13 = .ok (.ifCond .eq 16, 3) := dk_153 0 16 (dk_at dksX0_gets_0 13 rfl rfl)
theorem dX0_gets_16 : decode cX0_gets 16 = .ok (.aload_n 0, 1) := dk_42 (dk_at dksX0_gets_0 16 rfl rfl)
theorem dX0_gets_17 : decode cX0_gets 17 = .ok (.aload_n 0, 1) := dk_42 (dk_at dksX0_gets_0 17 rfl rfl)
theorem dX0_gets_18 : decode cX0_gets 18 = .ok (.iload_n 1, 1) := dk_27 (dk_at dksX0_gets_0 18 rfl rfl)
theorem dX0_gets_19 : decode cX0_gets 19 = .ok (.iload_n 2, 1) := dk_28 (dk_at dksX0_gets_0 19 rfl rfl)
theorem dX0_gets_20 : decode cX0_gets 20 = .ok (.invokevirtual 315, 3) := dk_182 1 59 (dk_at dksX0_gets_0 20 rfl rfl)
theorem dX0_gets_23 : decode cX0_gets 23 = .ok (.invokevirtual 223, 3) := dk_182 0 223 (dk_at dksX0_gets_1 0 rfl rfl)
theorem dX0_gets_26 : decode cX0_gets 26 = .ok (.goto 8, 3) := dk_167 0 8 (dk_at dksX0_gets_1 3 rfl rfl)
theorem dX0_gets_29 : decode cX0_gets 29 = .ok (.aload_n 0, 1) := dk_42 (dk_at dksX0_gets_1 6 rfl rfl)
theorem dX0_gets_30 : decode cX0_gets 30 = .ok (.iconst 0, 1) := dk_3 (dk_at dksX0_gets_1 7 rfl rfl)
theorem dX0_gets_31 : decode cX0_gets 31 = .ok (.invokevirtual 142, 3) := dk_182 0 142 (dk_at dksX0_gets_1 8 rfl rfl)
theorem dX0_gets_34 : decode cX0_gets 34 = .ok (.ireturn, 1) := dk_172 (dk_at dksX0_gets_1 11 rfl rfl)
abbrev cX0_getsFor : ByteArray := prog_1_method_60_code
def yX0_getsFor : MethodName := ⟨RX0, "getsFor", "(II)I"⟩
def dkwX0_getsFor_3 : List UInt8 := [167, 0, 4, 3, 96, 62, 132, 4, 1, 167, 255, 182, 29, 172]
abbrev dktX0_getsFor_3 : List UInt8 := dkwX0_getsFor_3 ++ []
def dkwX0_getsFor_2 : List UInt8 := [160, 0, 7, 2, 167, 0, 25, 29, 28, 21, 4, 184, 1, 2, 153, 0, 13, 42, 27, 21, 5, 182, 1, 5]
abbrev dktX0_getsFor_2 : List UInt8 := dkwX0_getsFor_2 ++ dktX0_getsFor_3
def dkwX0_getsFor_1 : List UInt8 := [21, 4, 184, 1, 2, 153, 0, 12, 42, 21, 4, 182, 0, 220, 167, 0, 4, 3, 54, 5, 21, 5, 2]
abbrev dktX0_getsFor_1 : List UInt8 := dkwX0_getsFor_1 ++ dktX0_getsFor_2
def dkwX0_getsFor_0 : List UInt8 := [3, 62, 3, 54, 4, 21, 4, 42, 180, 0, 61, 180, 0, 127, 162, 0, 68, 29, 2, 159, 0, 63, 28]
abbrev dktX0_getsFor_0 : List UInt8 := dkwX0_getsFor_0 ++ dktX0_getsFor_1
theorem dksX0_getsFor_0 : cX0_getsFor.data.toList.drop 0 = dktX0_getsFor_0 := by decide +kernel
theorem dksX0_getsFor_1 : cX0_getsFor.data.toList.drop 23 = dktX0_getsFor_1 := dk_seg dksX0_getsFor_0 23 rfl rfl
theorem dksX0_getsFor_2 : cX0_getsFor.data.toList.drop 46 = dktX0_getsFor_2 := dk_seg dksX0_getsFor_1 23 rfl rfl
theorem dksX0_getsFor_3 : cX0_getsFor.data.toList.drop 70 = dktX0_getsFor_3 := dk_seg dksX0_getsFor_2 24 rfl rfl
theorem dX0_getsFor_0 : decode cX0_getsFor 0 = .ok (.iconst 0, 1) := dk_3 (dk_at dksX0_getsFor_0 0 rfl rfl)
theorem dX0_getsFor_1 : decode cX0_getsFor 1 = .ok (.istore_n 3, 1) := dk_62 (dk_at dksX0_getsFor_0 1 rfl rfl)
theorem dX0_getsFor_2 : decode cX0_getsFor 2 = .ok (.iconst 0, 1) := dk_3 (dk_at dksX0_getsFor_0 2 rfl rfl)
theorem dX0_getsFor_3 : decode cX0_getsFor 3 = .ok (.istore 4, 2) := dk_54 4 (dk_at dksX0_getsFor_0 3 rfl rfl)
theorem dX0_getsFor_5 : decode cX0_getsFor 5 = .ok (.iload 4, 2) := dk_21 4 (dk_at dksX0_getsFor_0 5 rfl rfl)
theorem dX0_getsFor_7 : decode cX0_getsFor 7 = .ok (.aload_n 0, 1) := dk_42 (dk_at dksX0_getsFor_0 7 rfl rfl)
theorem dX0_getsFor_8 : decode cX0_getsFor 8 = .ok (.getfield 61, 3) := dk_180 0 61 (dk_at dksX0_getsFor_0 8 rfl rfl)
theorem dX0_getsFor_11 : decode cX0_getsFor 11 = .ok (.getfield 127, 3) := dk_180 0 127 (dk_at dksX0_getsFor_0 11 rfl rfl)
theorem dX0_getsFor_14 : decode cX0_getsFor 14 = .ok (.if_icmp .ge 68, 3) := dk_162 0 68 (dk_at dksX0_getsFor_0 14 rfl rfl)
theorem dX0_getsFor_17 : decode cX0_getsFor 17 = .ok (.iload_n 3, 1) := dk_29 (dk_at dksX0_getsFor_0 17 rfl rfl)
theorem dX0_getsFor_18 : decode cX0_getsFor 18 = .ok (.iconst (-1), 1) := dk_2 (dk_at dksX0_getsFor_0 18 rfl rfl)
theorem dX0_getsFor_19 : decode cX0_getsFor 19 = .ok (.if_icmp .eq 63, 3) := dk_159 0 63 (dk_at dksX0_getsFor_0 19 rfl rfl)
theorem dX0_getsFor_22 : decode cX0_getsFor 22 = .ok (.iload_n 2, 1) := dk_28 (dk_at dksX0_getsFor_0 22 rfl rfl)
theorem dX0_getsFor_23 : decode cX0_getsFor 23 = .ok (.iload 4, 2) := dk_21 4 (dk_at dksX0_getsFor_1 0 rfl rfl)
theorem dX0_getsFor_25 : decode cX0_getsFor 25 = .ok (.invokestatic 258, 3) := dk_184 1 2 (dk_at dksX0_getsFor_1 2 rfl rfl)
theorem dX0_getsFor_28 : decode cX0_getsFor 28 = .ok (.ifCond .eq 12, 3) := dk_153 0 12 (dk_at dksX0_getsFor_1 5 rfl rfl)
theorem dX0_getsFor_31 : decode cX0_getsFor 31 = .ok (.aload_n 0, 1) := dk_42 (dk_at dksX0_getsFor_1 8 rfl rfl)
theorem dX0_getsFor_32 : decode cX0_getsFor 32 = .ok (.iload 4, 2) := dk_21 4 (dk_at dksX0_getsFor_1 9 rfl rfl)
theorem dX0_getsFor_34 : decode cX0_getsFor 34 = .ok (.invokevirtual 220, 3) := dk_182 0 220 (dk_at dksX0_getsFor_1 11 rfl rfl)
theorem dX0_getsFor_37 : decode cX0_getsFor 37 = .ok (.goto 4, 3) := dk_167 0 4 (dk_at dksX0_getsFor_1 14 rfl rfl)
theorem dX0_getsFor_40 : decode cX0_getsFor 40 = .ok (.iconst 0, 1) := dk_3 (dk_at dksX0_getsFor_1 17 rfl rfl)
theorem dX0_getsFor_41 : decode cX0_getsFor 41 = .ok (.istore 5, 2) := dk_54 5 (dk_at dksX0_getsFor_1 18 rfl rfl)
theorem dX0_getsFor_43 : decode cX0_getsFor 43 = .ok (.iload 5, 2) := dk_21 5 (dk_at dksX0_getsFor_1 20 rfl rfl)
theorem dX0_getsFor_45 : decode cX0_getsFor 45 = .ok (.iconst (-1), 1) := dk_2 (dk_at dksX0_getsFor_1 22 rfl rfl)
theorem dX0_getsFor_46 : decode cX0_getsFor 46 = .ok (.if_icmp .ne 7, 3) := dk_160 0 7 (dk_at dksX0_getsFor_2 0 rfl rfl)
theorem dX0_getsFor_49 : decode cX0_getsFor 49 = .ok (.iconst (-1), 1) := dk_2 (dk_at dksX0_getsFor_2 3 rfl rfl)
theorem dX0_getsFor_50 : decode cX0_getsFor 50 = .ok (.goto 25, 3) := dk_167 0 25 (dk_at dksX0_getsFor_2 4 rfl rfl)
theorem dX0_getsFor_53 : decode cX0_getsFor 53 = .ok (.iload_n 3, 1) := dk_29 (dk_at dksX0_getsFor_2 7 rfl rfl)
theorem dX0_getsFor_54 : decode cX0_getsFor 54 = .ok (.iload_n 2, 1) := dk_28 (dk_at dksX0_getsFor_2 8 rfl rfl)
theorem dX0_getsFor_55 : decode cX0_getsFor 55 = .ok (.iload 4, 2) := dk_21 4 (dk_at dksX0_getsFor_2 9 rfl rfl)
theorem dX0_getsFor_57 : decode cX0_getsFor 57 = .ok (.invokestatic 258, 3) := dk_184 1 2 (dk_at dksX0_getsFor_2 11 rfl rfl)
theorem dX0_getsFor_60 : decode cX0_getsFor 60 = .ok (.ifCond .eq 13, 3) := dk_153 0 13 (dk_at dksX0_getsFor_2 14 rfl rfl)
theorem dX0_getsFor_63 : decode cX0_getsFor 63 = .ok (.aload_n 0, 1) := dk_42 (dk_at dksX0_getsFor_2 17 rfl rfl)
theorem dX0_getsFor_64 : decode cX0_getsFor 64 = .ok (.iload_n 1, 1) := dk_27 (dk_at dksX0_getsFor_2 18 rfl rfl)
theorem dX0_getsFor_65 : decode cX0_getsFor 65 = .ok (.iload 5, 2) := dk_21 5 (dk_at dksX0_getsFor_2 19 rfl rfl)
theorem dX0_getsFor_67 : decode cX0_getsFor 67 = .ok (.invokevirtual 261, 3) := dk_182 1 5 (dk_at dksX0_getsFor_2 21 rfl rfl)
theorem dX0_getsFor_70 : decode cX0_getsFor 70 = .ok (.goto 4, 3) := dk_167 0 4 (dk_at dksX0_getsFor_3 0 rfl rfl)
theorem dX0_getsFor_73 : decode cX0_getsFor 73 = .ok (.iconst 0, 1) := dk_3 (dk_at dksX0_getsFor_3 3 rfl rfl)
theorem dX0_getsFor_74 : decode cX0_getsFor 74 = .ok (.iadd, 1) := dk_96 (dk_at dksX0_getsFor_3 4 rfl rfl)
theorem dX0_getsFor_75 : decode cX0_getsFor 75 = .ok (.istore_n 3, 1) := dk_62 (dk_at dksX0_getsFor_3 5 rfl rfl)
theorem dX0_getsFor_76 : decode cX0_getsFor 76 = .ok (.iinc 4 1, 3) := dk_132 4 1 (dk_at dksX0_getsFor_3 6 rfl rfl)
theorem dX0_getsFor_79 : decode cX0_getsFor 79 = .ok (.goto (-74), 3) := dk_167 255 182 (dk_at dksX0_getsFor_3 9 rfl rfl)
theorem dX0_getsFor_82 : decode cX0_getsFor 82 = .ok (.iload_n 3, 1) := dk_29 (dk_at dksX0_getsFor_3 12 rfl rfl)
theorem dX0_getsFor_83 : decode cX0_getsFor 83 = .ok (.ireturn, 1) := dk_172 (dk_at dksX0_getsFor_3 13 rfl rfl)
abbrev cX0_cheapest : ByteArray := prog_1_method_64_code
def yX0_cheapest : MethodName := ⟨RX0, "cheapest", "(II)I"⟩
def dkwX0_cheapest_1 : List UInt8 := [167, 0, 8, 42, 29, 182, 0, 142, 172]
abbrev dktX0_cheapest_1 : List UInt8 := dkwX0_cheapest_1 ++ []
def dkwX0_cheapest_0 : List UInt8 := [42, 27, 28, 182, 1, 65, 62, 29, 2, 160, 0, 16, 42, 42, 27, 28, 182, 1, 68, 182, 0, 223]
abbrev dktX0_cheapest_0 : List UInt8 := dkwX0_cheapest_0 ++ dktX0_cheapest_1
theorem dksX0_cheapest_0 : cX0_cheapest.data.toList.drop 0 = dktX0_cheapest_0 := by decide +kernel
theorem dksX0_cheapest_1 : cX0_cheapest.data.toList.drop 22 = dktX0_cheapest_1 := dk_seg dksX0_cheapest_0 22 rfl rfl
theorem dX0_cheapest_0 : decode cX0_cheapest 0 = .ok (.aload_n 0, 1) := dk_42 (dk_at dksX0_cheapest_0 0 rfl rfl)
theorem dX0_cheapest_1 : decode cX0_cheapest 1 = .ok (.iload_n 1, 1) := dk_27 (dk_at dksX0_cheapest_0 1 rfl rfl)
theorem dX0_cheapest_2 : decode cX0_cheapest 2 = .ok (.iload_n 2, 1) := dk_28 (dk_at dksX0_cheapest_0 2 rfl rfl)
theorem dX0_cheapest_3 : decode cX0_cheapest 3 = .ok (.invokevirtual 321, 3) := dk_182 1 65 (dk_at dksX0_cheapest_0 3 rfl rfl)
theorem dX0_cheapest_6 : decode cX0_cheapest 6 = .ok (.istore_n 3, 1) := dk_62 (dk_at dksX0_cheapest_0 6 rfl rfl)
theorem dX0_cheapest_7 : decode cX0_cheapest 7 = .ok (.iload_n 3, 1) := dk_29 (dk_at dksX0_cheapest_0 7 rfl rfl)
theorem dX0_cheapest_8 : decode cX0_cheapest 8 = .ok (.iconst (-1), 1) := dk_2 (dk_at dksX0_cheapest_0 8 rfl rfl)
theorem dX0_cheapest_9 : decode cX0_cheapest 9 = .ok (.if_icmp .ne 16, 3) := dk_160 0 16 (dk_at dksX0_cheapest_0 9 rfl rfl)
theorem dX0_cheapest_12 : decode cX0_cheapest 12 = .ok (.aload_n 0, 1) := dk_42 (dk_at dksX0_cheapest_0 12 rfl rfl)
theorem dX0_cheapest_13 : decode cX0_cheapest 13 = .ok (.aload_n 0, 1) := dk_42 (dk_at dksX0_cheapest_0 13 rfl rfl)
theorem dX0_cheapest_14 : decode cX0_cheapest 14 = .ok (.iload_n 1, 1) := dk_27 (dk_at dksX0_cheapest_0 14 rfl rfl)
theorem dX0_cheapest_15 : decode cX0_cheapest 15 = .ok (.iload_n 2, 1) := dk_28 (dk_at dksX0_cheapest_0 15 rfl rfl)
theorem dX0_cheapest_16 : decode cX0_cheapest 16 = .ok (.invokevirtual 324, 3) := dk_182 1 68 (dk_at dksX0_cheapest_0 16 rfl rfl)
theorem dX0_cheapest_19 : decode cX0_cheapest 19 = .ok (.invokevirtual 223, 3) := dk_182 0 223 (dk_at dksX0_cheapest_0 19 rfl rfl)
theorem dX0_cheapest_22 : decode cX0_cheapest 22 = .ok (.goto 8, 3) := dk_167 0 8 (dk_at dksX0_cheapest_1 0 rfl rfl)
theorem dX0_cheapest_25 : decode cX0_cheapest 25 = .ok (.aload_n 0, 1) := dk_42 (dk_at dksX0_cheapest_1 3 rfl rfl)
theorem dX0_cheapest_26 : decode cX0_cheapest 26 = .ok (.iload_n 3, 1) := dk_29 (dk_at dksX0_cheapest_1 4 rfl rfl)
theorem dX0_cheapest_27 : decode cX0_cheapest 27 = .ok (.invokevirtual 142, 3) := dk_182 0 142 (dk_at dksX0_cheapest_1 5 rfl rfl)
theorem dX0_cheapest_30 : decode cX0_cheapest 30 = .ok (.ireturn, 1) := dk_172 (dk_at dksX0_cheapest_1 8 rfl rfl)
abbrev cX0_whyNoWare : ByteArray := prog_1_method_63_code
def yX0_whyNoWare : MethodName := ⟨RX0, "whyNoWare", "(II)I"⟩
def dkwX0_whyNoWare_2 : List UInt8 := [172]
abbrev dktX0_whyNoWare_2 : List UInt8 := dkwX0_whyNoWare_2 ++ []
def dkwX0_whyNoWare_1 : List UInt8 := [180, 0, 236, 4, 50, 28, 46, 2, 160, 0, 15, 42, 27, 182, 1, 50, 153, 0, 7, 2, 167, 0, 4, 7]
abbrev dktX0_whyNoWare_1 : List UInt8 := dkwX0_whyNoWare_1 ++ dktX0_whyNoWare_2
def dkwX0_whyNoWare_0 : List UInt8 := [42, 27, 182, 0, 161, 153, 0, 11, 42, 28, 182, 0, 233, 154, 0, 7, 3, 167, 0, 31, 42, 180, 0, 61]
abbrev dktX0_whyNoWare_0 : List UInt8 := dkwX0_whyNoWare_0 ++ dktX0_whyNoWare_1
theorem dksX0_whyNoWare_0 : cX0_whyNoWare.data.toList.drop 0 = dktX0_whyNoWare_0 := by decide +kernel
theorem dksX0_whyNoWare_1 : cX0_whyNoWare.data.toList.drop 24 = dktX0_whyNoWare_1 := dk_seg dksX0_whyNoWare_0 24 rfl rfl
theorem dksX0_whyNoWare_2 : cX0_whyNoWare.data.toList.drop 48 = dktX0_whyNoWare_2 := dk_seg dksX0_whyNoWare_1 24 rfl rfl
theorem dX0_whyNoWare_0 : decode cX0_whyNoWare 0 = .ok (.aload_n 0, 1) := dk_42 (dk_at dksX0_whyNoWare_0 0 rfl rfl)
theorem dX0_whyNoWare_1 : decode cX0_whyNoWare 1 = .ok (.iload_n 1, 1) := dk_27 (dk_at dksX0_whyNoWare_0 1 rfl rfl)
theorem dX0_whyNoWare_2 : decode cX0_whyNoWare 2 = .ok (.invokevirtual 161, 3) := dk_182 0 161 (dk_at dksX0_whyNoWare_0 2 rfl rfl)
theorem dX0_whyNoWare_5 : decode cX0_whyNoWare 5 = .ok (.ifCond .eq 11, 3) := dk_153 0 11 (dk_at dksX0_whyNoWare_0 5 rfl rfl)
theorem dX0_whyNoWare_8 : decode cX0_whyNoWare 8 = .ok (.aload_n 0, 1) := dk_42 (dk_at dksX0_whyNoWare_0 8 rfl rfl)
theorem dX0_whyNoWare_9 : decode cX0_whyNoWare 9 = .ok (.iload_n 2, 1) := dk_28 (dk_at dksX0_whyNoWare_0 9 rfl rfl)
theorem dX0_whyNoWare_10 : decode cX0_whyNoWare 10 = .ok (.invokevirtual 233, 3) := dk_182 0 233 (dk_at dksX0_whyNoWare_0 10 rfl rfl)
theorem dX0_whyNoWare_13 : decode cX0_whyNoWare 13 = .ok (.ifCond .ne 7, 3) := dk_154 0 7 (dk_at dksX0_whyNoWare_0 13 rfl rfl)
theorem dX0_whyNoWare_16 : decode cX0_whyNoWare 16 = .ok (.iconst 0, 1) := dk_3 (dk_at dksX0_whyNoWare_0 16 rfl rfl)
theorem dX0_whyNoWare_17 : decode cX0_whyNoWare 17 = .ok (.goto 31, 3) := dk_167 0 31 (dk_at dksX0_whyNoWare_0 17 rfl rfl)
theorem dX0_whyNoWare_20 : decode cX0_whyNoWare 20 = .ok (.aload_n 0, 1) := dk_42 (dk_at dksX0_whyNoWare_0 20 rfl rfl)
theorem dX0_whyNoWare_21 : decode cX0_whyNoWare 21 = .ok (.getfield 61, 3) := dk_180 0 61 (dk_at dksX0_whyNoWare_0 21 rfl rfl)
theorem dX0_whyNoWare_24 : decode cX0_whyNoWare 24 = .ok (.getfield 236, 3) := dk_180 0 236 (dk_at dksX0_whyNoWare_1 0 rfl rfl)
theorem dX0_whyNoWare_27 : decode cX0_whyNoWare 27 = .ok (.iconst 1, 1) := dk_4 (dk_at dksX0_whyNoWare_1 3 rfl rfl)
theorem dX0_whyNoWare_28 : decode cX0_whyNoWare 28 = .ok (.aaload, 1) := dk_50 (dk_at dksX0_whyNoWare_1 4 rfl rfl)
theorem dX0_whyNoWare_29 : decode cX0_whyNoWare 29 = .ok (.iload_n 2, 1) := dk_28 (dk_at dksX0_whyNoWare_1 5 rfl rfl)
theorem dX0_whyNoWare_30 : decode cX0_whyNoWare 30 = .ok (.iaload, 1) := dk_46 (dk_at dksX0_whyNoWare_1 6 rfl rfl)
theorem dX0_whyNoWare_31 : decode cX0_whyNoWare 31 = .ok (.iconst (-1), 1) := dk_2 (dk_at dksX0_whyNoWare_1 7 rfl rfl)
theorem dX0_whyNoWare_32 : decode cX0_whyNoWare 32 = .ok (.if_icmp .ne 15, 3) := dk_160 0 15 (dk_at dksX0_whyNoWare_1 8 rfl rfl)
theorem dX0_whyNoWare_35 : decode cX0_whyNoWare 35 = .ok (.aload_n 0, 1) := dk_42 (dk_at dksX0_whyNoWare_1 11 rfl rfl)
theorem dX0_whyNoWare_36 : decode cX0_whyNoWare 36 = .ok (.iload_n 1, 1) := dk_27 (dk_at dksX0_whyNoWare_1 12 rfl rfl)
theorem dX0_whyNoWare_37 : decode cX0_whyNoWare 37 = .ok (.invokevirtual 306, 3) := dk_182 1 50 (dk_at dksX0_whyNoWare_1 13 rfl rfl)
theorem dX0_whyNoWare_40 : decode cX0_whyNoWare 40 = .ok (.ifCond .eq 7, 3) := dk_153 0 7 (dk_at dksX0_whyNoWare_1 16 rfl rfl)
theorem dX0_whyNoWare_43 : decode cX0_whyNoWare 43 = .ok (.iconst (-1), 1) := dk_2 (dk_at dksX0_whyNoWare_1 19 rfl rfl)
theorem dX0_whyNoWare_44 : decode cX0_whyNoWare 44 = .ok (.goto 4, 3) := dk_167 0 4 (dk_at dksX0_whyNoWare_1 20 rfl rfl)
theorem dX0_whyNoWare_47 : decode cX0_whyNoWare 47 = .ok (.iconst 4, 1) := dk_7 (dk_at dksX0_whyNoWare_1 23 rfl rfl)
theorem dX0_whyNoWare_48 : decode cX0_whyNoWare 48 = .ok (.ireturn, 1) := dk_172 (dk_at dksX0_whyNoWare_2 0 rfl rfl)
abbrev cX0_shortestFor : ByteArray := prog_1_method_62_code
def yX0_shortestFor : MethodName := ⟨RX0, "shortestFor", "(II)I"⟩
def dkwX0_shortestFor_6 : List UInt8 := [21, 5, 172]
abbrev dktX0_shortestFor_6 : List UInt8 := dkwX0_shortestFor_6 ++ []
def dkwX0_shortestFor_5 : List UInt8 := [21, 8, 21, 5, 162, 0, 13, 21, 8, 54, 5, 42, 21, 6, 181, 1, 62, 132, 6, 1, 167, 255, 162]
abbrev dktX0_shortestFor_5 : List UInt8 := dkwX0_shortestFor_5 ++ dktX0_shortestFor_6
def dkwX0_shortestFor_4 : List UInt8 := [27, 21, 6, 182, 1, 56, 167, 0, 4, 2, 54, 8, 21, 8, 2, 159, 0, 26, 21, 5, 2, 159, 0, 10]
abbrev dktX0_shortestFor_4 : List UInt8 := dkwX0_shortestFor_4 ++ dktX0_shortestFor_5
def dkwX0_shortestFor_3 : List UInt8 := [42, 27, 21, 6, 182, 1, 59, 29, 161, 0, 7, 4, 167, 0, 4, 3, 54, 7, 21, 7, 153, 0, 13, 42]
abbrev dktX0_shortestFor_3 : List UInt8 := dkwX0_shortestFor_3 ++ dktX0_shortestFor_4
def dkwX0_shortestFor_2 : List UInt8 := [21, 4, 163, 0, 93, 21, 6, 21, 4, 2, 130, 126, 154, 0, 27, 42, 21, 6, 182, 1, 44, 153, 0, 18]
abbrev dktX0_shortestFor_2 : List UInt8 := dkwX0_shortestFor_2 ++ dktX0_shortestFor_3
def dkwX0_shortestFor_1 : List UInt8 := [42, 180, 0, 61, 3, 182, 1, 14, 54, 4, 2, 54, 5, 42, 2, 181, 1, 62, 3, 54, 6, 21, 6]
abbrev dktX0_shortestFor_1 : List UInt8 := dkwX0_shortestFor_1 ++ dktX0_shortestFor_2
def dkwX0_shortestFor_0 : List UInt8 := [42, 180, 0, 61, 180, 0, 236, 3, 50, 28, 46, 42, 180, 0, 61, 180, 0, 113, 6, 50, 27, 46, 100, 62]
abbrev dktX0_shortestFor_0 : List UInt8 := dkwX0_shortestFor_0 ++ dktX0_shortestFor_1
theorem dksX0_shortestFor_0 : cX0_shortestFor.data.toList.drop 0 = dktX0_shortestFor_0 := by decide +kernel
theorem dksX0_shortestFor_1 : cX0_shortestFor.data.toList.drop 24 = dktX0_shortestFor_1 := dk_seg dksX0_shortestFor_0 24 rfl rfl
theorem dksX0_shortestFor_2 : cX0_shortestFor.data.toList.drop 47 = dktX0_shortestFor_2 := dk_seg dksX0_shortestFor_1 23 rfl rfl
theorem dksX0_shortestFor_3 : cX0_shortestFor.data.toList.drop 71 = dktX0_shortestFor_3 := dk_seg dksX0_shortestFor_2 24 rfl rfl
theorem dksX0_shortestFor_4 : cX0_shortestFor.data.toList.drop 95 = dktX0_shortestFor_4 := dk_seg dksX0_shortestFor_3 24 rfl rfl
theorem dksX0_shortestFor_5 : cX0_shortestFor.data.toList.drop 119 = dktX0_shortestFor_5 := dk_seg dksX0_shortestFor_4 24 rfl rfl
theorem dksX0_shortestFor_6 : cX0_shortestFor.data.toList.drop 142 = dktX0_shortestFor_6 := dk_seg dksX0_shortestFor_5 23 rfl rfl
theorem dX0_shortestFor_0 : decode cX0_shortestFor 0 = .ok (.aload_n 0, 1) := dk_42 (dk_at dksX0_shortestFor_0 0 rfl rfl)
theorem dX0_shortestFor_1 : decode cX0_shortestFor 1 = .ok (.getfield 61, 3) := dk_180 0 61 (dk_at dksX0_shortestFor_0 1 rfl rfl)
theorem dX0_shortestFor_4 : decode cX0_shortestFor 4 = .ok (.getfield 236, 3) := dk_180 0 236 (dk_at dksX0_shortestFor_0 4 rfl rfl)
theorem dX0_shortestFor_7 : decode cX0_shortestFor 7 = .ok (.iconst 0, 1) := dk_3 (dk_at dksX0_shortestFor_0 7 rfl rfl)
theorem dX0_shortestFor_8 : decode cX0_shortestFor 8 = .ok (.aaload, 1) := dk_50 (dk_at dksX0_shortestFor_0 8 rfl rfl)
theorem dX0_shortestFor_9 : decode cX0_shortestFor 9 = .ok (.iload_n 2, 1) := dk_28 (dk_at dksX0_shortestFor_0 9 rfl rfl)
theorem dX0_shortestFor_10 : decode cX0_shortestFor 10 = .ok (.iaload, 1) := dk_46 (dk_at dksX0_shortestFor_0 10 rfl rfl)
theorem dX0_shortestFor_11 : decode cX0_shortestFor 11 = .ok (.aload_n 0, 1) := dk_42 (dk_at dksX0_shortestFor_0 11 rfl rfl)
theorem dX0_shortestFor_12 : decode cX0_shortestFor 12 = .ok (.getfield 61, 3) := dk_180 0 61 (dk_at dksX0_shortestFor_0 12 rfl rfl)
theorem dX0_shortestFor_15 : decode cX0_shortestFor 15 = .ok (.getfield 113, 3) := dk_180 0 113 (dk_at dksX0_shortestFor_0 15 rfl rfl)
theorem dX0_shortestFor_18 : decode cX0_shortestFor 18 = .ok (.iconst 3, 1) := dk_6 (dk_at dksX0_shortestFor_0 18 rfl rfl)
theorem dX0_shortestFor_19 : decode cX0_shortestFor 19 = .ok (.aaload, 1) := dk_50 (dk_at dksX0_shortestFor_0 19 rfl rfl)
theorem dX0_shortestFor_20 : decode cX0_shortestFor 20 = .ok (.iload_n 1, 1) := dk_27 (dk_at dksX0_shortestFor_0 20 rfl rfl)
theorem dX0_shortestFor_21 : decode cX0_shortestFor 21 = .ok (.iaload, 1) := dk_46 (dk_at dksX0_shortestFor_0 21 rfl rfl)
theorem dX0_shortestFor_22 : decode cX0_shortestFor 22 = .ok (.isub, 1) := dk_100 (dk_at dksX0_shortestFor_0 22 rfl rfl)
theorem dX0_shortestFor_23 : decode cX0_shortestFor 23 = .ok (.istore_n 3, 1) := dk_62 (dk_at dksX0_shortestFor_0 23 rfl rfl)
theorem dX0_shortestFor_24 : decode cX0_shortestFor 24 = .ok (.aload_n 0, 1) := dk_42 (dk_at dksX0_shortestFor_1 0 rfl rfl)
theorem dX0_shortestFor_25 : decode cX0_shortestFor 25 = .ok (.getfield 61, 3) := dk_180 0 61 (dk_at dksX0_shortestFor_1 1 rfl rfl)
theorem dX0_shortestFor_28 : decode cX0_shortestFor 28 = .ok (.iconst 0, 1) := dk_3 (dk_at dksX0_shortestFor_1 4 rfl rfl)
theorem dX0_shortestFor_29 : decode cX0_shortestFor 29 = .ok (.invokevirtual 270, 3) := dk_182 1 14 (dk_at dksX0_shortestFor_1 5 rfl rfl)
theorem dX0_shortestFor_32 : decode cX0_shortestFor 32 = .ok (.istore 4, 2) := dk_54 4 (dk_at dksX0_shortestFor_1 8 rfl rfl)
theorem dX0_shortestFor_34 : decode cX0_shortestFor 34 = .ok (.iconst (-1), 1) := dk_2 (dk_at dksX0_shortestFor_1 10 rfl rfl)
theorem dX0_shortestFor_35 : decode cX0_shortestFor 35 = .ok (.istore 5, 2) := dk_54 5 (dk_at dksX0_shortestFor_1 11 rfl rfl)
theorem dX0_shortestFor_37 : decode cX0_shortestFor 37 = .ok (.aload_n 0, 1) := dk_42 (dk_at dksX0_shortestFor_1 13 rfl rfl)
theorem dX0_shortestFor_38 : decode cX0_shortestFor 38 = .ok (.iconst (-1), 1) := dk_2 (dk_at dksX0_shortestFor_1 14 rfl rfl)
theorem dX0_shortestFor_39 : decode cX0_shortestFor 39 = .ok (.putfield 318, 3) := dk_181 1 62 (dk_at dksX0_shortestFor_1 15 rfl rfl)
theorem dX0_shortestFor_42 : decode cX0_shortestFor 42 = .ok (.iconst 0, 1) := dk_3 (dk_at dksX0_shortestFor_1 18 rfl rfl)
theorem dX0_shortestFor_43 : decode cX0_shortestFor 43 = .ok (.istore 6, 2) := dk_54 6 (dk_at dksX0_shortestFor_1 19 rfl rfl)
theorem dX0_shortestFor_45 : decode cX0_shortestFor 45 = .ok (.iload 6, 2) := dk_21 6 (dk_at dksX0_shortestFor_1 21 rfl rfl)
theorem dX0_shortestFor_47 : decode cX0_shortestFor 47 = .ok (.iload 4, 2) := dk_21 4 (dk_at dksX0_shortestFor_2 0 rfl rfl)
theorem dX0_shortestFor_49 : decode cX0_shortestFor 49 = .ok (.if_icmp .gt 93, 3) := dk_163 0 93 (dk_at dksX0_shortestFor_2 2 rfl rfl)
theorem dX0_shortestFor_52 : decode cX0_shortestFor 52 = .ok (.iload 6, 2) := dk_21 6 (dk_at dksX0_shortestFor_2 5 rfl rfl)
theorem dX0_shortestFor_54 : decode cX0_shortestFor 54 = .ok (.iload 4, 2) := dk_21 4 (dk_at dksX0_shortestFor_2 7 rfl rfl)
theorem dX0_shortestFor_56 : decode cX0_shortestFor 56 = .ok (.iconst (-1), 1) := dk_2 (dk_at dksX0_shortestFor_2 9 rfl rfl)
theorem dX0_shortestFor_57 : decode cX0_shortestFor 57 = .ok (.ixor, 1) := dk_130 (dk_at dksX0_shortestFor_2 10 rfl rfl)
theorem dX0_shortestFor_58 : decode cX0_shortestFor 58 = .ok (.iand, 1) := dk_126 (dk_at dksX0_shortestFor_2 11 rfl rfl)
theorem dX0_shortestFor_59 : decode cX0_shortestFor 59 = .ok (.ifCond .ne 27, 3) := dk_154 0 27 (dk_at dksX0_shortestFor_2 12 rfl rfl)
theorem dX0_shortestFor_62 : decode cX0_shortestFor 62 = .ok (.aload_n 0, 1) := dk_42 (dk_at dksX0_shortestFor_2 15 rfl rfl)
theorem dX0_shortestFor_63 : decode cX0_shortestFor 63 = .ok (.iload 6, 2) := dk_21 6 (dk_at dksX0_shortestFor_2 16 rfl rfl)
theorem dX0_shortestFor_65 : decode cX0_shortestFor 65 = .ok (.invokevirtual 300, 3) := dk_182 1 44 (dk_at dksX0_shortestFor_2 18 rfl rfl)
theorem dX0_shortestFor_68 : decode cX0_shortestFor 68 = .ok (.ifCond .eq 18, 3) := dk_153 0 18 (dk_at dksX0_shortestFor_2 21 rfl rfl)
theorem dX0_shortestFor_71 : decode cX0_shortestFor 71 = .ok (.aload_n 0, 1) := dk_42 (dk_at dksX0_shortestFor_3 0 rfl rfl)
theorem dX0_shortestFor_72 : decode cX0_shortestFor 72 = .ok (.iload_n 1, 1) := dk_27 (dk_at dksX0_shortestFor_3 1 rfl rfl)
theorem dX0_shortestFor_73 : decode cX0_shortestFor 73 = .ok (.iload 6, 2) := dk_21 6 (dk_at dksX0_shortestFor_3 2 rfl rfl)
theorem dX0_shortestFor_75 : decode cX0_shortestFor 75 = .ok (.invokevirtual 315, 3) := dk_182 1 59 (dk_at dksX0_shortestFor_3 4 rfl rfl)
theorem dX0_shortestFor_78 : decode cX0_shortestFor 78 = .ok (.iload_n 3, 1) := dk_29 (dk_at dksX0_shortestFor_3 7 rfl rfl)
theorem dX0_shortestFor_79 : decode cX0_shortestFor 79 = .ok (.if_icmp .lt 7, 3) := dk_161 0 7 (dk_at dksX0_shortestFor_3 8 rfl rfl)
theorem dX0_shortestFor_82 : decode cX0_shortestFor 82 = .ok (.iconst 1, 1) := dk_4 (dk_at dksX0_shortestFor_3 11 rfl rfl)
theorem dX0_shortestFor_83 : decode cX0_shortestFor 83 = .ok (.goto 4, 3) := dk_167 0 4 (dk_at dksX0_shortestFor_3 12 rfl rfl)
theorem dX0_shortestFor_86 : decode cX0_shortestFor 86 = .ok (.iconst 0, 1) := dk_3 (dk_at dksX0_shortestFor_3 15 rfl rfl)
theorem dX0_shortestFor_87 : decode cX0_shortestFor 87 = .ok (.istore 7, 2) := dk_54 7 (dk_at dksX0_shortestFor_3 16 rfl rfl)
theorem dX0_shortestFor_89 : decode cX0_shortestFor 89 = .ok (.iload 7, 2) := dk_21 7 (dk_at dksX0_shortestFor_3 18 rfl rfl)
theorem dX0_shortestFor_91 : decode cX0_shortestFor 91 = .ok (.ifCond .eq 13, 3) := dk_153 0 13 (dk_at dksX0_shortestFor_3 20 rfl rfl)
theorem dX0_shortestFor_94 : decode cX0_shortestFor 94 = .ok (.aload_n 0, 1) := dk_42 (dk_at dksX0_shortestFor_3 23 rfl rfl)
theorem dX0_shortestFor_95 : decode cX0_shortestFor 95 = .ok (.iload_n 1, 1) := dk_27 (dk_at dksX0_shortestFor_4 0 rfl rfl)
theorem dX0_shortestFor_96 : decode cX0_shortestFor 96 = .ok (.iload 6, 2) := dk_21 6 (dk_at dksX0_shortestFor_4 1 rfl rfl)
theorem dX0_shortestFor_98 : decode cX0_shortestFor 98 = .ok (.invokevirtual 312, 3) := dk_182 1 56 (dk_at dksX0_shortestFor_4 3 rfl rfl)
theorem dX0_shortestFor_101 : decode cX0_shortestFor 101 = .ok (.goto 4, 3) := dk_167 0 4 (dk_at dksX0_shortestFor_4 6 rfl rfl)
theorem dX0_shortestFor_104 : decode cX0_shortestFor 104 = .ok (.iconst (-1), 1) := dk_2 (dk_at dksX0_shortestFor_4 9 rfl rfl)
theorem dX0_shortestFor_105 : decode cX0_shortestFor 105 = .ok (.istore 8, 2) := dk_54 8 (dk_at dksX0_shortestFor_4 10 rfl rfl)
theorem dX0_shortestFor_107 : decode cX0_shortestFor 107 = .ok (.iload 8, 2) := dk_21 8 (dk_at dksX0_shortestFor_4 12 rfl rfl)
theorem dX0_shortestFor_109 : decode cX0_shortestFor 109 = .ok (.iconst (-1), 1) := dk_2 (dk_at dksX0_shortestFor_4 14 rfl rfl)
theorem dX0_shortestFor_110 : decode cX0_shortestFor 110 = .ok (.if_icmp .eq 26, 3) := dk_159 0 26 (dk_at dksX0_shortestFor_4 15 rfl rfl)
theorem dX0_shortestFor_113 : decode cX0_shortestFor 113 = .ok (.iload 5, 2) := dk_21 5 (dk_at dksX0_shortestFor_4 18 rfl rfl)
theorem dX0_shortestFor_115 : decode cX0_shortestFor 115 = .ok (.iconst (-1), 1) := dk_2 (dk_at dksX0_shortestFor_4 20 rfl rfl)
theorem dX0_shortestFor_116 : decode cX0_shortestFor 116 = .ok (.if_icmp .eq 10, 3) := dk_159 0 10 (dk_at dksX0_shortestFor_4 21 rfl rfl)
theorem dX0_shortestFor_119 : decode cX0_shortestFor 119 = .ok (.iload 8, 2) := dk_21 8 (dk_at dksX0_shortestFor_5 0 rfl rfl)
theorem dX0_shortestFor_121 : decode cX0_shortestFor 121 = .ok (.iload 5, 2) := dk_21 5 (dk_at dksX0_shortestFor_5 2 rfl rfl)
theorem dX0_shortestFor_123 : decode cX0_shortestFor 123 = .ok (.if_icmp .ge 13, 3) := dk_162 0 13 (dk_at dksX0_shortestFor_5 4 rfl rfl)
theorem dX0_shortestFor_126 : decode cX0_shortestFor 126 = .ok (.iload 8, 2) := dk_21 8 (dk_at dksX0_shortestFor_5 7 rfl rfl)
theorem dX0_shortestFor_128 : decode cX0_shortestFor 128 = .ok (.istore 5, 2) := dk_54 5 (dk_at dksX0_shortestFor_5 9 rfl rfl)
theorem dX0_shortestFor_130 : decode cX0_shortestFor 130 = .ok (.aload_n 0, 1) := dk_42 (dk_at dksX0_shortestFor_5 11 rfl rfl)
theorem dX0_shortestFor_131 : decode cX0_shortestFor 131 = .ok (.iload 6, 2) := dk_21 6 (dk_at dksX0_shortestFor_5 12 rfl rfl)
theorem dX0_shortestFor_133 : decode cX0_shortestFor 133 = .ok (.putfield 318, 3) := dk_181 1 62 (dk_at dksX0_shortestFor_5 14 rfl rfl)
theorem dX0_shortestFor_136 : decode cX0_shortestFor 136 = .ok (.iinc 6 1, 3) := dk_132 6 1 (dk_at dksX0_shortestFor_5 17 rfl rfl)
theorem dX0_shortestFor_139 : decode cX0_shortestFor 139 = .ok (.goto (-94), 3) := dk_167 255 162 (dk_at dksX0_shortestFor_5 20 rfl rfl)
theorem dX0_shortestFor_142 : decode cX0_shortestFor 142 = .ok (.iload 5, 2) := dk_21 5 (dk_at dksX0_shortestFor_6 0 rfl rfl)
theorem dX0_shortestFor_144 : decode cX0_shortestFor 144 = .ok (.ireturn, 1) := dk_172 (dk_at dksX0_shortestFor_6 2 rfl rfl)
abbrev cX0_which : ByteArray := prog_1_method_65_code
def yX0_which : MethodName := ⟨RX0, "which", "(II)I"⟩
def dkwX0_which_1 : List UInt8 := [2, 160, 0, 11, 42, 6, 182, 0, 142, 167, 0, 7, 42, 180, 1, 62, 172]
abbrev dktX0_which_1 : List UInt8 := dkwX0_which_1 ++ []
def dkwX0_which_0 : List UInt8 := [42, 27, 28, 182, 1, 65, 62, 29, 2, 159, 0, 9, 42, 29, 182, 0, 142, 172, 42, 27, 28, 182, 1, 68]
abbrev dktX0_which_0 : List UInt8 := dkwX0_which_0 ++ dktX0_which_1
theorem dksX0_which_0 : cX0_which.data.toList.drop 0 = dktX0_which_0 := by decide +kernel
theorem dksX0_which_1 : cX0_which.data.toList.drop 24 = dktX0_which_1 := dk_seg dksX0_which_0 24 rfl rfl
theorem dX0_which_0 : decode cX0_which 0 = .ok (.aload_n 0, 1) := dk_42 (dk_at dksX0_which_0 0 rfl rfl)
theorem dX0_which_1 : decode cX0_which 1 = .ok (.iload_n 1, 1) := dk_27 (dk_at dksX0_which_0 1 rfl rfl)
theorem dX0_which_2 : decode cX0_which 2 = .ok (.iload_n 2, 1) := dk_28 (dk_at dksX0_which_0 2 rfl rfl)
theorem dX0_which_3 : decode cX0_which 3 = .ok (.invokevirtual 321, 3) := dk_182 1 65 (dk_at dksX0_which_0 3 rfl rfl)
theorem dX0_which_6 : decode cX0_which 6 = .ok (.istore_n 3, 1) := dk_62 (dk_at dksX0_which_0 6 rfl rfl)
theorem dX0_which_7 : decode cX0_which 7 = .ok (.iload_n 3, 1) := dk_29 (dk_at dksX0_which_0 7 rfl rfl)
theorem dX0_which_8 : decode cX0_which 8 = .ok (.iconst (-1), 1) := dk_2 (dk_at dksX0_which_0 8 rfl rfl)
theorem dX0_which_9 : decode cX0_which 9 = .ok (.if_icmp .eq 9, 3) := dk_159 0 9 (dk_at dksX0_which_0 9 rfl rfl)
theorem dX0_which_12 : decode cX0_which 12 = .ok (.aload_n 0, 1) := dk_42 (dk_at dksX0_which_0 12 rfl rfl)
theorem dX0_which_13 : decode cX0_which 13 = .ok (.iload_n 3, 1) := dk_29 (dk_at dksX0_which_0 13 rfl rfl)
theorem dX0_which_14 : decode cX0_which 14 = .ok (.invokevirtual 142, 3) := dk_182 0 142 (dk_at dksX0_which_0 14 rfl rfl)
theorem dX0_which_17 : decode cX0_which 17 = .ok (.ireturn, 1) := dk_172 (dk_at dksX0_which_0 17 rfl rfl)
theorem dX0_which_18 : decode cX0_which 18 = .ok (.aload_n 0, 1) := dk_42 (dk_at dksX0_which_0 18 rfl rfl)
theorem dX0_which_19 : decode cX0_which 19 = .ok (.iload_n 1, 1) := dk_27 (dk_at dksX0_which_0 19 rfl rfl)
theorem dX0_which_20 : decode cX0_which 20 = .ok (.iload_n 2, 1) := dk_28 (dk_at dksX0_which_0 20 rfl rfl)
theorem dX0_which_21 : decode cX0_which 21 = .ok (.invokevirtual 324, 3) := dk_182 1 68 (dk_at dksX0_which_0 21 rfl rfl)
theorem dX0_which_24 : decode cX0_which 24 = .ok (.iconst (-1), 1) := dk_2 (dk_at dksX0_which_1 0 rfl rfl)
theorem dX0_which_25 : decode cX0_which 25 = .ok (.if_icmp .ne 11, 3) := dk_160 0 11 (dk_at dksX0_which_1 1 rfl rfl)
theorem dX0_which_28 : decode cX0_which 28 = .ok (.aload_n 0, 1) := dk_42 (dk_at dksX0_which_1 4 rfl rfl)
theorem dX0_which_29 : decode cX0_which 29 = .ok (.iconst 3, 1) := dk_6 (dk_at dksX0_which_1 5 rfl rfl)
theorem dX0_which_30 : decode cX0_which 30 = .ok (.invokevirtual 142, 3) := dk_182 0 142 (dk_at dksX0_which_1 6 rfl rfl)
theorem dX0_which_33 : decode cX0_which 33 = .ok (.goto 7, 3) := dk_167 0 7 (dk_at dksX0_which_1 9 rfl rfl)
theorem dX0_which_36 : decode cX0_which 36 = .ok (.aload_n 0, 1) := dk_42 (dk_at dksX0_which_1 12 rfl rfl)
theorem dX0_which_37 : decode cX0_which 37 = .ok (.getfield 318, 3) := dk_180 1 62 (dk_at dksX0_which_1 13 rfl rfl)
theorem dX0_which_40 : decode cX0_which 40 = .ok (.ireturn, 1) := dk_172 (dk_at dksX0_which_1 16 rfl rfl)
abbrev cX0_who : ByteArray := prog_1_method_67_code
def yX0_who : MethodName := ⟨RX0, "who", "(I)I"⟩
def dkwX0_who_1 : List UInt8 := [27, 182, 1, 71, 182, 0, 223, 167, 0, 8, 42, 7, 182, 0, 142, 172]
abbrev dktX0_who_1 : List UInt8 := dkwX0_who_1 ++ []
def dkwX0_who_0 : List UInt8 := [42, 27, 182, 1, 44, 154, 0, 9, 42, 3, 182, 0, 142, 172, 42, 27, 182, 1, 47, 153, 0, 15, 42, 42]
abbrev dktX0_who_0 : List UInt8 := dkwX0_who_0 ++ dktX0_who_1
theorem dksX0_who_0 : cX0_who.data.toList.drop 0 = dktX0_who_0 := by decide +kernel
theorem dksX0_who_1 : cX0_who.data.toList.drop 24 = dktX0_who_1 := dk_seg dksX0_who_0 24 rfl rfl
theorem dX0_who_0 : decode cX0_who 0 = .ok (.aload_n 0, 1) := dk_42 (dk_at dksX0_who_0 0 rfl rfl)
theorem dX0_who_1 : decode cX0_who 1 = .ok (.iload_n 1, 1) := dk_27 (dk_at dksX0_who_0 1 rfl rfl)
theorem dX0_who_2 : decode cX0_who 2 = .ok (.invokevirtual 300, 3) := dk_182 1 44 (dk_at dksX0_who_0 2 rfl rfl)
theorem dX0_who_5 : decode cX0_who 5 = .ok (.ifCond .ne 9, 3) := dk_154 0 9 (dk_at dksX0_who_0 5 rfl rfl)
theorem dX0_who_8 : decode cX0_who 8 = .ok (.aload_n 0, 1) := dk_42 (dk_at dksX0_who_0 8 rfl rfl)
theorem dX0_who_9 : decode cX0_who 9 = .ok (.iconst 0, 1) := dk_3 (dk_at dksX0_who_0 9 rfl rfl)
theorem dX0_who_10 : decode cX0_who 10 = .ok (.invokevirtual 142, 3) := dk_182 0 142 (dk_at dksX0_who_0 10 rfl rfl)
theorem dX0_who_13 : decode cX0_who 13 = .ok (.ireturn, 1) := dk_172 (dk_at dksX0_who_0 13 rfl rfl)
theorem dX0_who_14 : decode cX0_who 14 = .ok (.aload_n 0, 1) := dk_42 (dk_at dksX0_who_0 14 rfl rfl)
theorem dX0_who_15 : decode cX0_who 15 = .ok (.iload_n 1, 1) := dk_27 (dk_at dksX0_who_0 15 rfl rfl)
theorem dX0_who_16 : decode cX0_who 16 = .ok (.invokevirtual 303, 3) := dk_182 1 47 (dk_at dksX0_who_0 16 rfl rfl)
theorem dX0_who_19 : decode cX0_who 19 = .ok (.ifCond .eq 15, 3) := dk_153 0 15 (dk_at dksX0_who_0 19 rfl rfl)
theorem dX0_who_22 : decode cX0_who 22 = .ok (.aload_n 0, 1) := dk_42 (dk_at dksX0_who_0 22 rfl rfl)
theorem dX0_who_23 : decode cX0_who 23 = .ok (.aload_n 0, 1) := dk_42 (dk_at dksX0_who_0 23 rfl rfl)
theorem dX0_who_24 : decode cX0_who 24 = .ok (.iload_n 1, 1) := dk_27 (dk_at dksX0_who_1 0 rfl rfl)
theorem dX0_who_25 : decode cX0_who 25 = .ok (.invokevirtual 327, 3) := dk_182 1 71 (dk_at dksX0_who_1 1 rfl rfl)
theorem dX0_who_28 : decode cX0_who 28 = .ok (.invokevirtual 223, 3) := dk_182 0 223 (dk_at dksX0_who_1 4 rfl rfl)
theorem dX0_who_31 : decode cX0_who 31 = .ok (.goto 8, 3) := dk_167 0 8 (dk_at dksX0_who_1 7 rfl rfl)
theorem dX0_who_34 : decode cX0_who 34 = .ok (.aload_n 0, 1) := dk_42 (dk_at dksX0_who_1 10 rfl rfl)
theorem dX0_who_35 : decode cX0_who 35 = .ok (.iconst 4, 1) := dk_7 (dk_at dksX0_who_1 11 rfl rfl)
theorem dX0_who_36 : decode cX0_who 36 = .ok (.invokevirtual 142, 3) := dk_182 0 142 (dk_at dksX0_who_1 12 rfl rfl)
theorem dX0_who_39 : decode cX0_who 39 = .ok (.ireturn, 1) := dk_172 (dk_at dksX0_who_1 15 rfl rfl)
abbrev cX0_whoShortest : ByteArray := prog_1_method_66_code
def yX0_whoShortest : MethodName := ⟨RX0, "whoShortest", "(I)I"⟩
def dkwX0_whoShortest_4 : List UInt8 := [172]
abbrev dktX0_whoShortest_4 : List UInt8 := dkwX0_whoShortest_4 ++ []
def dkwX0_whoShortest_3 : List UInt8 := [167, 0, 4, 28, 61, 21, 6, 153, 0, 8, 21, 5, 167, 0, 4, 29, 62, 132, 4, 1, 167, 255, 176, 28]
abbrev dktX0_whoShortest_3 : List UInt8 := dkwX0_whoShortest_3 ++ dktX0_whoShortest_4
def dkwX0_whoShortest_2 : List UInt8 := [159, 0, 13, 21, 5, 29, 162, 0, 7, 4, 167, 0, 4, 3, 54, 6, 21, 6, 153, 0, 8, 21, 4]
abbrev dktX0_whoShortest_2 : List UInt8 := dkwX0_whoShortest_2 ++ dktX0_whoShortest_3
def dkwX0_whoShortest_1 : List UInt8 := [182, 1, 50, 153, 0, 13, 42, 21, 4, 27, 182, 1, 56, 167, 0, 4, 2, 54, 5, 21, 5, 2]
abbrev dktX0_whoShortest_1 : List UInt8 := dkwX0_whoShortest_1 ++ dktX0_whoShortest_2
def dkwX0_whoShortest_0 : List UInt8 := [2, 61, 18, 196, 62, 3, 54, 4, 21, 4, 42, 180, 0, 61, 180, 0, 125, 162, 0, 74, 42, 21, 4]
abbrev dktX0_whoShortest_0 : List UInt8 := dkwX0_whoShortest_0 ++ dktX0_whoShortest_1
theorem dksX0_whoShortest_0 : cX0_whoShortest.data.toList.drop 0 = dktX0_whoShortest_0 := by decide +kernel
theorem dksX0_whoShortest_1 : cX0_whoShortest.data.toList.drop 23 = dktX0_whoShortest_1 := dk_seg dksX0_whoShortest_0 23 rfl rfl
theorem dksX0_whoShortest_2 : cX0_whoShortest.data.toList.drop 45 = dktX0_whoShortest_2 := dk_seg dksX0_whoShortest_1 22 rfl rfl
theorem dksX0_whoShortest_3 : cX0_whoShortest.data.toList.drop 68 = dktX0_whoShortest_3 := dk_seg dksX0_whoShortest_2 23 rfl rfl
theorem dksX0_whoShortest_4 : cX0_whoShortest.data.toList.drop 92 = dktX0_whoShortest_4 := dk_seg dksX0_whoShortest_3 24 rfl rfl
theorem dX0_whoShortest_0 : decode cX0_whoShortest 0 = .ok (.iconst (-1), 1) := dk_2 (dk_at dksX0_whoShortest_0 0 rfl rfl)
theorem dX0_whoShortest_1 : decode cX0_whoShortest 1 = .ok (.istore_n 2, 1) := dk_61 (dk_at dksX0_whoShortest_0 1 rfl rfl)
theorem dX0_whoShortest_2 : decode cX0_whoShortest 2 = .ok (.ldc 196, 2) := dk_18 196 (dk_at dksX0_whoShortest_0 2 rfl rfl)
theorem dX0_whoShortest_4 : decode cX0_whoShortest 4 = .ok (.istore_n 3, 1) := dk_62 (dk_at dksX0_whoShortest_0 4 rfl rfl)
theorem dX0_whoShortest_5 : decode cX0_whoShortest 5 = .ok (.iconst 0, 1) := dk_3 (dk_at dksX0_whoShortest_0 5 rfl rfl)
theorem dX0_whoShortest_6 : decode cX0_whoShortest 6 = .ok (.istore 4, 2) := dk_54 4 (dk_at dksX0_whoShortest_0 6 rfl rfl)
theorem dX0_whoShortest_8 : decode cX0_whoShortest 8 = .ok (.iload 4, 2) := dk_21 4 (dk_at dksX0_whoShortest_0 8 rfl rfl)
theorem dX0_whoShortest_10 : decode cX0_whoShortest 10 = .ok (.aload_n 0, 1) := dk_42 (dk_at dksX0_whoShortest_0 10 rfl rfl)
theorem dX0_whoShortest_11 : decode cX0_whoShortest 11 = .ok (.getfield 61, 3) := dk_180 0 61 (dk_at dksX0_whoShortest_0 11 rfl rfl)
theorem dX0_whoShortest_14 : decode cX0_whoShortest 14 = .ok (.getfield 125, 3) := dk_180 0 125 (dk_at dksX0_whoShortest_0 14 rfl rfl)
theorem dX0_whoShortest_17 : decode cX0_whoShortest 17 = .ok (.if_icmp .ge 74, 3) := dk_162 0 74 (dk_at dksX0_whoShortest_0 17 rfl rfl)
theorem dX0_whoShortest_20 : decode cX0_whoShortest 20 = .ok (.aload_n 0, 1) := dk_42 (dk_at dksX0_whoShortest_0 20 rfl rfl)
theorem dX0_whoShortest_21 : decode cX0_whoShortest 21 = .ok (.iload 4, 2) := dk_21 4 (dk_at dksX0_whoShortest_0 21 rfl rfl)
theorem dX0_whoShortest_23 : decode cX0_whoShortest 23 = .ok (.invokevirtual 306, 3) := dk_182 1 50 (dk_at dksX0_whoShortest_1 0 rfl rfl)
theorem dX0_whoShortest_26 : decode cX0_whoShortest 26 = .ok (.ifCond .eq 13, 3) := dk_153 0 13 (dk_at dksX0_whoShortest_1 3 rfl rfl)
theorem dX0_whoShortest_29 : decode cX0_whoShortest 29 = .ok (.aload_n 0, 1) := dk_42 (dk_at dksX0_whoShortest_1 6 rfl rfl)
theorem dX0_whoShortest_30 : decode cX0_whoShortest 30 = .ok (.iload 4, 2) := dk_21 4 (dk_at dksX0_whoShortest_1 7 rfl rfl)
theorem dX0_whoShortest_32 : decode cX0_whoShortest 32 = .ok (.iload_n 1, 1) := dk_27 (dk_at dksX0_whoShortest_1 9 rfl rfl)
theorem dX0_whoShortest_33 : decode cX0_whoShortest 33 = .ok (.invokevirtual 312, 3) := dk_182 1 56 (dk_at dksX0_whoShortest_1 10 rfl rfl)
theorem dX0_whoShortest_36 : decode cX0_whoShortest 36 = .ok (.goto 4, 3) := dk_167 0 4 (dk_at dksX0_whoShortest_1 13 rfl rfl)
theorem dX0_whoShortest_39 : decode cX0_whoShortest 39 = .ok (.iconst (-1), 1) := dk_2 (dk_at dksX0_whoShortest_1 16 rfl rfl)
theorem dX0_whoShortest_40 : decode cX0_whoShortest 40 = .ok (.istore 5, 2) := dk_54 5 (dk_at dksX0_whoShortest_1 17 rfl rfl)
theorem dX0_whoShortest_42 : decode cX0_whoShortest 42 = .ok (.iload 5, 2) := dk_21 5 (dk_at dksX0_whoShortest_1 19 rfl rfl)
theorem dX0_whoShortest_44 : decode cX0_whoShortest 44 = .ok (.iconst (-1), 1) := dk_2 (dk_at dksX0_whoShortest_1 21 rfl rfl)
theorem dX0_whoShortest_45 : decode cX0_whoShortest 45 = .ok (.if_icmp .eq 13, 3) := dk_159 0 13 (dk_at dksX0_whoShortest_2 0 rfl rfl)
theorem dX0_whoShortest_48 : decode cX0_whoShortest 48 = .ok (.iload 5, 2) := dk_21 5 (dk_at dksX0_whoShortest_2 3 rfl rfl)
theorem dX0_whoShortest_50 : decode cX0_whoShortest 50 = .ok (.iload_n 3, 1) := dk_29 (dk_at dksX0_whoShortest_2 5 rfl rfl)
theorem dX0_whoShortest_51 : decode cX0_whoShortest 51 = .ok (.if_icmp .ge 7, 3) := dk_162 0 7 (dk_at dksX0_whoShortest_2 6 rfl rfl)
theorem dX0_whoShortest_54 : decode cX0_whoShortest 54 = .ok (.iconst 1, 1) := dk_4 (dk_at dksX0_whoShortest_2 9 rfl rfl)
theorem dX0_whoShortest_55 : decode cX0_whoShortest 55 = .ok (.goto 4, 3) := dk_167 0 4 (dk_at dksX0_whoShortest_2 10 rfl rfl)
theorem dX0_whoShortest_58 : decode cX0_whoShortest 58 = .ok (.iconst 0, 1) := dk_3 (dk_at dksX0_whoShortest_2 13 rfl rfl)
theorem dX0_whoShortest_59 : decode cX0_whoShortest 59 = .ok (.istore 6, 2) := dk_54 6 (dk_at dksX0_whoShortest_2 14 rfl rfl)
theorem dX0_whoShortest_61 : decode cX0_whoShortest 61 = .ok (.iload 6, 2) := dk_21 6 (dk_at dksX0_whoShortest_2 16 rfl rfl)
theorem dX0_whoShortest_63 : decode cX0_whoShortest 63 = .ok (.ifCond .eq 8, 3) := dk_153 0 8 (dk_at dksX0_whoShortest_2 18 rfl rfl)
theorem dX0_whoShortest_66 : decode cX0_whoShortest 66 = .ok (.iload 4, 2) := dk_21 4 (dk_at dksX0_whoShortest_2 21 rfl rfl)
theorem dX0_whoShortest_68 : decode cX0_whoShortest 68 = .ok (.goto 4, 3) := dk_167 0 4 (dk_at dksX0_whoShortest_3 0 rfl rfl)
theorem dX0_whoShortest_71 : decode cX0_whoShortest 71 = .ok (.iload_n 2, 1) := dk_28 (dk_at dksX0_whoShortest_3 3 rfl rfl)
theorem dX0_whoShortest_72 : decode cX0_whoShortest 72 = .ok (.istore_n 2, 1) := dk_61 (dk_at dksX0_whoShortest_3 4 rfl rfl)
theorem dX0_whoShortest_73 : decode cX0_whoShortest 73 = .ok (.iload 6, 2) := dk_21 6 (dk_at dksX0_whoShortest_3 5 rfl rfl)
theorem dX0_whoShortest_75 : decode cX0_whoShortest 75 = .ok (.ifCond .eq 8, 3) := dk_153 0 8 (dk_at dksX0_whoShortest_3 7 rfl rfl)
theorem dX0_whoShortest_78 : decode cX0_whoShortest 78 = .ok (.iload 5, 2) := dk_21 5 (dk_at dksX0_whoShortest_3 10 rfl rfl)
theorem dX0_whoShortest_80 : decode cX0_whoShortest 80 = .ok (.goto 4, 3) := dk_167 0 4 (dk_at dksX0_whoShortest_3 12 rfl rfl)
theorem dX0_whoShortest_83 : decode cX0_whoShortest 83 = .ok (.iload_n 3, 1) := dk_29 (dk_at dksX0_whoShortest_3 15 rfl rfl)
theorem dX0_whoShortest_84 : decode cX0_whoShortest 84 = .ok (.istore_n 3, 1) := dk_62 (dk_at dksX0_whoShortest_3 16 rfl rfl)
theorem dX0_whoShortest_85 : decode cX0_whoShortest 85 = .ok (.iinc 4 1, 3) := dk_132 4 1 (dk_at dksX0_whoShortest_3 17 rfl rfl)
theorem dX0_whoShortest_88 : decode cX0_whoShortest 88 = .ok (.goto (-80), 3) := dk_167 255 176 (dk_at dksX0_whoShortest_3 20 rfl rfl)
theorem dX0_whoShortest_91 : decode cX0_whoShortest 91 = .ok (.iload_n 2, 1) := dk_28 (dk_at dksX0_whoShortest_3 23 rfl rfl)
theorem dX0_whoShortest_92 : decode cX0_whoShortest 92 = .ok (.ireturn, 1) := dk_172 (dk_at dksX0_whoShortest_4 0 rfl rfl)
abbrev cX0_joined : ByteArray := prog_1_method_69_code
def yX0_joined : MethodName := ⟨RX0, "joined", "(II)I"⟩
def dkwX0_joined_2 : List UInt8 := [172]
abbrev dktX0_joined_2 : List UInt8 := dkwX0_joined_2 ++ []
def dkwX0_joined_1 : List UInt8 := [54, 4, 21, 4, 2, 160, 0, 11, 42, 6, 182, 0, 142, 167, 0, 11, 42, 27, 28, 21, 4, 182, 1, 74]
abbrev dktX0_joined_1 : List UInt8 := dkwX0_joined_1 ++ dktX0_joined_2
def dkwX0_joined_0 : List UInt8 := [42, 27, 28, 182, 1, 53, 62, 29, 2, 159, 0, 9, 42, 29, 182, 0, 142, 172, 42, 27, 28, 182, 1, 56]
abbrev dktX0_joined_0 : List UInt8 := dkwX0_joined_0 ++ dktX0_joined_1
theorem dksX0_joined_0 : cX0_joined.data.toList.drop 0 = dktX0_joined_0 := by decide +kernel
theorem dksX0_joined_1 : cX0_joined.data.toList.drop 24 = dktX0_joined_1 := dk_seg dksX0_joined_0 24 rfl rfl
theorem dksX0_joined_2 : cX0_joined.data.toList.drop 48 = dktX0_joined_2 := dk_seg dksX0_joined_1 24 rfl rfl
theorem dX0_joined_0 : decode cX0_joined 0 = .ok (.aload_n 0, 1) := dk_42 (dk_at dksX0_joined_0 0 rfl rfl)
theorem dX0_joined_1 : decode cX0_joined 1 = .ok (.iload_n 1, 1) := dk_27 (dk_at dksX0_joined_0 1 rfl rfl)
theorem dX0_joined_2 : decode cX0_joined 2 = .ok (.iload_n 2, 1) := dk_28 (dk_at dksX0_joined_0 2 rfl rfl)
theorem dX0_joined_3 : decode cX0_joined 3 = .ok (.invokevirtual 309, 3) := dk_182 1 53 (dk_at dksX0_joined_0 3 rfl rfl)
theorem dX0_joined_6 : decode cX0_joined 6 = .ok (.istore_n 3, 1) := dk_62 (dk_at dksX0_joined_0 6 rfl rfl)
theorem dX0_joined_7 : decode cX0_joined 7 = .ok (.iload_n 3, 1) := dk_29 (dk_at dksX0_joined_0 7 rfl rfl)
theorem dX0_joined_8 : decode cX0_joined 8 = .ok (.iconst (-1), 1) := dk_2 (dk_at dksX0_joined_0 8 rfl rfl)
theorem dX0_joined_9 : decode cX0_joined 9 = .ok (.if_icmp .eq 9, 3) := dk_159 0 9 (dk_at dksX0_joined_0 9 rfl rfl)
theorem dX0_joined_12 : decode cX0_joined 12 = .ok (.aload_n 0, 1) := dk_42 (dk_at dksX0_joined_0 12 rfl rfl)
theorem dX0_joined_13 : decode cX0_joined 13 = .ok (.iload_n 3, 1) := dk_29 (dk_at dksX0_joined_0 13 rfl rfl)
theorem dX0_joined_14 : decode cX0_joined 14 = .ok (.invokevirtual 142, 3) := dk_182 0 142 (dk_at dksX0_joined_0 14 rfl rfl)
theorem dX0_joined_17 : decode cX0_joined 17 = .ok (.ireturn, 1) := dk_172 (dk_at dksX0_joined_0 17 rfl rfl)
theorem dX0_joined_18 : decode cX0_joined 18 = .ok (.aload_n 0, 1) := dk_42 (dk_at dksX0_joined_0 18 rfl rfl)
theorem dX0_joined_19 : decode cX0_joined 19 = .ok (.iload_n 1, 1) := dk_27 (dk_at dksX0_joined_0 19 rfl rfl)
theorem dX0_joined_20 : decode cX0_joined 20 = .ok (.iload_n 2, 1) := dk_28 (dk_at dksX0_joined_0 20 rfl rfl)
theorem dX0_joined_21 : decode cX0_joined 21 = .ok (.invokevirtual 312, 3) := dk_182 1 56 (dk_at dksX0_joined_0 21 rfl rfl)
theorem dX0_joined_24 : decode cX0_joined 24 = .ok (.istore 4, 2) := dk_54 4 (dk_at dksX0_joined_1 0 rfl rfl)
theorem dX0_joined_26 : decode cX0_joined 26 = .ok (.iload 4, 2) := dk_21 4 (dk_at dksX0_joined_1 2 rfl rfl)
theorem dX0_joined_28 : decode cX0_joined 28 = .ok (.iconst (-1), 1) := dk_2 (dk_at dksX0_joined_1 4 rfl rfl)
theorem dX0_joined_29 : decode cX0_joined 29 = .ok (.if_icmp .ne 11, 3) := dk_160 0 11 (dk_at dksX0_joined_1 5 rfl rfl)
theorem dX0_joined_32 : decode cX0_joined 32 = .ok (.aload_n 0, 1) := dk_42 (dk_at dksX0_joined_1 8 rfl rfl)
theorem dX0_joined_33 : decode cX0_joined 33 = .ok (.iconst 3, 1) := dk_6 (dk_at dksX0_joined_1 9 rfl rfl)
theorem dX0_joined_34 : decode cX0_joined 34 = .ok (.invokevirtual 142, 3) := dk_182 0 142 (dk_at dksX0_joined_1 10 rfl rfl)
theorem dX0_joined_37 : decode cX0_joined 37 = .ok (.goto 11, 3) := dk_167 0 11 (dk_at dksX0_joined_1 13 rfl rfl)
theorem dX0_joined_40 : decode cX0_joined 40 = .ok (.aload_n 0, 1) := dk_42 (dk_at dksX0_joined_1 16 rfl rfl)
theorem dX0_joined_41 : decode cX0_joined 41 = .ok (.iload_n 1, 1) := dk_27 (dk_at dksX0_joined_1 17 rfl rfl)
theorem dX0_joined_42 : decode cX0_joined 42 = .ok (.iload_n 2, 1) := dk_28 (dk_at dksX0_joined_1 18 rfl rfl)
theorem dX0_joined_43 : decode cX0_joined 43 = .ok (.iload 4, 2) := dk_21 4 (dk_at dksX0_joined_1 19 rfl rfl)
theorem dX0_joined_45 : decode cX0_joined 45 = .ok (.invokevirtual 330, 3) := dk_182 1 74 (dk_at dksX0_joined_1 21 rfl rfl)
theorem dX0_joined_48 : decode cX0_joined 48 = .ok (.ireturn, 1) := dk_172 (dk_at dksX0_joined_2 0 rfl rfl)
abbrev cX0_spared : ByteArray := prog_1_method_68_code
def yX0_spared : MethodName := ⟨RX0, "spared", "(III)I"⟩
def dkwX0_spared_3 : List UInt8 := [54, 4, 132, 5, 1, 167, 255, 188, 21, 4, 29, 100, 172]
abbrev dktX0_spared_3 : List UInt8 := dkwX0_spared_3 ++ []
def dkwX0_spared_2 : List UInt8 := [180, 0, 214, 5, 50, 21, 5, 46, 50, 42, 180, 0, 61, 180, 0, 113, 4, 50, 27, 46, 46, 96, 96]
abbrev dktX0_spared_2 : List UInt8 := dkwX0_spared_2 ++ dktX0_spared_3
def dkwX0_spared_1 : List UInt8 := [153, 0, 47, 21, 4, 42, 27, 4, 21, 5, 120, 182, 1, 56, 42, 180, 0, 92, 42, 180, 0, 61]
abbrev dktX0_spared_1 : List UInt8 := dkwX0_spared_1 ++ dktX0_spared_2
def dkwX0_spared_0 : List UInt8 := [3, 54, 4, 3, 54, 5, 21, 5, 42, 180, 0, 61, 180, 0, 127, 162, 0, 62, 28, 21, 5, 184, 1, 2]
abbrev dktX0_spared_0 : List UInt8 := dkwX0_spared_0 ++ dktX0_spared_1
theorem dksX0_spared_0 : cX0_spared.data.toList.drop 0 = dktX0_spared_0 := by decide +kernel
theorem dksX0_spared_1 : cX0_spared.data.toList.drop 24 = dktX0_spared_1 := dk_seg dksX0_spared_0 24 rfl rfl
theorem dksX0_spared_2 : cX0_spared.data.toList.drop 46 = dktX0_spared_2 := dk_seg dksX0_spared_1 22 rfl rfl
theorem dksX0_spared_3 : cX0_spared.data.toList.drop 69 = dktX0_spared_3 := dk_seg dksX0_spared_2 23 rfl rfl
theorem dX0_spared_0 : decode cX0_spared 0 = .ok (.iconst 0, 1) := dk_3 (dk_at dksX0_spared_0 0 rfl rfl)
theorem dX0_spared_1 : decode cX0_spared 1 = .ok (.istore 4, 2) := dk_54 4 (dk_at dksX0_spared_0 1 rfl rfl)
theorem dX0_spared_3 : decode cX0_spared 3 = .ok (.iconst 0, 1) := dk_3 (dk_at dksX0_spared_0 3 rfl rfl)
theorem dX0_spared_4 : decode cX0_spared 4 = .ok (.istore 5, 2) := dk_54 5 (dk_at dksX0_spared_0 4 rfl rfl)
theorem dX0_spared_6 : decode cX0_spared 6 = .ok (.iload 5, 2) := dk_21 5 (dk_at dksX0_spared_0 6 rfl rfl)
theorem dX0_spared_8 : decode cX0_spared 8 = .ok (.aload_n 0, 1) := dk_42 (dk_at dksX0_spared_0 8 rfl rfl)
theorem dX0_spared_9 : decode cX0_spared 9 = .ok (.getfield 61, 3) := dk_180 0 61 (dk_at dksX0_spared_0 9 rfl rfl)
theorem dX0_spared_12 : decode cX0_spared 12 = .ok (.getfield 127, 3) := dk_180 0 127 (dk_at dksX0_spared_0 12 rfl rfl)
theorem dX0_spared_15 : decode cX0_spared 15 = .ok (.if_icmp .ge 62, 3) := dk_162 0 62 (dk_at dksX0_spared_0 15 rfl rfl)
theorem dX0_spared_18 : decode cX0_spared 18 = .ok (.iload_n 2, 1) := dk_28 (dk_at dksX0_spared_0 18 rfl rfl)
theorem dX0_spared_19 : decode cX0_spared 19 = .ok (.iload 5, 2) := dk_21 5 (dk_at dksX0_spared_0 19 rfl rfl)
theorem dX0_spared_21 : decode cX0_spared 21 = .ok (.invokestatic 258, 3) := dk_184 1 2 (dk_at dksX0_spared_0 21 rfl rfl)
theorem dX0_spared_24 : decode cX0_spared 24 = .ok (.ifCond .eq 47, 3) := dk_153 0 47 (dk_at dksX0_spared_1 0 rfl rfl)
theorem dX0_spared_27 : decode cX0_spared 27 = .ok (.iload 4, 2) := dk_21 4 (dk_at dksX0_spared_1 3 rfl rfl)
theorem dX0_spared_29 : decode cX0_spared 29 = .ok (.aload_n 0, 1) := dk_42 (dk_at dksX0_spared_1 5 rfl rfl)
theorem dX0_spared_30 : decode cX0_spared 30 = .ok (.iload_n 1, 1) := dk_27 (dk_at dksX0_spared_1 6 rfl rfl)
theorem dX0_spared_31 : decode cX0_spared 31 = .ok (.iconst 1, 1) := dk_4 (dk_at dksX0_spared_1 7 rfl rfl)
theorem dX0_spared_32 : decode cX0_spared 32 = .ok (.iload 5, 2) := dk_21 5 (dk_at dksX0_spared_1 8 rfl rfl)
theorem dX0_spared_34 : decode cX0_spared 34 = .ok (.ishl, 1) := dk_120 (dk_at dksX0_spared_1 10 rfl rfl)
theorem dX0_spared_35 : decode cX0_spared 35 = .ok (.invokevirtual 312, 3) := dk_182 1 56 (dk_at dksX0_spared_1 11 rfl rfl)
theorem dX0_spared_38 : decode cX0_spared 38 = .ok (.aload_n 0, 1) := dk_42 (dk_at dksX0_spared_1 14 rfl rfl)
theorem dX0_spared_39 : decode cX0_spared 39 = .ok (.getfield 92, 3) := dk_180 0 92 (dk_at dksX0_spared_1 15 rfl rfl)
theorem dX0_spared_42 : decode cX0_spared 42 = .ok (.aload_n 0, 1) := dk_42 (dk_at dksX0_spared_1 18 rfl rfl)
theorem dX0_spared_43 : decode cX0_spared 43 = .ok (.getfield 61, 3) := dk_180 0 61 (dk_at dksX0_spared_1 19 rfl rfl)
theorem dX0_spared_46 : decode cX0_spared 46 = .ok (.getfield 214, 3) := dk_180 0 214 (dk_at dksX0_spared_2 0 rfl rfl)
theorem dX0_spared_49 : decode cX0_spared 49 = .ok (.iconst 2, 1) := dk_5 (dk_at dksX0_spared_2 3 rfl rfl)
theorem dX0_spared_50 : decode cX0_spared 50 = .ok (.aaload, 1) := dk_50 (dk_at dksX0_spared_2 4 rfl rfl)
theorem dX0_spared_51 : decode cX0_spared 51 = .ok (.iload 5, 2) := dk_21 5 (dk_at dksX0_spared_2 5 rfl rfl)
theorem dX0_spared_53 : decode cX0_spared 53 = .ok (.iaload, 1) := dk_46 (dk_at dksX0_spared_2 7 rfl rfl)
theorem dX0_spared_54 : decode cX0_spared 54 = .ok (.aaload, 1) := dk_50 (dk_at dksX0_spared_2 8 rfl rfl)
theorem dX0_spared_55 : decode cX0_spared 55 = .ok (.aload_n 0, 1) := dk_42 (dk_at dksX0_spared_2 9 rfl rfl)
theorem dX0_spared_56 : decode cX0_spared 56 = .ok (.getfield 61, 3) := dk_180 0 61 (dk_at dksX0_spared_2 10 rfl rfl)
theorem dX0_spared_59 : decode cX0_spared 59 = .ok (.getfield 113, 3) := dk_180 0 113 (dk_at dksX0_spared_2 13 rfl rfl)
theorem dX0_spared_62 : decode cX0_spared 62 = .ok (.iconst 1, 1) := dk_4 (dk_at dksX0_spared_2 16 rfl rfl)
theorem dX0_spared_63 : decode cX0_spared 63 = .ok (.aaload, 1) := dk_50 (dk_at dksX0_spared_2 17 rfl rfl)
theorem dX0_spared_64 : decode cX0_spared 64 = .ok (.iload_n 1, 1) := dk_27 (dk_at dksX0_spared_2 18 rfl rfl)
theorem dX0_spared_65 : decode cX0_spared 65 = .ok (.iaload, 1) := dk_46 (dk_at dksX0_spared_2 19 rfl rfl)
theorem dX0_spared_66 : decode cX0_spared 66 = .ok (.iaload, 1) := dk_46 (dk_at dksX0_spared_2 20 rfl rfl)
theorem dX0_spared_67 : decode cX0_spared 67 = .ok (.iadd, 1) := dk_96 (dk_at dksX0_spared_2 21 rfl rfl)
theorem dX0_spared_68 : decode cX0_spared 68 = .ok (.iadd, 1) := dk_96 (dk_at dksX0_spared_2 22 rfl rfl)
theorem dX0_spared_69 : decode cX0_spared 69 = .ok (.istore 4, 2) := dk_54 4 (dk_at dksX0_spared_3 0 rfl rfl)
theorem dX0_spared_71 : decode cX0_spared 71 = .ok (.iinc 5 1, 3) := dk_132 5 1 (dk_at dksX0_spared_3 2 rfl rfl)
theorem dX0_spared_74 : decode cX0_spared 74 = .ok (.goto (-68), 3) := dk_167 255 188 (dk_at dksX0_spared_3 5 rfl rfl)
theorem dX0_spared_77 : decode cX0_spared 77 = .ok (.iload 4, 2) := dk_21 4 (dk_at dksX0_spared_3 8 rfl rfl)
theorem dX0_spared_79 : decode cX0_spared 79 = .ok (.iload_n 3, 1) := dk_29 (dk_at dksX0_spared_3 10 rfl rfl)
theorem dX0_spared_80 : decode cX0_spared 80 = .ok (.isub, 1) := dk_100 (dk_at dksX0_spared_3 11 rfl rfl)
theorem dX0_spared_81 : decode cX0_spared 81 = .ok (.ireturn, 1) := dk_172 (dk_at dksX0_spared_3 12 rfl rfl)
abbrev cX0_shared : ByteArray := prog_1_method_72_code
def yX0_shared : MethodName := ⟨RX0, "shared", "(III)I"⟩
def dkwX0_shared_1 : List UInt8 := [182, 0, 223, 167, 0, 9, 42, 21, 4, 182, 0, 142, 172]
abbrev dktX0_shared_1 : List UInt8 := dkwX0_shared_1 ++ []
def dkwX0_shared_0 : List UInt8 := [42, 27, 28, 29, 182, 1, 80, 54, 4, 21, 4, 2, 160, 0, 17, 42, 42, 27, 28, 29, 182, 1, 83]
abbrev dktX0_shared_0 : List UInt8 := dkwX0_shared_0 ++ dktX0_shared_1
theorem dksX0_shared_0 : cX0_shared.data.toList.drop 0 = dktX0_shared_0 := by decide +kernel
theorem dksX0_shared_1 : cX0_shared.data.toList.drop 23 = dktX0_shared_1 := dk_seg dksX0_shared_0 23 rfl rfl
theorem dX0_shared_0 : decode cX0_shared 0 = .ok (.aload_n 0, 1) := dk_42 (dk_at dksX0_shared_0 0 rfl rfl)
theorem dX0_shared_1 : decode cX0_shared 1 = .ok (.iload_n 1, 1) := dk_27 (dk_at dksX0_shared_0 1 rfl rfl)
theorem dX0_shared_2 : decode cX0_shared 2 = .ok (.iload_n 2, 1) := dk_28 (dk_at dksX0_shared_0 2 rfl rfl)
theorem dX0_shared_3 : decode cX0_shared 3 = .ok (.iload_n 3, 1) := dk_29 (dk_at dksX0_shared_0 3 rfl rfl)
theorem dX0_shared_4 : decode cX0_shared 4 = .ok (.invokevirtual 336, 3) := dk_182 1 80 (dk_at dksX0_shared_0 4 rfl rfl)
theorem dX0_shared_7 : decode cX0_shared 7 = .ok (.istore 4, 2) := dk_54 4 (dk_at dksX0_shared_0 7 rfl rfl)
theorem dX0_shared_9 : decode cX0_shared 9 = .ok (.iload 4, 2) := dk_21 4 (dk_at dksX0_shared_0 9 rfl rfl)
theorem dX0_shared_11 : decode cX0_shared 11 = .ok (.iconst (-1), 1) := dk_2 (dk_at dksX0_shared_0 11 rfl rfl)
theorem dX0_shared_12 : decode cX0_shared 12 = .ok (.if_icmp .ne 17, 3) := dk_160 0 17 (dk_at dksX0_shared_0 12 rfl rfl)
theorem dX0_shared_15 : decode cX0_shared 15 = .ok (.aload_n 0, 1) := dk_42 (dk_at dksX0_shared_0 15 rfl rfl)
theorem dX0_shared_16 : decode cX0_shared 16 = .ok (.aload_n 0, 1) := dk_42 (dk_at dksX0_shared_0 16 rfl rfl)
theorem dX0_shared_17 : decode cX0_shared 17 = .ok (.iload_n 1, 1) := dk_27 (dk_at dksX0_shared_0 17 rfl rfl)
theorem dX0_shared_18 : decode cX0_shared 18 = .ok (.iload_n 2, 1) := dk_28 (dk_at dksX0_shared_0 18 rfl rfl)
theorem dX0_shared_19 : decode cX0_shared 19 = .ok (.iload_n 3, 1) := dk_29 (dk_at dksX0_shared_0 19 rfl rfl)
theorem dX0_shared_20 : decode cX0_shared 20 = .ok (.invokevirtual 339, 3) := dk_182 1 83 (dk_at dksX0_shared_0 20 rfl rfl)
theorem dX0_shared_23 : decode cX0_shared 23 = .ok (.invokevirtual 223, 3) := dk_182 0 223 (dk_at dksX0_shared_1 0 rfl rfl)
theorem dX0_shared_26 : decode cX0_shared 26 = .ok (.goto 9, 3) := dk_167 0 9 (dk_at dksX0_shared_1 3 rfl rfl)
theorem dX0_shared_29 : decode cX0_shared 29 = .ok (.aload_n 0, 1) := dk_42 (dk_at dksX0_shared_1 6 rfl rfl)
theorem dX0_shared_30 : decode cX0_shared 30 = .ok (.iload 4, 2) := dk_21 4 (dk_at dksX0_shared_1 7 rfl rfl)
theorem dX0_shared_32 : decode cX0_shared 32 = .ok (.invokevirtual 142, 3) := dk_182 0 142 (dk_at dksX0_shared_1 9 rfl rfl)
theorem dX0_shared_35 : decode cX0_shared 35 = .ok (.ireturn, 1) := dk_172 (dk_at dksX0_shared_1 12 rfl rfl)
abbrev cX0_whyNotBoth : ByteArray := prog_1_method_71_code
def yX0_whyNotBoth : MethodName := ⟨RX0, "whyNotBoth", "(III)I"⟩
def dkwX0_whyNotBoth_2 : List UInt8 := [42, 28, 182, 1, 50, 153, 0, 7, 2, 167, 0, 4, 7, 172]
abbrev dktX0_whyNotBoth_2 : List UInt8 := dkwX0_whyNotBoth_2 ++ []
def dkwX0_whyNotBoth_1 : List UInt8 := [182, 1, 44, 154, 0, 5, 3, 172, 42, 29, 182, 1, 47, 153, 0, 23, 42, 27, 182, 1, 50, 153, 0, 15]
abbrev dktX0_whyNotBoth_1 : List UInt8 := dkwX0_whyNotBoth_1 ++ dktX0_whyNotBoth_2
def dkwX0_whyNotBoth_0 : List UInt8 := [42, 27, 182, 0, 161, 153, 0, 24, 42, 28, 182, 0, 161, 153, 0, 16, 27, 28, 159, 0, 11, 42, 29]
abbrev dktX0_whyNotBoth_0 : List UInt8 := dkwX0_whyNotBoth_0 ++ dktX0_whyNotBoth_1
theorem dksX0_whyNotBoth_0 : cX0_whyNotBoth.data.toList.drop 0 = dktX0_whyNotBoth_0 := by decide +kernel
theorem dksX0_whyNotBoth_1 : cX0_whyNotBoth.data.toList.drop 23 = dktX0_whyNotBoth_1 := dk_seg dksX0_whyNotBoth_0 23 rfl rfl
theorem dksX0_whyNotBoth_2 : cX0_whyNotBoth.data.toList.drop 47 = dktX0_whyNotBoth_2 := dk_seg dksX0_whyNotBoth_1 24 rfl rfl
theorem dX0_whyNotBoth_0 : decode cX0_whyNotBoth 0 = .ok (.aload_n 0, 1) := dk_42 (dk_at dksX0_whyNotBoth_0 0 rfl rfl)
theorem dX0_whyNotBoth_1 : decode cX0_whyNotBoth 1 = .ok (.iload_n 1, 1) := dk_27 (dk_at dksX0_whyNotBoth_0 1 rfl rfl)
theorem dX0_whyNotBoth_2 : decode cX0_whyNotBoth 2 = .ok (.invokevirtual 161, 3) := dk_182 0 161 (dk_at dksX0_whyNotBoth_0 2 rfl rfl)
theorem dX0_whyNotBoth_5 : decode cX0_whyNotBoth 5 = .ok (.ifCond .eq 24, 3) := dk_153 0 24 (dk_at dksX0_whyNotBoth_0 5 rfl rfl)
theorem dX0_whyNotBoth_8 : decode cX0_whyNotBoth 8 = .ok (.aload_n 0, 1) := dk_42 (dk_at dksX0_whyNotBoth_0 8 rfl rfl)
theorem dX0_whyNotBoth_9 : decode cX0_whyNotBoth 9 = .ok (.iload_n 2, 1) := dk_28 (dk_at dksX0_whyNotBoth_0 9 rfl rfl)
theorem dX0_whyNotBoth_10 : decode cX0_whyNotBoth 10 = .ok (.invokevirtual 161, 3) := dk_182 0 161 (dk_at dksX0_whyNotBoth_0 10 rfl rfl)
theorem dX0_whyNotBoth_13 : decode cX0_whyNotBoth 13 = .ok (.ifCond .eq 16, 3) := dk_153 0 16 (dk_at dksX0_whyNotBoth_0 13 rfl rfl)
theorem dX0_whyNotBoth_16 : decode cX0_whyNotBoth 16 = .ok (.iload_n 1, 1) := dk_27 (dk_at dksX0_whyNotBoth_0 16 rfl rfl)
theorem dX0_whyNotBoth_17 : decode cX0_whyNotBoth 17 = .ok (.iload_n 2, 1) := dk_28 (dk_at dksX0_whyNotBoth_0 17 rfl rfl)
theorem dX0_whyNotBoth_18 : decode cX0_whyNotBoth 18 = .ok (.if_icmp .eq 11, 3) := dk_159 0 11 (dk_at dksX0_whyNotBoth_0 18 rfl rfl)
theorem dX0_whyNotBoth_21 : decode cX0_whyNotBoth 21 = .ok (.aload_n 0, 1) := dk_42 (dk_at dksX0_whyNotBoth_0 21 rfl rfl)
theorem dX0_whyNotBoth_22 : decode cX0_whyNotBoth 22 = .ok (.iload_n 3, 1) := dk_29 (dk_at dksX0_whyNotBoth_0 22 rfl rfl)
theorem dX0_whyNotBoth_23 : decode cX0_whyNotBoth 23 = .ok (.invokevirtual 300, 3) := dk_182 1 44 (dk_at dksX0_whyNotBoth_1 0 rfl rfl)
theorem dX0_whyNotBoth_26 : decode cX0_whyNotBoth 26 = .ok (.ifCond .ne 5, 3) := dk_154 0 5 (dk_at dksX0_whyNotBoth_1 3 rfl rfl)
theorem dX0_whyNotBoth_29 : decode cX0_whyNotBoth 29 = .ok (.iconst 0, 1) := dk_3 (dk_at dksX0_whyNotBoth_1 6 rfl rfl)
theorem dX0_whyNotBoth_30 : decode cX0_whyNotBoth 30 = .ok (.ireturn, 1) := dk_172 (dk_at dksX0_whyNotBoth_1 7 rfl rfl)
theorem dX0_whyNotBoth_31 : decode cX0_whyNotBoth 31 = .ok (.aload_n 0, 1) := dk_42 (dk_at dksX0_whyNotBoth_1 8 rfl rfl)
theorem dX0_whyNotBoth_32 : decode cX0_whyNotBoth 32 = .ok (.iload_n 3, 1) := dk_29 (dk_at dksX0_whyNotBoth_1 9 rfl rfl)
theorem dX0_whyNotBoth_33 : decode cX0_whyNotBoth 33 = .ok (.invokevirtual 303, 3) := dk_182 1 47 (dk_at dksX0_whyNotBoth_1 10 rfl rfl)
theorem dX0_whyNotBoth_36 : decode cX0_whyNotBoth 36 = .ok (.ifCond .eq 23, 3) := dk_153 0 23 (dk_at dksX0_whyNotBoth_1 13 rfl rfl)
theorem dX0_whyNotBoth_39 : decode cX0_whyNotBoth 39 = .ok (.aload_n 0, 1) := dk_42 (dk_at dksX0_whyNotBoth_1 16 rfl rfl)
theorem dX0_whyNotBoth_40 : decode cX0_whyNotBoth 40 = .ok (.iload_n 1, 1) := dk_27 (dk_at dksX0_whyNotBoth_1 17 rfl rfl)
theorem dX0_whyNotBoth_41 : decode cX0_whyNotBoth 41 = .ok (.invokevirtual 306, 3) := dk_182 1 50 (dk_at dksX0_whyNotBoth_1 18 rfl rfl)
theorem dX0_whyNotBoth_44 : decode cX0_whyNotBoth 44 = .ok (.ifCond .eq 15, 3) := dk_153 0 15 (dk_at dksX0_whyNotBoth_1 21 rfl rfl)
theorem dX0_whyNotBoth_47 : decode cX0_whyNotBoth 47 = .ok (.aload_n 0, 1) := dk_42 (dk_at dksX0_whyNotBoth_2 0 rfl rfl)
theorem dX0_whyNotBoth_48 : decode cX0_whyNotBoth 48 = .ok (.iload_n 2, 1) := dk_28 (dk_at dksX0_whyNotBoth_2 1 rfl rfl)
theorem dX0_whyNotBoth_49 : decode cX0_whyNotBoth 49 = .ok (.invokevirtual 306, 3) := dk_182 1 50 (dk_at dksX0_whyNotBoth_2 2 rfl rfl)
theorem dX0_whyNotBoth_52 : decode cX0_whyNotBoth 52 = .ok (.ifCond .eq 7, 3) := dk_153 0 7 (dk_at dksX0_whyNotBoth_2 5 rfl rfl)
theorem dX0_whyNotBoth_55 : decode cX0_whyNotBoth 55 = .ok (.iconst (-1), 1) := dk_2 (dk_at dksX0_whyNotBoth_2 8 rfl rfl)
theorem dX0_whyNotBoth_56 : decode cX0_whyNotBoth 56 = .ok (.goto 4, 3) := dk_167 0 4 (dk_at dksX0_whyNotBoth_2 9 rfl rfl)
theorem dX0_whyNotBoth_59 : decode cX0_whyNotBoth 59 = .ok (.iconst 4, 1) := dk_7 (dk_at dksX0_whyNotBoth_2 12 rfl rfl)
theorem dX0_whyNotBoth_60 : decode cX0_whyNotBoth 60 = .ok (.ireturn, 1) := dk_172 (dk_at dksX0_whyNotBoth_2 13 rfl rfl)
abbrev cX0_sharedBy : ByteArray := prog_1_method_70_code
def yX0_sharedBy : MethodName := ⟨RX0, "sharedBy", "(III)I"⟩
def dkwX0_sharedBy_4 : List UInt8 := [181, 1, 77, 132, 5, 1, 167, 255, 167, 21, 4, 172]
abbrev dktX0_sharedBy_4 : List UInt8 := dkwX0_sharedBy_4 ++ []
def dkwX0_sharedBy_3 : List UInt8 := [2, 159, 0, 13, 21, 6, 21, 7, 96, 21, 4, 162, 0, 16, 21, 6, 21, 7, 96, 54, 4, 42, 21, 5]
abbrev dktX0_sharedBy_3 : List UInt8 := dkwX0_sharedBy_3 ++ dktX0_sharedBy_4
def dkwX0_sharedBy_2 : List UInt8 := [167, 0, 14, 42, 28, 29, 21, 5, 2, 130, 126, 182, 1, 56, 54, 7, 21, 7, 2, 159, 0, 32, 21, 4]
abbrev dktX0_sharedBy_2 : List UInt8 := dkwX0_sharedBy_2 ++ dktX0_sharedBy_3
def dkwX0_sharedBy_1 : List UInt8 := [154, 0, 13, 42, 27, 21, 5, 182, 1, 56, 167, 0, 4, 2, 54, 6, 21, 6, 2, 160, 0, 7, 2]
abbrev dktX0_sharedBy_1 : List UInt8 := dkwX0_sharedBy_1 ++ dktX0_sharedBy_2
def dkwX0_sharedBy_0 : List UInt8 := [2, 54, 4, 42, 2, 181, 1, 77, 3, 54, 5, 21, 5, 29, 163, 0, 89, 21, 5, 29, 2, 130, 126]
abbrev dktX0_sharedBy_0 : List UInt8 := dkwX0_sharedBy_0 ++ dktX0_sharedBy_1
theorem dksX0_sharedBy_0 : cX0_sharedBy.data.toList.drop 0 = dktX0_sharedBy_0 := by decide +kernel
theorem dksX0_sharedBy_1 : cX0_sharedBy.data.toList.drop 23 = dktX0_sharedBy_1 := dk_seg dksX0_sharedBy_0 23 rfl rfl
theorem dksX0_sharedBy_2 : cX0_sharedBy.data.toList.drop 46 = dktX0_sharedBy_2 := dk_seg dksX0_sharedBy_1 23 rfl rfl
theorem dksX0_sharedBy_3 : cX0_sharedBy.data.toList.drop 70 = dktX0_sharedBy_3 := dk_seg dksX0_sharedBy_2 24 rfl rfl
theorem dksX0_sharedBy_4 : cX0_sharedBy.data.toList.drop 94 = dktX0_sharedBy_4 := dk_seg dksX0_sharedBy_3 24 rfl rfl
theorem dX0_sharedBy_0 : decode cX0_sharedBy 0 = .ok (.iconst (-1), 1) := dk_2 (dk_at dksX0_sharedBy_0 0 rfl rfl)
theorem dX0_sharedBy_1 : decode cX0_sharedBy 1 = .ok (.istore 4, 2) := dk_54 4 (dk_at dksX0_sharedBy_0 1 rfl rfl)
theorem dX0_sharedBy_3 : decode cX0_sharedBy 3 = .ok (.aload_n 0, 1) := dk_42 (dk_at dksX0_sharedBy_0 3 rfl rfl)
theorem dX0_sharedBy_4 : decode cX0_sharedBy 4 = .ok (.iconst (-1), 1) := dk_2 (dk_at dksX0_sharedBy_0 4 rfl rfl)
theorem dX0_sharedBy_5 : decode cX0_sharedBy 5 = .ok (.putfield 333, 3) := dk_181 1 77 (dk_at dksX0_sharedBy_0 5 rfl rfl)
theorem dX0_sharedBy_8 : decode cX0_sharedBy 8 = .ok (.iconst 0, 1) := dk_3 (dk_at dksX0_sharedBy_0 8 rfl rfl)
theorem dX0_sharedBy_9 : decode cX0_sharedBy 9 = .ok (.istore 5, 2) := dk_54 5 (dk_at dksX0_sharedBy_0 9 rfl rfl)
theorem dX0_sharedBy_11 : decode cX0_sharedBy 11 = .ok (.iload 5, 2) := dk_21 5 (dk_at dksX0_sharedBy_0 11 rfl rfl)
theorem dX0_sharedBy_13 : decode cX0_sharedBy 13 = .ok (.iload_n 3, 1) := dk_29 (dk_at dksX0_sharedBy_0 13 rfl rfl)
theorem dX0_sharedBy_14 : decode cX0_sharedBy 14 = .ok (.if_icmp .gt 89, 3) := dk_163 0 89 (dk_at dksX0_sharedBy_0 14 rfl rfl)
theorem dX0_sharedBy_17 : decode cX0_sharedBy 17 = .ok (.iload 5, 2) := dk_21 5 (dk_at dksX0_sharedBy_0 17 rfl rfl)
theorem dX0_sharedBy_19 : decode cX0_sharedBy 19 = .ok (.iload_n 3, 1) := dk_29 (dk_at dksX0_sharedBy_0 19 rfl rfl)
theorem dX0_sharedBy_20 : decode cX0_sharedBy 20 = .ok (.iconst (-1), 1) := dk_2 (dk_at dksX0_sharedBy_0 20 rfl rfl)
theorem dX0_sharedBy_21 : decode cX0_sharedBy 21 = .ok (.ixor, 1) := dk_130 (dk_at dksX0_sharedBy_0 21 rfl rfl)
theorem dX0_sharedBy_22 : decode cX0_sharedBy 22 = .ok (.iand, 1) := dk_126 (dk_at dksX0_sharedBy_0 22 rfl rfl)
theorem dX0_sharedBy_23 : decode cX0_sharedBy 23 = .ok (.ifCond .ne 13, 3) := dk_154 0 13 (dk_at dksX0_sharedBy_1 0 rfl rfl)
theorem dX0_sharedBy_26 : decode cX0_sharedBy 26 = .ok (.aload_n 0, 1) := dk_42 (dk_at dksX0_sharedBy_1 3 rfl rfl)
theorem dX0_sharedBy_27 : decode cX0_sharedBy 27 = .ok (.iload_n 1, 1) := dk_27 (dk_at dksX0_sharedBy_1 4 rfl rfl)
theorem dX0_sharedBy_28 : decode cX0_sharedBy 28 = .ok (.iload 5, 2) := dk_21 5 (dk_at dksX0_sharedBy_1 5 rfl rfl)
theorem dX0_sharedBy_30 : decode cX0_sharedBy 30 = .ok (.invokevirtual 312, 3) := dk_182 1 56 (dk_at dksX0_sharedBy_1 7 rfl rfl)
theorem dX0_sharedBy_33 : decode cX0_sharedBy 33 = .ok (.goto 4, 3) := dk_167 0 4 (dk_at dksX0_sharedBy_1 10 rfl rfl)
theorem dX0_sharedBy_36 : decode cX0_sharedBy 36 = .ok (.iconst (-1), 1) := dk_2 (dk_at dksX0_sharedBy_1 13 rfl rfl)
theorem dX0_sharedBy_37 : decode cX0_sharedBy 37 = .ok (.istore 6, 2) := dk_54 6 (dk_at dksX0_sharedBy_1 14 rfl rfl)
theorem dX0_sharedBy_39 : decode cX0_sharedBy 39 = .ok (.iload 6, 2) := dk_21 6 (dk_at dksX0_sharedBy_1 16 rfl rfl)
theorem dX0_sharedBy_41 : decode cX0_sharedBy 41 = .ok (.iconst (-1), 1) := dk_2 (dk_at dksX0_sharedBy_1 18 rfl rfl)
theorem dX0_sharedBy_42 : decode cX0_sharedBy 42 = .ok (.if_icmp .ne 7, 3) := dk_160 0 7 (dk_at dksX0_sharedBy_1 19 rfl rfl)
theorem dX0_sharedBy_45 : decode cX0_sharedBy 45 = .ok (.iconst (-1), 1) := dk_2 (dk_at dksX0_sharedBy_1 22 rfl rfl)
theorem dX0_sharedBy_46 : decode cX0_sharedBy 46 = .ok (.goto 14, 3) := dk_167 0 14 (dk_at dksX0_sharedBy_2 0 rfl rfl)
theorem dX0_sharedBy_49 : decode cX0_sharedBy 49 = .ok (.aload_n 0, 1) := dk_42 (dk_at dksX0_sharedBy_2 3 rfl rfl)
theorem dX0_sharedBy_50 : decode cX0_sharedBy 50 = .ok (.iload_n 2, 1) := dk_28 (dk_at dksX0_sharedBy_2 4 rfl rfl)
theorem dX0_sharedBy_51 : decode cX0_sharedBy 51 = .ok (.iload_n 3, 1) := dk_29 (dk_at dksX0_sharedBy_2 5 rfl rfl)
theorem dX0_sharedBy_52 : decode cX0_sharedBy 52 = .ok (.iload 5, 2) := dk_21 5 (dk_at dksX0_sharedBy_2 6 rfl rfl)
theorem dX0_sharedBy_54 : decode cX0_sharedBy 54 = .ok (.iconst (-1), 1) := dk_2 (dk_at dksX0_sharedBy_2 8 rfl rfl)
theorem dX0_sharedBy_55 : decode cX0_sharedBy 55 = .ok (.ixor, 1) := dk_130 (dk_at dksX0_sharedBy_2 9 rfl rfl)
theorem dX0_sharedBy_56 : decode cX0_sharedBy 56 = .ok (.iand, 1) := dk_126 (dk_at dksX0_sharedBy_2 10 rfl rfl)
theorem dX0_sharedBy_57 : decode cX0_sharedBy 57 = .ok (.invokevirtual 312, 3) := dk_182 1 56 (dk_at dksX0_sharedBy_2 11 rfl rfl)
theorem dX0_sharedBy_60 : decode cX0_sharedBy 60 = .ok (.istore 7, 2) := dk_54 7 (dk_at dksX0_sharedBy_2 14 rfl rfl)
theorem dX0_sharedBy_62 : decode cX0_sharedBy 62 = .ok (.iload 7, 2) := dk_21 7 (dk_at dksX0_sharedBy_2 16 rfl rfl)
theorem dX0_sharedBy_64 : decode cX0_sharedBy 64 = .ok (.iconst (-1), 1) := dk_2 (dk_at dksX0_sharedBy_2 18 rfl rfl)
theorem dX0_sharedBy_65 : decode cX0_sharedBy 65 = .ok (.if_icmp .eq 32, 3) := dk_159 0 32 (dk_at dksX0_sharedBy_2 19 rfl rfl)
theorem dX0_sharedBy_68 : decode cX0_sharedBy 68 = .ok (.iload 4, 2) := dk_21 4 (dk_at dksX0_sharedBy_2 22 rfl rfl)
theorem dX0_sharedBy_70 : decode cX0_sharedBy 70 = .ok (.iconst (-1), 1) := dk_2 (dk_at dksX0_sharedBy_3 0 rfl rfl)
theorem dX0_sharedBy_71 : decode cX0_sharedBy 71 = .ok (.if_icmp .eq 13, 3) := dk_159 0 13 (dk_at dksX0_sharedBy_3 1 rfl rfl)
theorem dX0_sharedBy_74 : decode cX0_sharedBy 74 = .ok (.iload 6, 2) := dk_21 6 (dk_at dksX0_sharedBy_3 4 rfl rfl)
theorem dX0_sharedBy_76 : decode cX0_sharedBy 76 = .ok (.iload 7, 2) := dk_21 7 (dk_at dksX0_sharedBy_3 6 rfl rfl)
theorem dX0_sharedBy_78 : decode cX0_sharedBy 78 = .ok (.iadd, 1) := dk_96 (dk_at dksX0_sharedBy_3 8 rfl rfl)
theorem dX0_sharedBy_79 : decode cX0_sharedBy 79 = .ok (.iload 4, 2) := dk_21 4 (dk_at dksX0_sharedBy_3 9 rfl rfl)
theorem dX0_sharedBy_81 : decode cX0_sharedBy 81 = .ok (.if_icmp .ge 16, 3) := dk_162 0 16 (dk_at dksX0_sharedBy_3 11 rfl rfl)
theorem dX0_sharedBy_84 : decode cX0_sharedBy 84 = .ok (.iload 6, 2) := dk_21 6 (dk_at dksX0_sharedBy_3 14 rfl rfl)
theorem dX0_sharedBy_86 : decode cX0_sharedBy 86 = .ok (.iload 7, 2) := dk_21 7 (dk_at dksX0_sharedBy_3 16 rfl rfl)
theorem dX0_sharedBy_88 : decode cX0_sharedBy 88 = .ok (.iadd, 1) := dk_96 (dk_at dksX0_sharedBy_3 18 rfl rfl)
theorem dX0_sharedBy_89 : decode cX0_sharedBy 89 = .ok (.istore 4, 2) := dk_54 4 (dk_at dksX0_sharedBy_3 19 rfl rfl)
theorem dX0_sharedBy_91 : decode cX0_sharedBy 91 = .ok (.aload_n 0, 1) := dk_42 (dk_at dksX0_sharedBy_3 21 rfl rfl)
theorem dX0_sharedBy_92 : decode cX0_sharedBy 92 = .ok (.iload 5, 2) := dk_21 5 (dk_at dksX0_sharedBy_3 22 rfl rfl)
theorem dX0_sharedBy_94 : decode cX0_sharedBy 94 = .ok (.putfield 333, 3) := dk_181 1 77 (dk_at dksX0_sharedBy_4 0 rfl rfl)
theorem dX0_sharedBy_97 : decode cX0_sharedBy 97 = .ok (.iinc 5 1, 3) := dk_132 5 1 (dk_at dksX0_sharedBy_4 3 rfl rfl)
theorem dX0_sharedBy_100 : decode cX0_sharedBy 100 = .ok (.goto (-89), 3) := dk_167 255 167 (dk_at dksX0_sharedBy_4 6 rfl rfl)
theorem dX0_sharedBy_103 : decode cX0_sharedBy 103 = .ok (.iload 4, 2) := dk_21 4 (dk_at dksX0_sharedBy_4 9 rfl rfl)
theorem dX0_sharedBy_105 : decode cX0_sharedBy 105 = .ok (.ireturn, 1) := dk_172 (dk_at dksX0_sharedBy_4 11 rfl rfl)
abbrev cX0_part : ByteArray := prog_1_method_73_code
def yX0_part : MethodName := ⟨RX0, "part", "(III)I"⟩
def dkwX0_part_1 : List UInt8 := [28, 29, 182, 1, 83, 2, 160, 0, 11, 42, 6, 182, 0, 142, 167, 0, 7, 42, 180, 1, 77, 172]
abbrev dktX0_part_1 : List UInt8 := dkwX0_part_1 ++ []
def dkwX0_part_0 : List UInt8 := [42, 27, 28, 29, 182, 1, 80, 54, 4, 21, 4, 2, 159, 0, 10, 42, 21, 4, 182, 0, 142, 172, 42, 27]
abbrev dktX0_part_0 : List UInt8 := dkwX0_part_0 ++ dktX0_part_1
theorem dksX0_part_0 : cX0_part.data.toList.drop 0 = dktX0_part_0 := by decide +kernel
theorem dksX0_part_1 : cX0_part.data.toList.drop 24 = dktX0_part_1 := dk_seg dksX0_part_0 24 rfl rfl
theorem dX0_part_0 : decode cX0_part 0 = .ok (.aload_n 0, 1) := dk_42 (dk_at dksX0_part_0 0 rfl rfl)
theorem dX0_part_1 : decode cX0_part 1 = .ok (.iload_n 1, 1) := dk_27 (dk_at dksX0_part_0 1 rfl rfl)
theorem dX0_part_2 : decode cX0_part 2 = .ok (.iload_n 2, 1) := dk_28 (dk_at dksX0_part_0 2 rfl rfl)
theorem dX0_part_3 : decode cX0_part 3 = .ok (.iload_n 3, 1) := dk_29 (dk_at dksX0_part_0 3 rfl rfl)
theorem dX0_part_4 : decode cX0_part 4 = .ok (.invokevirtual 336, 3) := dk_182 1 80 (dk_at dksX0_part_0 4 rfl rfl)
theorem dX0_part_7 : decode cX0_part 7 = .ok (.istore 4, 2) := dk_54 4 (dk_at dksX0_part_0 7 rfl rfl)
theorem dX0_part_9 : decode cX0_part 9 = .ok (.iload 4, 2) := dk_21 4 (dk_at dksX0_part_0 9 rfl rfl)
theorem dX0_part_11 : decode cX0_part 11 = .ok (.iconst (-1), 1) := dk_2 (dk_at dksX0_part_0 11 rfl rfl)
theorem dX0_part_12 : decode cX0_part 12 = .ok (.if_icmp .eq 10, 3) := dk_159 0 10 (dk_at dksX0_part_0 12 rfl rfl)
theorem dX0_part_15 : decode cX0_part 15 = .ok (.aload_n 0, 1) := dk_42 (dk_at dksX0_part_0 15 rfl rfl)
theorem dX0_part_16 : decode cX0_part 16 = .ok (.iload 4, 2) := dk_21 4 (dk_at dksX0_part_0 16 rfl rfl)
theorem dX0_part_18 : decode cX0_part 18 = .ok (.invokevirtual 142, 3) := dk_182 0 142 (dk_at dksX0_part_0 18 rfl rfl)
theorem dX0_part_21 : decode cX0_part 21 = .ok (.ireturn, 1) := dk_172 (dk_at dksX0_part_0 21 rfl rfl)
theorem dX0_part_22 : decode cX0_part 22 = .ok (.aload_n 0, 1) := dk_42 (dk_at dksX0_part_0 22 rfl rfl)
theorem dX0_part_23 : decode cX0_part 23 = .ok (.iload_n 1, 1) := dk_27 (dk_at dksX0_part_0 23 rfl rfl)
theorem dX0_part_24 : decode cX0_part 24 = .ok (.iload_n 2, 1) := dk_28 (dk_at dksX0_part_1 0 rfl rfl)
theorem dX0_part_25 : decode cX0_part 25 = .ok (.iload_n 3, 1) := dk_29 (dk_at dksX0_part_1 1 rfl rfl)
theorem dX0_part_26 : decode cX0_part 26 = .ok (.invokevirtual 339, 3) := dk_182 1 83 (dk_at dksX0_part_1 2 rfl rfl)
theorem dX0_part_29 : decode cX0_part 29 = .ok (.iconst (-1), 1) := dk_2 (dk_at dksX0_part_1 5 rfl rfl)
theorem dX0_part_30 : decode cX0_part 30 = .ok (.if_icmp .ne 11, 3) := dk_160 0 11 (dk_at dksX0_part_1 6 rfl rfl)
theorem dX0_part_33 : decode cX0_part 33 = .ok (.aload_n 0, 1) := dk_42 (dk_at dksX0_part_1 9 rfl rfl)
theorem dX0_part_34 : decode cX0_part 34 = .ok (.iconst 3, 1) := dk_6 (dk_at dksX0_part_1 10 rfl rfl)
theorem dX0_part_35 : decode cX0_part 35 = .ok (.invokevirtual 142, 3) := dk_182 0 142 (dk_at dksX0_part_1 11 rfl rfl)
theorem dX0_part_38 : decode cX0_part 38 = .ok (.goto 7, 3) := dk_167 0 7 (dk_at dksX0_part_1 14 rfl rfl)
theorem dX0_part_41 : decode cX0_part 41 = .ok (.aload_n 0, 1) := dk_42 (dk_at dksX0_part_1 17 rfl rfl)
theorem dX0_part_42 : decode cX0_part 42 = .ok (.getfield 333, 3) := dk_180 1 77 (dk_at dksX0_part_1 18 rfl rfl)
theorem dX0_part_45 : decode cX0_part 45 = .ok (.ireturn, 1) := dk_172 (dk_at dksX0_part_1 21 rfl rfl)
abbrev cX0_strength : ByteArray := prog_1_method_75_code
def yX0_strength : MethodName := ⟨RX0, "strength", "(II)I"⟩
def dkwX0_strength_2 : List UInt8 := [21, 4, 16, 99, 163, 0, 8, 21, 4, 167, 0, 8, 42, 6, 182, 0, 142, 172]
abbrev dktX0_strength_2 : List UInt8 := dkwX0_strength_2 ++ []
def dkwX0_strength_1 : List UInt8 := [16, 99, 163, 0, 22, 42, 27, 5, 21, 4, 28, 182, 1, 86, 2, 160, 0, 9, 132, 4, 1, 167, 255, 233]
abbrev dktX0_strength_1 : List UInt8 := dkwX0_strength_1 ++ dktX0_strength_2
def dkwX0_strength_0 : List UInt8 := [42, 27, 28, 182, 1, 53, 62, 29, 2, 159, 0, 9, 42, 29, 182, 0, 142, 172, 4, 54, 4, 21, 4]
abbrev dktX0_strength_0 : List UInt8 := dkwX0_strength_0 ++ dktX0_strength_1
theorem dksX0_strength_0 : cX0_strength.data.toList.drop 0 = dktX0_strength_0 := by decide +kernel
theorem dksX0_strength_1 : cX0_strength.data.toList.drop 23 = dktX0_strength_1 := dk_seg dksX0_strength_0 23 rfl rfl
theorem dksX0_strength_2 : cX0_strength.data.toList.drop 47 = dktX0_strength_2 := dk_seg dksX0_strength_1 24 rfl rfl
theorem dX0_strength_0 : decode cX0_strength 0 = .ok (.aload_n 0, 1) := dk_42 (dk_at dksX0_strength_0 0 rfl rfl)
theorem dX0_strength_1 : decode cX0_strength 1 = .ok (.iload_n 1, 1) := dk_27 (dk_at dksX0_strength_0 1 rfl rfl)
theorem dX0_strength_2 : decode cX0_strength 2 = .ok (.iload_n 2, 1) := dk_28 (dk_at dksX0_strength_0 2 rfl rfl)
theorem dX0_strength_3 : decode cX0_strength 3 = .ok (.invokevirtual 309, 3) := dk_182 1 53 (dk_at dksX0_strength_0 3 rfl rfl)
theorem dX0_strength_6 : decode cX0_strength 6 = .ok (.istore_n 3, 1) := dk_62 (dk_at dksX0_strength_0 6 rfl rfl)
theorem dX0_strength_7 : decode cX0_strength 7 = .ok (.iload_n 3, 1) := dk_29 (dk_at dksX0_strength_0 7 rfl rfl)
theorem dX0_strength_8 : decode cX0_strength 8 = .ok (.iconst (-1), 1) := dk_2 (dk_at dksX0_strength_0 8 rfl rfl)
theorem dX0_strength_9 : decode cX0_strength 9 = .ok (.if_icmp .eq 9, 3) := dk_159 0 9 (dk_at dksX0_strength_0 9 rfl rfl)
theorem dX0_strength_12 : decode cX0_strength 12 = .ok (.aload_n 0, 1) := dk_42 (dk_at dksX0_strength_0 12 rfl rfl)
theorem dX0_strength_13 : decode cX0_strength 13 = .ok (.iload_n 3, 1) := dk_29 (dk_at dksX0_strength_0 13 rfl rfl)
theorem dX0_strength_14 : decode cX0_strength 14 = .ok (.invokevirtual 142, 3) := dk_182 0 142 (dk_at dksX0_strength_0 14 rfl rfl)
theorem dX0_strength_17 : decode cX0_strength 17 = .ok (.ireturn, 1) := dk_172 (dk_at dksX0_strength_0 17 rfl rfl)
theorem dX0_strength_18 : decode cX0_strength 18 = .ok (.iconst 1, 1) := dk_4 (dk_at dksX0_strength_0 18 rfl rfl)
theorem dX0_strength_19 : decode cX0_strength 19 = .ok (.istore 4, 2) := dk_54 4 (dk_at dksX0_strength_0 19 rfl rfl)
theorem dX0_strength_21 : decode cX0_strength 21 = .ok (.iload 4, 2) := dk_21 4 (dk_at dksX0_strength_0 21 rfl rfl)
theorem dX0_strength_23 : decode cX0_strength 23 = .ok (.bipush 99, 2) := dk_16 99 (dk_at dksX0_strength_1 0 rfl rfl)
theorem dX0_strength_25 : decode cX0_strength 25 = .ok (.if_icmp .gt 22, 3) := dk_163 0 22 (dk_at dksX0_strength_1 2 rfl rfl)
theorem dX0_strength_28 : decode cX0_strength 28 = .ok (.aload_n 0, 1) := dk_42 (dk_at dksX0_strength_1 5 rfl rfl)
theorem dX0_strength_29 : decode cX0_strength 29 = .ok (.iload_n 1, 1) := dk_27 (dk_at dksX0_strength_1 6 rfl rfl)
theorem dX0_strength_30 : decode cX0_strength 30 = .ok (.iconst 2, 1) := dk_5 (dk_at dksX0_strength_1 7 rfl rfl)
theorem dX0_strength_31 : decode cX0_strength 31 = .ok (.iload 4, 2) := dk_21 4 (dk_at dksX0_strength_1 8 rfl rfl)
theorem dX0_strength_33 : decode cX0_strength 33 = .ok (.iload_n 2, 1) := dk_28 (dk_at dksX0_strength_1 10 rfl rfl)
theorem dX0_strength_34 : decode cX0_strength 34 = .ok (.invokevirtual 342, 3) := dk_182 1 86 (dk_at dksX0_strength_1 11 rfl rfl)
theorem dX0_strength_37 : decode cX0_strength 37 = .ok (.iconst (-1), 1) := dk_2 (dk_at dksX0_strength_1 14 rfl rfl)
theorem dX0_strength_38 : decode cX0_strength 38 = .ok (.if_icmp .ne 9, 3) := dk_160 0 9 (dk_at dksX0_strength_1 15 rfl rfl)
theorem dX0_strength_41 : decode cX0_strength 41 = .ok (.iinc 4 1, 3) := dk_132 4 1 (dk_at dksX0_strength_1 18 rfl rfl)
theorem dX0_strength_44 : decode cX0_strength 44 = .ok (.goto (-23), 3) := dk_167 255 233 (dk_at dksX0_strength_1 21 rfl rfl)
theorem dX0_strength_47 : decode cX0_strength 47 = .ok (.iload 4, 2) := dk_21 4 (dk_at dksX0_strength_2 0 rfl rfl)
theorem dX0_strength_49 : decode cX0_strength 49 = .ok (.bipush 99, 2) := dk_16 99 (dk_at dksX0_strength_2 2 rfl rfl)
theorem dX0_strength_51 : decode cX0_strength 51 = .ok (.if_icmp .gt 8, 3) := dk_163 0 8 (dk_at dksX0_strength_2 4 rfl rfl)
theorem dX0_strength_54 : decode cX0_strength 54 = .ok (.iload 4, 2) := dk_21 4 (dk_at dksX0_strength_2 7 rfl rfl)
theorem dX0_strength_56 : decode cX0_strength 56 = .ok (.goto 8, 3) := dk_167 0 8 (dk_at dksX0_strength_2 9 rfl rfl)
theorem dX0_strength_59 : decode cX0_strength 59 = .ok (.aload_n 0, 1) := dk_42 (dk_at dksX0_strength_2 12 rfl rfl)
theorem dX0_strength_60 : decode cX0_strength 60 = .ok (.iconst 3, 1) := dk_6 (dk_at dksX0_strength_2 13 rfl rfl)
theorem dX0_strength_61 : decode cX0_strength 61 = .ok (.invokevirtual 142, 3) := dk_182 0 142 (dk_at dksX0_strength_2 14 rfl rfl)
theorem dX0_strength_64 : decode cX0_strength 64 = .ok (.ireturn, 1) := dk_172 (dk_at dksX0_strength_2 17 rfl rfl)
abbrev cX0_roundWith : ByteArray := prog_1_method_74_code
def yX0_roundWith : MethodName := ⟨RX0, "roundWith", "(IIII)I"⟩
def dkwX0_roundWith_2 : List UInt8 := [21, 6, 172, 58, 7, 42, 180, 0, 61, 180, 0, 113, 28, 50, 27, 21, 5, 79, 25, 7, 191]
abbrev dktX0_roundWith_2 : List UInt8 := dkwX0_roundWith_2 ++ []
def dkwX0_roundWith_1 : List UInt8 := [79, 42, 27, 21, 4, 182, 1, 56, 54, 6, 42, 180, 0, 61, 180, 0, 113, 28, 50, 27, 21, 5, 79]
abbrev dktX0_roundWith_1 : List UInt8 := dkwX0_roundWith_1 ++ dktX0_roundWith_2
def dkwX0_roundWith_0 : List UInt8 := [42, 180, 0, 61, 180, 0, 113, 28, 50, 27, 46, 54, 5, 42, 180, 0, 61, 180, 0, 113, 28, 50, 27, 29]
abbrev dktX0_roundWith_0 : List UInt8 := dkwX0_roundWith_0 ++ dktX0_roundWith_1
theorem dksX0_roundWith_0 : cX0_roundWith.data.toList.drop 0 = dktX0_roundWith_0 := by decide +kernel
theorem dksX0_roundWith_1 : cX0_roundWith.data.toList.drop 24 = dktX0_roundWith_1 := dk_seg dksX0_roundWith_0 24 rfl rfl
theorem dksX0_roundWith_2 : cX0_roundWith.data.toList.drop 47 = dktX0_roundWith_2 := dk_seg dksX0_roundWith_1 23 rfl rfl
theorem dX0_roundWith_0 : decode cX0_roundWith 0 = .ok (.aload_n 0, 1) := dk_42 (dk_at dksX0_roundWith_0 0 rfl rfl)
theorem dX0_roundWith_1 : decode cX0_roundWith 1 = .ok (.getfield 61, 3) := dk_180 0 61 (dk_at dksX0_roundWith_0 1 rfl rfl)
theorem dX0_roundWith_4 : decode cX0_roundWith 4 = .ok (.getfield 113, 3) := dk_180 0 113 (dk_at dksX0_roundWith_0 4 rfl rfl)
theorem dX0_roundWith_7 : decode cX0_roundWith 7 = .ok (.iload_n 2, 1) := dk_28 (dk_at dksX0_roundWith_0 7 rfl rfl)
theorem dX0_roundWith_8 : decode cX0_roundWith 8 = .ok (.aaload, 1) := dk_50 (dk_at dksX0_roundWith_0 8 rfl rfl)
theorem dX0_roundWith_9 : decode cX0_roundWith 9 = .ok (.iload_n 1, 1) := dk_27 (dk_at dksX0_roundWith_0 9 rfl rfl)
theorem dX0_roundWith_10 : decode cX0_roundWith 10 = .ok (.iaload, 1) := dk_46 (dk_at dksX0_roundWith_0 10 rfl rfl)
theorem dX0_roundWith_11 : decode cX0_roundWith 11 = .ok (.istore 5, 2) := dk_54 5 (dk_at dksX0_roundWith_0 11 rfl rfl)
theorem dX0_roundWith_13 : decode cX0_roundWith 13 = .ok (.aload_n 0, 1) := dk_42 (dk_at dksX0_roundWith_0 13 rfl rfl)
theorem dX0_roundWith_14 : decode cX0_roundWith 14 = .ok (.getfield 61, 3) := dk_180 0 61 (dk_at dksX0_roundWith_0 14 rfl rfl)
theorem dX0_roundWith_17 : decode cX0_roundWith 17 = .ok (.getfield 113, 3) := dk_180 0 113 (dk_at dksX0_roundWith_0 17 rfl rfl)
theorem dX0_roundWith_20 : decode cX0_roundWith 20 = .ok (.iload_n 2, 1) := dk_28 (dk_at dksX0_roundWith_0 20 rfl rfl)
theorem dX0_roundWith_21 : decode cX0_roundWith 21 = .ok (.aaload, 1) := dk_50 (dk_at dksX0_roundWith_0 21 rfl rfl)
theorem dX0_roundWith_22 : decode cX0_roundWith 22 = .ok (.iload_n 1, 1) := dk_27 (dk_at dksX0_roundWith_0 22 rfl rfl)
theorem dX0_roundWith_23 : decode cX0_roundWith 23 = .ok (.iload_n 3, 1) := dk_29 (dk_at dksX0_roundWith_0 23 rfl rfl)
theorem dX0_roundWith_24 : decode cX0_roundWith 24 = .ok (.iastore, 1) := dk_79 (dk_at dksX0_roundWith_1 0 rfl rfl)
theorem dX0_roundWith_25 : decode cX0_roundWith 25 = .ok (.aload_n 0, 1) := dk_42 (dk_at dksX0_roundWith_1 1 rfl rfl)
theorem dX0_roundWith_26 : decode cX0_roundWith 26 = .ok (.iload_n 1, 1) := dk_27 (dk_at dksX0_roundWith_1 2 rfl rfl)
theorem dX0_roundWith_27 : decode cX0_roundWith 27 = .ok (.iload 4, 2) := dk_21 4 (dk_at dksX0_roundWith_1 3 rfl rfl)
theorem dX0_roundWith_29 : decode cX0_roundWith 29 = .ok (.invokevirtual 312, 3) := dk_182 1 56 (dk_at dksX0_roundWith_1 5 rfl rfl)
theorem dX0_roundWith_32 : decode cX0_roundWith 32 = .ok (.istore 6, 2) := dk_54 6 (dk_at dksX0_roundWith_1 8 rfl rfl)
theorem dX0_roundWith_34 : decode cX0_roundWith 34 = .ok (.aload_n 0, 1) := dk_42 (dk_at dksX0_roundWith_1 10 rfl rfl)
theorem dX0_roundWith_35 : decode cX0_roundWith 35 = .ok (.getfield 61, 3) := dk_180 0 61 (dk_at dksX0_roundWith_1 11 rfl rfl)
theorem dX0_roundWith_38 : decode cX0_roundWith 38 = .ok (.getfield 113, 3) := dk_180 0 113 (dk_at dksX0_roundWith_1 14 rfl rfl)
theorem dX0_roundWith_41 : decode cX0_roundWith 41 = .ok (.iload_n 2, 1) := dk_28 (dk_at dksX0_roundWith_1 17 rfl rfl)
theorem dX0_roundWith_42 : decode cX0_roundWith 42 = .ok (.aaload, 1) := dk_50 (dk_at dksX0_roundWith_1 18 rfl rfl)
theorem dX0_roundWith_43 : decode cX0_roundWith 43 = .ok (.iload_n 1, 1) := dk_27 (dk_at dksX0_roundWith_1 19 rfl rfl)
theorem dX0_roundWith_44 : decode cX0_roundWith 44 = .ok (.iload 5, 2) := dk_21 5 (dk_at dksX0_roundWith_1 20 rfl rfl)
theorem dX0_roundWith_46 : decode cX0_roundWith 46 = .ok (.iastore, 1) := dk_79 (dk_at dksX0_roundWith_1 22 rfl rfl)
theorem dX0_roundWith_47 : decode cX0_roundWith 47 = .ok (.iload 6, 2) := dk_21 6 (dk_at dksX0_roundWith_2 0 rfl rfl)
theorem dX0_roundWith_49 : decode cX0_roundWith 49 = .ok (.ireturn, 1) := dk_172 (dk_at dksX0_roundWith_2 2 rfl rfl)
theorem dX0_roundWith_50 : decode cX0_roundWith 50 = .ok (.astore 7, 2) := dk_58 7 (dk_at dksX0_roundWith_2 3 rfl rfl)
theorem dX0_roundWith_52 : decode cX0_roundWith 52 = .ok (.aload_n 0, 1) := dk_42 (dk_at dksX0_roundWith_2 5 rfl rfl)
theorem dX0_roundWith_53 : decode cX0_roundWith 53 = .ok (.getfield 61, 3) := dk_180 0 61 (dk_at dksX0_roundWith_2 6 rfl rfl)
theorem dX0_roundWith_56 : decode cX0_roundWith 56 = .ok (.getfield 113, 3) := dk_180 0 113 (dk_at dksX0_roundWith_2 9 rfl rfl)
theorem dX0_roundWith_59 : decode cX0_roundWith 59 = .ok (.iload_n 2, 1) := dk_28 (dk_at dksX0_roundWith_2 12 rfl rfl)
theorem dX0_roundWith_60 : decode cX0_roundWith 60 = .ok (.aaload, 1) := dk_50 (dk_at dksX0_roundWith_2 13 rfl rfl)
theorem dX0_roundWith_61 : decode cX0_roundWith 61 = .ok (.iload_n 1, 1) := dk_27 (dk_at dksX0_roundWith_2 14 rfl rfl)
theorem dX0_roundWith_62 : decode cX0_roundWith 62 = .ok (.iload 5, 2) := dk_21 5 (dk_at dksX0_roundWith_2 15 rfl rfl)
theorem dX0_roundWith_64 : decode cX0_roundWith 64 = .ok (.iastore, 1) := dk_79 (dk_at dksX0_roundWith_2 17 rfl rfl)
theorem dX0_roundWith_65 : decode cX0_roundWith 65 = .ok (.aload 7, 2) := dk_25 7 (dk_at dksX0_roundWith_2 18 rfl rfl)
theorem dX0_roundWith_67 : decode cX0_roundWith 67 = .ok (.athrow, 1) := dk_191 (dk_at dksX0_roundWith_2 20 rfl rfl)
abbrev cX0_kindFor : ByteArray := prog_1_method_76_code
def yX0_kindFor : MethodName := ⟨RX0, "kindFor", "(II)I"⟩
def dkwX0_kindFor_4 : List UInt8 := [54, 5, 132, 6, 1, 167, 255, 187, 42, 21, 4, 182, 0, 223, 172]
abbrev dktX0_kindFor_4 : List UInt8 := dkwX0_kindFor_4 ++ []
def dkwX0_kindFor_3 : List UInt8 := [153, 0, 8, 21, 6, 167, 0, 5, 21, 4, 54, 4, 21, 8, 153, 0, 8, 21, 7, 167, 0, 5, 21, 5]
abbrev dktX0_kindFor_3 : List UInt8 := dkwX0_kindFor_3 ++ dktX0_kindFor_4
def dkwX0_kindFor_2 : List UInt8 := [21, 7, 2, 159, 0, 14, 21, 7, 21, 5, 162, 0, 7, 4, 167, 0, 4, 3, 54, 8, 21, 8]
abbrev dktX0_kindFor_2 : List UInt8 := dkwX0_kindFor_2 ++ dktX0_kindFor_3
def dkwX0_kindFor_1 : List UInt8 := [54, 5, 3, 54, 6, 21, 6, 16, 7, 162, 0, 68, 42, 27, 3, 21, 6, 28, 182, 1, 86, 54, 7]
abbrev dktX0_kindFor_1 : List UInt8 := dkwX0_kindFor_1 ++ dktX0_kindFor_2
def dkwX0_kindFor_0 : List UInt8 := [42, 27, 28, 182, 1, 53, 62, 29, 2, 159, 0, 9, 42, 29, 182, 0, 142, 172, 2, 54, 4, 18, 196]
abbrev dktX0_kindFor_0 : List UInt8 := dkwX0_kindFor_0 ++ dktX0_kindFor_1
theorem dksX0_kindFor_0 : cX0_kindFor.data.toList.drop 0 = dktX0_kindFor_0 := by decide +kernel
theorem dksX0_kindFor_1 : cX0_kindFor.data.toList.drop 23 = dktX0_kindFor_1 := dk_seg dksX0_kindFor_0 23 rfl rfl
theorem dksX0_kindFor_2 : cX0_kindFor.data.toList.drop 46 = dktX0_kindFor_2 := dk_seg dksX0_kindFor_1 23 rfl rfl
theorem dksX0_kindFor_3 : cX0_kindFor.data.toList.drop 68 = dktX0_kindFor_3 := dk_seg dksX0_kindFor_2 22 rfl rfl
theorem dksX0_kindFor_4 : cX0_kindFor.data.toList.drop 92 = dktX0_kindFor_4 := dk_seg dksX0_kindFor_3 24 rfl rfl
theorem dX0_kindFor_0 : decode cX0_kindFor 0 = .ok (.aload_n 0, 1) := dk_42 (dk_at dksX0_kindFor_0 0 rfl rfl)
theorem dX0_kindFor_1 : decode cX0_kindFor 1 = .ok (.iload_n 1, 1) := dk_27 (dk_at dksX0_kindFor_0 1 rfl rfl)
theorem dX0_kindFor_2 : decode cX0_kindFor 2 = .ok (.iload_n 2, 1) := dk_28 (dk_at dksX0_kindFor_0 2 rfl rfl)
theorem dX0_kindFor_3 : decode cX0_kindFor 3 = .ok (.invokevirtual 309, 3) := dk_182 1 53 (dk_at dksX0_kindFor_0 3 rfl rfl)
theorem dX0_kindFor_6 : decode cX0_kindFor 6 = .ok (.istore_n 3, 1) := dk_62 (dk_at dksX0_kindFor_0 6 rfl rfl)
theorem dX0_kindFor_7 : decode cX0_kindFor 7 = .ok (.iload_n 3, 1) := dk_29 (dk_at dksX0_kindFor_0 7 rfl rfl)
theorem dX0_kindFor_8 : decode cX0_kindFor 8 = .ok (.iconst (-1), 1) := dk_2 (dk_at dksX0_kindFor_0 8 rfl rfl)
theorem dX0_kindFor_9 : decode cX0_kindFor 9 = .ok (.if_icmp .eq 9, 3) := dk_159 0 9 (dk_at dksX0_kindFor_0 9 rfl rfl)
theorem dX0_kindFor_12 : decode cX0_kindFor 12 = .ok (.aload_n 0, 1) := dk_42 (dk_at dksX0_kindFor_0 12 rfl rfl)
theorem dX0_kindFor_13 : decode cX0_kindFor 13 = .ok (.iload_n 3, 1) := dk_29 (dk_at dksX0_kindFor_0 13 rfl rfl)
theorem dX0_kindFor_14 : decode cX0_kindFor 14 = .ok (.invokevirtual 142, 3) := dk_182 0 142 (dk_at dksX0_kindFor_0 14 rfl rfl)
theorem dX0_kindFor_17 : decode cX0_kindFor 17 = .ok (.ireturn, 1) := dk_172 (dk_at dksX0_kindFor_0 17 rfl rfl)
theorem dX0_kindFor_18 : decode cX0_kindFor 18 = .ok (.iconst (-1), 1) := dk_2 (dk_at dksX0_kindFor_0 18 rfl rfl)
theorem dX0_kindFor_19 : decode cX0_kindFor 19 = .ok (.istore 4, 2) := dk_54 4 (dk_at dksX0_kindFor_0 19 rfl rfl)
theorem dX0_kindFor_21 : decode cX0_kindFor 21 = .ok (.ldc 196, 2) := dk_18 196 (dk_at dksX0_kindFor_0 21 rfl rfl)
theorem dX0_kindFor_23 : decode cX0_kindFor 23 = .ok (.istore 5, 2) := dk_54 5 (dk_at dksX0_kindFor_1 0 rfl rfl)
theorem dX0_kindFor_25 : decode cX0_kindFor 25 = .ok (.iconst 0, 1) := dk_3 (dk_at dksX0_kindFor_1 2 rfl rfl)
theorem dX0_kindFor_26 : decode cX0_kindFor 26 = .ok (.istore 6, 2) := dk_54 6 (dk_at dksX0_kindFor_1 3 rfl rfl)
theorem dX0_kindFor_28 : decode cX0_kindFor 28 = .ok (.iload 6, 2) := dk_21 6 (dk_at dksX0_kindFor_1 5 rfl rfl)
theorem dX0_kindFor_30 : decode cX0_kindFor 30 = .ok (.bipush 7, 2) := dk_16 7 (dk_at dksX0_kindFor_1 7 rfl rfl)
theorem dX0_kindFor_32 : decode cX0_kindFor 32 = .ok (.if_icmp .ge 68, 3) := dk_162 0 68 (dk_at dksX0_kindFor_1 9 rfl rfl)
theorem dX0_kindFor_35 : decode cX0_kindFor 35 = .ok (.aload_n 0, 1) := dk_42 (dk_at dksX0_kindFor_1 12 rfl rfl)
theorem dX0_kindFor_36 : decode cX0_kindFor 36 = .ok (.iload_n 1, 1) := dk_27 (dk_at dksX0_kindFor_1 13 rfl rfl)
theorem dX0_kindFor_37 : decode cX0_kindFor 37 = .ok (.iconst 0, 1) := dk_3 (dk_at dksX0_kindFor_1 14 rfl rfl)
theorem dX0_kindFor_38 : decode cX0_kindFor 38 = .ok (.iload 6, 2) := dk_21 6 (dk_at dksX0_kindFor_1 15 rfl rfl)
theorem dX0_kindFor_40 : decode cX0_kindFor 40 = .ok (.iload_n 2, 1) := dk_28 (dk_at dksX0_kindFor_1 17 rfl rfl)
theorem dX0_kindFor_41 : decode cX0_kindFor 41 = .ok (.invokevirtual 342, 3) := dk_182 1 86 (dk_at dksX0_kindFor_1 18 rfl rfl)
theorem dX0_kindFor_44 : decode cX0_kindFor 44 = .ok (.istore 7, 2) := dk_54 7 (dk_at dksX0_kindFor_1 21 rfl rfl)
theorem dX0_kindFor_46 : decode cX0_kindFor 46 = .ok (.iload 7, 2) := dk_21 7 (dk_at dksX0_kindFor_2 0 rfl rfl)
theorem dX0_kindFor_48 : decode cX0_kindFor 48 = .ok (.iconst (-1), 1) := dk_2 (dk_at dksX0_kindFor_2 2 rfl rfl)
theorem dX0_kindFor_49 : decode cX0_kindFor 49 = .ok (.if_icmp .eq 14, 3) := dk_159 0 14 (dk_at dksX0_kindFor_2 3 rfl rfl)
theorem dX0_kindFor_52 : decode cX0_kindFor 52 = .ok (.iload 7, 2) := dk_21 7 (dk_at dksX0_kindFor_2 6 rfl rfl)
theorem dX0_kindFor_54 : decode cX0_kindFor 54 = .ok (.iload 5, 2) := dk_21 5 (dk_at dksX0_kindFor_2 8 rfl rfl)
theorem dX0_kindFor_56 : decode cX0_kindFor 56 = .ok (.if_icmp .ge 7, 3) := dk_162 0 7 (dk_at dksX0_kindFor_2 10 rfl rfl)
theorem dX0_kindFor_59 : decode cX0_kindFor 59 = .ok (.iconst 1, 1) := dk_4 (dk_at dksX0_kindFor_2 13 rfl rfl)
theorem dX0_kindFor_60 : decode cX0_kindFor 60 = .ok (.goto 4, 3) := dk_167 0 4 (dk_at dksX0_kindFor_2 14 rfl rfl)
theorem dX0_kindFor_63 : decode cX0_kindFor 63 = .ok (.iconst 0, 1) := dk_3 (dk_at dksX0_kindFor_2 17 rfl rfl)
theorem dX0_kindFor_64 : decode cX0_kindFor 64 = .ok (.istore 8, 2) := dk_54 8 (dk_at dksX0_kindFor_2 18 rfl rfl)
theorem dX0_kindFor_66 : decode cX0_kindFor 66 = .ok (.iload 8, 2) := dk_21 8 (dk_at dksX0_kindFor_2 20 rfl rfl)
theorem dX0_kindFor_68 : decode cX0_kindFor 68 = .ok (.ifCond .eq 8, 3) := dk_153 0 8 (dk_at dksX0_kindFor_3 0 rfl rfl)
theorem dX0_kindFor_71 : decode cX0_kindFor 71 = .ok (.iload 6, 2) := dk_21 6 (dk_at dksX0_kindFor_3 3 rfl rfl)
theorem dX0_kindFor_73 : decode cX0_kindFor 73 = .ok (.goto 5, 3) := dk_167 0 5 (dk_at dksX0_kindFor_3 5 rfl rfl)
theorem dX0_kindFor_76 : decode cX0_kindFor 76 = .ok (.iload 4, 2) := dk_21 4 (dk_at dksX0_kindFor_3 8 rfl rfl)
theorem dX0_kindFor_78 : decode cX0_kindFor 78 = .ok (.istore 4, 2) := dk_54 4 (dk_at dksX0_kindFor_3 10 rfl rfl)
theorem dX0_kindFor_80 : decode cX0_kindFor 80 = .ok (.iload 8, 2) := dk_21 8 (dk_at dksX0_kindFor_3 12 rfl rfl)
theorem dX0_kindFor_82 : decode cX0_kindFor 82 = .ok (.ifCond .eq 8, 3) := dk_153 0 8 (dk_at dksX0_kindFor_3 14 rfl rfl)
theorem dX0_kindFor_85 : decode cX0_kindFor 85 = .ok (.iload 7, 2) := dk_21 7 (dk_at dksX0_kindFor_3 17 rfl rfl)
theorem dX0_kindFor_87 : decode cX0_kindFor 87 = .ok (.goto 5, 3) := dk_167 0 5 (dk_at dksX0_kindFor_3 19 rfl rfl)
theorem dX0_kindFor_90 : decode cX0_kindFor 90 = .ok (.iload 5, 2) := dk_21 5 (dk_at dksX0_kindFor_3 22 rfl rfl)
theorem dX0_kindFor_92 : decode cX0_kindFor 92 = .ok (.istore 5, 2) := dk_54 5 (dk_at dksX0_kindFor_4 0 rfl rfl)
theorem dX0_kindFor_94 : decode cX0_kindFor 94 = .ok (.iinc 6 1, 3) := dk_132 6 1 (dk_at dksX0_kindFor_4 2 rfl rfl)
theorem dX0_kindFor_97 : decode cX0_kindFor 97 = .ok (.goto (-69), 3) := dk_167 255 187 (dk_at dksX0_kindFor_4 5 rfl rfl)
theorem dX0_kindFor_100 : decode cX0_kindFor 100 = .ok (.aload_n 0, 1) := dk_42 (dk_at dksX0_kindFor_4 8 rfl rfl)
theorem dX0_kindFor_101 : decode cX0_kindFor 101 = .ok (.iload 4, 2) := dk_21 4 (dk_at dksX0_kindFor_4 9 rfl rfl)
theorem dX0_kindFor_103 : decode cX0_kindFor 103 = .ok (.invokevirtual 223, 3) := dk_182 0 223 (dk_at dksX0_kindFor_4 11 rfl rfl)
theorem dX0_kindFor_106 : decode cX0_kindFor 106 = .ok (.ireturn, 1) := dk_172 (dk_at dksX0_kindFor_4 14 rfl rfl)
abbrev cX0_bridge : ByteArray := prog_1_method_79_code
def yX0_bridge : MethodName := ⟨RX0, "bridge", "(II)I"⟩
def dkwX0_bridge_1 : List UInt8 := [2, 160, 0, 11, 42, 6, 182, 0, 142, 167, 0, 7, 42, 180, 1, 90, 172]
abbrev dktX0_bridge_1 : List UInt8 := dkwX0_bridge_1 ++ []
def dkwX0_bridge_0 : List UInt8 := [42, 27, 28, 182, 1, 53, 62, 29, 2, 159, 0, 9, 42, 29, 182, 0, 142, 172, 42, 27, 28, 182, 1, 96]
abbrev dktX0_bridge_0 : List UInt8 := dkwX0_bridge_0 ++ dktX0_bridge_1
theorem dksX0_bridge_0 : cX0_bridge.data.toList.drop 0 = dktX0_bridge_0 := by decide +kernel
theorem dksX0_bridge_1 : cX0_bridge.data.toList.drop 24 = dktX0_bridge_1 := dk_seg dksX0_bridge_0 24 rfl rfl
theorem dX0_bridge_0 : decode cX0_bridge 0 = .ok (.aload_n 0, 1) := dk_42 (dk_at dksX0_bridge_0 0 rfl rfl)
theorem dX0_bridge_1 : decode cX0_bridge 1 = .ok (.iload_n 1, 1) := dk_27 (dk_at dksX0_bridge_0 1 rfl rfl)
theorem dX0_bridge_2 : decode cX0_bridge 2 = .ok (.iload_n 2, 1) := dk_28 (dk_at dksX0_bridge_0 2 rfl rfl)
theorem dX0_bridge_3 : decode cX0_bridge 3 = .ok (.invokevirtual 309, 3) := dk_182 1 53 (dk_at dksX0_bridge_0 3 rfl rfl)
theorem dX0_bridge_6 : decode cX0_bridge 6 = .ok (.istore_n 3, 1) := dk_62 (dk_at dksX0_bridge_0 6 rfl rfl)
theorem dX0_bridge_7 : decode cX0_bridge 7 = .ok (.iload_n 3, 1) := dk_29 (dk_at dksX0_bridge_0 7 rfl rfl)
theorem dX0_bridge_8 : decode cX0_bridge 8 = .ok (.iconst (-1), 1) := dk_2 (dk_at dksX0_bridge_0 8 rfl rfl)
theorem dX0_bridge_9 : decode cX0_bridge 9 = .ok (.if_icmp .eq 9, 3) := dk_159 0 9 (dk_at dksX0_bridge_0 9 rfl rfl)
theorem dX0_bridge_12 : decode cX0_bridge 12 = .ok (.aload_n 0, 1) := dk_42 (dk_at dksX0_bridge_0 12 rfl rfl)
theorem dX0_bridge_13 : decode cX0_bridge 13 = .ok (.iload_n 3, 1) := dk_29 (dk_at dksX0_bridge_0 13 rfl rfl)
theorem dX0_bridge_14 : decode cX0_bridge 14 = .ok (.invokevirtual 142, 3) := dk_182 0 142 (dk_at dksX0_bridge_0 14 rfl rfl)
theorem dX0_bridge_17 : decode cX0_bridge 17 = .ok (.ireturn, 1) := dk_172 (dk_at dksX0_bridge_0 17 rfl rfl)
theorem dX0_bridge_18 : decode cX0_bridge 18 = .ok (.aload_n 0, 1) := dk_42 (dk_at dksX0_bridge_0 18 rfl rfl)
theorem dX0_bridge_19 : decode cX0_bridge 19 = .ok (.iload_n 1, 1) := dk_27 (dk_at dksX0_bridge_0 19 rfl rfl)
theorem dX0_bridge_20 : decode cX0_bridge 20 = .ok (.iload_n 2, 1) := dk_28 (dk_at dksX0_bridge_0 20 rfl rfl)
theorem dX0_bridge_21 : decode cX0_bridge 21 = .ok (.invokevirtual 352, 3) := dk_182 1 96 (dk_at dksX0_bridge_0 21 rfl rfl)
theorem dX0_bridge_24 : decode cX0_bridge 24 = .ok (.iconst (-1), 1) := dk_2 (dk_at dksX0_bridge_1 0 rfl rfl)
theorem dX0_bridge_25 : decode cX0_bridge 25 = .ok (.if_icmp .ne 11, 3) := dk_160 0 11 (dk_at dksX0_bridge_1 1 rfl rfl)
theorem dX0_bridge_28 : decode cX0_bridge 28 = .ok (.aload_n 0, 1) := dk_42 (dk_at dksX0_bridge_1 4 rfl rfl)
theorem dX0_bridge_29 : decode cX0_bridge 29 = .ok (.iconst 3, 1) := dk_6 (dk_at dksX0_bridge_1 5 rfl rfl)
theorem dX0_bridge_30 : decode cX0_bridge 30 = .ok (.invokevirtual 142, 3) := dk_182 0 142 (dk_at dksX0_bridge_1 6 rfl rfl)
theorem dX0_bridge_33 : decode cX0_bridge 33 = .ok (.goto 7, 3) := dk_167 0 7 (dk_at dksX0_bridge_1 9 rfl rfl)
theorem dX0_bridge_36 : decode cX0_bridge 36 = .ok (.aload_n 0, 1) := dk_42 (dk_at dksX0_bridge_1 12 rfl rfl)
theorem dX0_bridge_37 : decode cX0_bridge 37 = .ok (.getfield 346, 3) := dk_180 1 90 (dk_at dksX0_bridge_1 13 rfl rfl)
theorem dX0_bridge_40 : decode cX0_bridge 40 = .ok (.ireturn, 1) := dk_172 (dk_at dksX0_bridge_1 16 rfl rfl)
abbrev cX0_bridged : ByteArray := prog_1_method_78_code
def yX0_bridged : MethodName := ⟨RX0, "bridged", "(II)I"⟩
def dkwX0_bridged_5 : List UInt8 := [132, 4, 1, 167, 255, 146, 29, 172]
abbrev dktX0_bridged_5 : List UInt8 := dkwX0_bridged_5 ++ []
def dkwX0_bridged_4 : List UInt8 := [162, 0, 18, 21, 6, 62, 42, 16, 10, 21, 4, 104, 21, 5, 96, 181, 1, 90, 132, 5, 1, 167, 255, 165]
abbrev dktX0_bridged_4 : List UInt8 := dkwX0_bridged_4 ++ dktX0_bridged_5
def dkwX0_bridged_3 : List UInt8 := [182, 1, 93, 167, 0, 4, 2, 54, 6, 21, 6, 2, 159, 0, 29, 29, 2, 159, 0, 9, 21, 6, 29]
abbrev dktX0_bridged_3 : List UInt8 := dkwX0_bridged_3 ++ dktX0_bridged_4
def dkwX0_bridged_2 : List UInt8 := [180, 0, 61, 180, 0, 190, 21, 4, 50, 21, 5, 46, 4, 160, 0, 16, 42, 27, 28, 21, 4, 21, 5]
abbrev dktX0_bridged_2 : List UInt8 := dkwX0_bridged_2 ++ dktX0_bridged_3
def dkwX0_bridged_1 : List UInt8 := [21, 5, 16, 7, 162, 0, 90, 42, 180, 0, 61, 180, 0, 183, 21, 4, 50, 21, 5, 46, 158, 0, 33, 42]
abbrev dktX0_bridged_1 : List UInt8 := dkwX0_bridged_1 ++ dktX0_bridged_2
def dkwX0_bridged_0 : List UInt8 := [2, 62, 42, 2, 181, 1, 90, 3, 54, 4, 21, 4, 16, 7, 162, 0, 109, 21, 4, 4, 96, 54, 5]
abbrev dktX0_bridged_0 : List UInt8 := dkwX0_bridged_0 ++ dktX0_bridged_1
theorem dksX0_bridged_0 : cX0_bridged.data.toList.drop 0 = dktX0_bridged_0 := by decide +kernel
theorem dksX0_bridged_1 : cX0_bridged.data.toList.drop 23 = dktX0_bridged_1 := dk_seg dksX0_bridged_0 23 rfl rfl
theorem dksX0_bridged_2 : cX0_bridged.data.toList.drop 47 = dktX0_bridged_2 := dk_seg dksX0_bridged_1 24 rfl rfl
theorem dksX0_bridged_3 : cX0_bridged.data.toList.drop 70 = dktX0_bridged_3 := dk_seg dksX0_bridged_2 23 rfl rfl
theorem dksX0_bridged_4 : cX0_bridged.data.toList.drop 93 = dktX0_bridged_4 := dk_seg dksX0_bridged_3 23 rfl rfl
theorem dksX0_bridged_5 : cX0_bridged.data.toList.drop 117 = dktX0_bridged_5 := dk_seg dksX0_bridged_4 24 rfl rfl
theorem dX0_bridged_0 : decode cX0_bridged 0 = .ok (.iconst (-1), 1) := dk_2 (dk_at dksX0_bridged_0 0 rfl rfl)
theorem dX0_bridged_1 : decode cX0_bridged 1 = .ok (.istore_n 3, 1) := dk_62 (dk_at dksX0_bridged_0 1 rfl rfl)
theorem dX0_bridged_2 : decode cX0_bridged 2 = .ok (.aload_n 0, 1) := dk_42 (dk_at dksX0_bridged_0 2 rfl rfl)
theorem dX0_bridged_3 : decode cX0_bridged 3 = .ok (.iconst (-1), 1) := dk_2 (dk_at dksX0_bridged_0 3 rfl rfl)
theorem dX0_bridged_4 : decode cX0_bridged 4 = .ok (.putfield 346, 3) := dk_181 1 90 (dk_at dksX0_bridged_0 4 rfl rfl)
theorem dX0_bridged_7 : decode cX0_bridged 7 = .ok (.iconst 0, 1) := dk_3 (dk_at dksX0_bridged_0 7 rfl rfl)
theorem dX0_bridged_8 : decode cX0_bridged 8 = .ok (.istore 4, 2) := dk_54 4 (dk_at dksX0_bridged_0 8 rfl rfl)
theorem dX0_bridged_10 : decode cX0_bridged 10 = .ok (.iload 4, 2) := dk_21 4 (dk_at dksX0_bridged_0 10 rfl rfl)
theorem dX0_bridged_12 : decode cX0_bridged 12 = .ok (.bipush 7, 2) := dk_16 7 (dk_at dksX0_bridged_0 12 rfl rfl)
theorem dX0_bridged_14 : decode cX0_bridged 14 = .ok (.if_icmp .ge 109, 3) := dk_162 0 109 (dk_at dksX0_bridged_0 14 rfl rfl)
theorem dX0_bridged_17 : decode cX0_bridged 17 = .ok (.iload 4, 2) := dk_21 4 (dk_at dksX0_bridged_0 17 rfl rfl)
theorem dX0_bridged_19 : decode cX0_bridged 19 = .ok (.iconst 1, 1) := dk_4 (dk_at dksX0_bridged_0 19 rfl rfl)
theorem dX0_bridged_20 : decode cX0_bridged 20 = .ok (.iadd, 1) := dk_96 (dk_at dksX0_bridged_0 20 rfl rfl)
theorem dX0_bridged_21 : decode cX0_bridged 21 = .ok (.istore 5, 2) := dk_54 5 (dk_at dksX0_bridged_0 21 rfl rfl)
theorem dX0_bridged_23 : decode cX0_bridged 23 = .ok (.iload 5, 2) := dk_21 5 (dk_at dksX0_bridged_1 0 rfl rfl)
theorem dX0_bridged_25 : decode cX0_bridged 25 = .ok (.bipush 7, 2) := dk_16 7 (dk_at dksX0_bridged_1 2 rfl rfl)
theorem dX0_bridged_27 : decode cX0_bridged 27 = .ok (.if_icmp .ge 90, 3) := dk_162 0 90 (dk_at dksX0_bridged_1 4 rfl rfl)
theorem dX0_bridged_30 : decode cX0_bridged 30 = .ok (.aload_n 0, 1) := dk_42 (dk_at dksX0_bridged_1 7 rfl rfl)
theorem dX0_bridged_31 : decode cX0_bridged 31 = .ok (.getfield 61, 3) := dk_180 0 61 (dk_at dksX0_bridged_1 8 rfl rfl)
theorem dX0_bridged_34 : decode cX0_bridged 34 = .ok (.getfield 183, 3) := dk_180 0 183 (dk_at dksX0_bridged_1 11 rfl rfl)
theorem dX0_bridged_37 : decode cX0_bridged 37 = .ok (.iload 4, 2) := dk_21 4 (dk_at dksX0_bridged_1 14 rfl rfl)
theorem dX0_bridged_39 : decode cX0_bridged 39 = .ok (.aaload, 1) := dk_50 (dk_at dksX0_bridged_1 16 rfl rfl)
theorem dX0_bridged_40 : decode cX0_bridged 40 = .ok (.iload 5, 2) := dk_21 5 (dk_at dksX0_bridged_1 17 rfl rfl)
theorem dX0_bridged_42 : decode cX0_bridged 42 = .ok (.iaload, 1) := dk_46 (dk_at dksX0_bridged_1 19 rfl rfl)
theorem dX0_bridged_43 : decode cX0_bridged 43 = .ok (.ifCond .le 33, 3) := dk_158 0 33 (dk_at dksX0_bridged_1 20 rfl rfl)
theorem dX0_bridged_46 : decode cX0_bridged 46 = .ok (.aload_n 0, 1) := dk_42 (dk_at dksX0_bridged_1 23 rfl rfl)
theorem dX0_bridged_47 : decode cX0_bridged 47 = .ok (.getfield 61, 3) := dk_180 0 61 (dk_at dksX0_bridged_2 0 rfl rfl)
theorem dX0_bridged_50 : decode cX0_bridged 50 = .ok (.getfield 190, 3) := dk_180 0 190 (dk_at dksX0_bridged_2 3 rfl rfl)
theorem dX0_bridged_53 : decode cX0_bridged 53 = .ok (.iload 4, 2) := dk_21 4 (dk_at dksX0_bridged_2 6 rfl rfl)
theorem dX0_bridged_55 : decode cX0_bridged 55 = .ok (.aaload, 1) := dk_50 (dk_at dksX0_bridged_2 8 rfl rfl)
theorem dX0_bridged_56 : decode cX0_bridged 56 = .ok (.iload 5, 2) := dk_21 5 (dk_at dksX0_bridged_2 9 rfl rfl)
theorem dX0_bridged_58 : decode cX0_bridged 58 = .ok (.iaload, 1) := dk_46 (dk_at dksX0_bridged_2 11 rfl rfl)
theorem dX0_bridged_59 : decode cX0_bridged 59 = .ok (.iconst 1, 1) := dk_4 (dk_at dksX0_bridged_2 12 rfl rfl)
theorem dX0_bridged_60 : decode cX0_bridged 60 = .ok (.if_icmp .ne 16, 3) := dk_160 0 16 (dk_at dksX0_bridged_2 13 rfl rfl)
theorem dX0_bridged_63 : decode cX0_bridged 63 = .ok (.aload_n 0, 1) := dk_42 (dk_at dksX0_bridged_2 16 rfl rfl)
theorem dX0_bridged_64 : decode cX0_bridged 64 = .ok (.iload_n 1, 1) := dk_27 (dk_at dksX0_bridged_2 17 rfl rfl)
theorem dX0_bridged_65 : decode cX0_bridged 65 = .ok (.iload_n 2, 1) := dk_28 (dk_at dksX0_bridged_2 18 rfl rfl)
theorem dX0_bridged_66 : decode cX0_bridged 66 = .ok (.iload 4, 2) := dk_21 4 (dk_at dksX0_bridged_2 19 rfl rfl)
theorem dX0_bridged_68 : decode cX0_bridged 68 = .ok (.iload 5, 2) := dk_21 5 (dk_at dksX0_bridged_2 21 rfl rfl)
theorem dX0_bridged_70 : decode cX0_bridged 70 = .ok (.invokevirtual 349, 3) := dk_182 1 93 (dk_at dksX0_bridged_3 0 rfl rfl)
theorem dX0_bridged_73 : decode cX0_bridged 73 = .ok (.goto 4, 3) := dk_167 0 4 (dk_at dksX0_bridged_3 3 rfl rfl)
theorem dX0_bridged_76 : decode cX0_bridged 76 = .ok (.iconst (-1), 1) := dk_2 (dk_at dksX0_bridged_3 6 rfl rfl)
theorem dX0_bridged_77 : decode cX0_bridged 77 = .ok (.istore 6, 2) := dk_54 6 (dk_at dksX0_bridged_3 7 rfl rfl)
theorem dX0_bridged_79 : decode cX0_bridged 79 = .ok (.iload 6, 2) := dk_21 6 (dk_at dksX0_bridged_3 9 rfl rfl)
theorem dX0_bridged_81 : decode cX0_bridged 81 = .ok (.iconst (-1), 1) := dk_2 (dk_at dksX0_bridged_3 11 rfl rfl)
theorem dX0_bridged_82 : decode cX0_bridged 82 = .ok (.if_icmp .eq 29, 3) := dk_159 0 29 (dk_at dksX0_bridged_3 12 rfl rfl)
theorem dX0_bridged_85 : decode cX0_bridged 85 = .ok (.iload_n 3, 1) := dk_29 (dk_at dksX0_bridged_3 15 rfl rfl)
theorem dX0_bridged_86 : decode cX0_bridged 86 = .ok (.iconst (-1), 1) := dk_2 (dk_at dksX0_bridged_3 16 rfl rfl)
theorem dX0_bridged_87 : decode cX0_bridged 87 = .ok (.if_icmp .eq 9, 3) := dk_159 0 9 (dk_at dksX0_bridged_3 17 rfl rfl)
theorem dX0_bridged_90 : decode cX0_bridged 90 = .ok (.iload 6, 2) := dk_21 6 (dk_at dksX0_bridged_3 20 rfl rfl)
theorem dX0_bridged_92 : decode cX0_bridged 92 = .ok (.iload_n 3, 1) := dk_29 (dk_at dksX0_bridged_3 22 rfl rfl)
theorem dX0_bridged_93 : decode cX0_bridged 93 = .ok (.if_icmp .ge 18, 3) := dk_162 0 18 (dk_at dksX0_bridged_4 0 rfl rfl)
theorem dX0_bridged_96 : decode cX0_bridged 96 = .ok (.iload 6, 2) := dk_21 6 (dk_at dksX0_bridged_4 3 rfl rfl)
theorem dX0_bridged_98 : decode cX0_bridged 98 = .ok (.istore_n 3, 1) := dk_62 (dk_at dksX0_bridged_4 5 rfl rfl)
theorem dX0_bridged_99 : decode cX0_bridged 99 = .ok (.aload_n 0, 1) := dk_42 (dk_at dksX0_bridged_4 6 rfl rfl)
theorem dX0_bridged_100 : decode cX0_bridged 100 = .ok (.bipush 10, 2) := dk_16 10 (dk_at dksX0_bridged_4 7 rfl rfl)
theorem dX0_bridged_102 : decode cX0_bridged 102 = .ok (.iload 4, 2) := dk_21 4 (dk_at dksX0_bridged_4 9 rfl rfl)
theorem dX0_bridged_104 : decode cX0_bridged 104 = .ok (.imul, 1) := dk_104 (dk_at dksX0_bridged_4 11 rfl rfl)
theorem dX0_bridged_105 : decode cX0_bridged 105 = .ok (.iload 5, 2) := dk_21 5 (dk_at dksX0_bridged_4 12 rfl rfl)
theorem dX0_bridged_107 : decode cX0_bridged 107 = .ok (.iadd, 1) := dk_96 (dk_at dksX0_bridged_4 14 rfl rfl)
theorem dX0_bridged_108 : decode cX0_bridged 108 = .ok (.putfield 346, 3) := dk_181 1 90 (dk_at dksX0_bridged_4 15 rfl rfl)
theorem dX0_bridged_111 : decode cX0_bridged 111 = .ok (.iinc 5 1, 3) := dk_132 5 1 (dk_at dksX0_bridged_4 18 rfl rfl)
theorem dX0_bridged_114 : decode cX0_bridged 114 = .ok (.goto (-91), 3) := dk_167 255 165 (dk_at dksX0_bridged_4 21 rfl rfl)
theorem dX0_bridged_117 : decode cX0_bridged 117 = .ok (.iinc 4 1, 3) := dk_132 4 1 (dk_at dksX0_bridged_5 0 rfl rfl)
theorem dX0_bridged_120 : decode cX0_bridged 120 = .ok (.goto (-110), 3) := dk_167 255 146 (dk_at dksX0_bridged_5 3 rfl rfl)
theorem dX0_bridged_123 : decode cX0_bridged 123 = .ok (.iload_n 3, 1) := dk_29 (dk_at dksX0_bridged_5 6 rfl rfl)
theorem dX0_bridged_124 : decode cX0_bridged 124 = .ok (.ireturn, 1) := dk_172 (dk_at dksX0_bridged_5 7 rfl rfl)
abbrev cX0_roundBridged : ByteArray := prog_1_method_77_code
def yX0_roundBridged : MethodName := ⟨RX0, "roundBridged", "(IIII)I"⟩
def dkwX0_roundBridged_3 : List UInt8 := [180, 0, 183, 29, 50, 21, 4, 46, 4, 182, 0, 186, 25, 6, 191]
abbrev dktX0_roundBridged_3 : List UInt8 := dkwX0_roundBridged_3 ++ []
def dkwX0_roundBridged_2 : List UInt8 := [21, 4, 46, 4, 182, 0, 186, 21, 5, 172, 58, 6, 42, 180, 0, 61, 29, 21, 4, 42, 180, 0, 61]
abbrev dktX0_roundBridged_2 : List UInt8 := dkwX0_roundBridged_2 ++ dktX0_roundBridged_3
def dkwX0_roundBridged_1 : List UInt8 := [27, 28, 182, 1, 56, 54, 5, 42, 180, 0, 61, 29, 21, 4, 42, 180, 0, 61, 180, 0, 183, 29, 50]
abbrev dktX0_roundBridged_1 : List UInt8 := dkwX0_roundBridged_1 ++ dktX0_roundBridged_2
def dkwX0_roundBridged_0 : List UInt8 := [42, 180, 0, 61, 29, 21, 4, 42, 180, 0, 61, 180, 0, 183, 29, 50, 21, 4, 46, 3, 182, 0, 186, 42]
abbrev dktX0_roundBridged_0 : List UInt8 := dkwX0_roundBridged_0 ++ dktX0_roundBridged_1
theorem dksX0_roundBridged_0 : cX0_roundBridged.data.toList.drop 0 = dktX0_roundBridged_0 := by decide +kernel
theorem dksX0_roundBridged_1 : cX0_roundBridged.data.toList.drop 24 = dktX0_roundBridged_1 := dk_seg dksX0_roundBridged_0 24 rfl rfl
theorem dksX0_roundBridged_2 : cX0_roundBridged.data.toList.drop 47 = dktX0_roundBridged_2 := dk_seg dksX0_roundBridged_1 23 rfl rfl
theorem dksX0_roundBridged_3 : cX0_roundBridged.data.toList.drop 70 = dktX0_roundBridged_3 := dk_seg dksX0_roundBridged_2 23 rfl rfl
theorem dX0_roundBridged_0 : decode cX0_roundBridged 0 = .ok (.aload_n 0, 1) := dk_42 (dk_at dksX0_roundBridged_0 0 rfl rfl)
theorem dX0_roundBridged_1 : decode cX0_roundBridged 1 = .ok (.getfield 61, 3) := dk_180 0 61 (dk_at dksX0_roundBridged_0 1 rfl rfl)
theorem dX0_roundBridged_4 : decode cX0_roundBridged 4 = .ok (.iload_n 3, 1) := dk_29 (dk_at dksX0_roundBridged_0 4 rfl rfl)
theorem dX0_roundBridged_5 : decode cX0_roundBridged 5 = .ok (.iload 4, 2) := dk_21 4 (dk_at dksX0_roundBridged_0 5 rfl rfl)
theorem dX0_roundBridged_7 : decode cX0_roundBridged 7 = .ok (.aload_n 0, 1) := dk_42 (dk_at dksX0_roundBridged_0 7 rfl rfl)
theorem dX0_roundBridged_8 : decode cX0_roundBridged 8 = .ok (.getfield 61, 3) := dk_180 0 61 (dk_at dksX0_roundBridged_0 8 rfl rfl)
theorem dX0_roundBridged_11 : decode cX0_roundBridged 11 = .ok (.getfield 183, 3) := dk_180 0 183 (dk_at dksX0_roundBridged_0 11 rfl rfl)
theorem dX0_roundBridged_14 : decode cX0_roundBridged 14 = .ok (.iload_n 3, 1) := dk_29 (dk_at dksX0_roundBridged_0 14 rfl rfl)
theorem dX0_roundBridged_15 : decode cX0_roundBridged 15 = .ok (.aaload, 1) := dk_50 (dk_at dksX0_roundBridged_0 15 rfl rfl)
theorem dX0_roundBridged_16 : decode cX0_roundBridged 16 = .ok (.iload 4, 2) := dk_21 4 (dk_at dksX0_roundBridged_0 16 rfl rfl)
theorem dX0_roundBridged_18 : decode cX0_roundBridged 18 = .ok (.iaload, 1) := dk_46 (dk_at dksX0_roundBridged_0 18 rfl rfl)
theorem dX0_roundBridged_19 : decode cX0_roundBridged 19 = .ok (.iconst 0, 1) := dk_3 (dk_at dksX0_roundBridged_0 19 rfl rfl)
theorem dX0_roundBridged_20 : decode cX0_roundBridged 20 = .ok (.invokevirtual 186, 3) := dk_182 0 186 (dk_at dksX0_roundBridged_0 20 rfl rfl)
theorem dX0_roundBridged_23 : decode cX0_roundBridged 23 = .ok (.aload_n 0, 1) := dk_42 (dk_at dksX0_roundBridged_0 23 rfl rfl)
theorem dX0_roundBridged_24 : decode cX0_roundBridged 24 = .ok (.iload_n 1, 1) := dk_27 (dk_at dksX0_roundBridged_1 0 rfl rfl)
theorem dX0_roundBridged_25 : decode cX0_roundBridged 25 = .ok (.iload_n 2, 1) := dk_28 (dk_at dksX0_roundBridged_1 1 rfl rfl)
theorem dX0_roundBridged_26 : decode cX0_roundBridged 26 = .ok (.invokevirtual 312, 3) := dk_182 1 56 (dk_at dksX0_roundBridged_1 2 rfl rfl)
theorem dX0_roundBridged_29 : decode cX0_roundBridged 29 = .ok (.istore 5, 2) := dk_54 5 (dk_at dksX0_roundBridged_1 5 rfl rfl)
theorem dX0_roundBridged_31 : decode cX0_roundBridged 31 = .ok (.aload_n 0, 1) := dk_42 (dk_at dksX0_roundBridged_1 7 rfl rfl)
theorem dX0_roundBridged_32 : decode cX0_roundBridged 32 = .ok (.getfield 61, 3) := dk_180 0 61 (dk_at dksX0_roundBridged_1 8 rfl rfl)
theorem dX0_roundBridged_35 : decode cX0_roundBridged 35 = .ok (.iload_n 3, 1) := dk_29 (dk_at dksX0_roundBridged_1 11 rfl rfl)
theorem dX0_roundBridged_36 : decode cX0_roundBridged 36 = .ok (.iload 4, 2) := dk_21 4 (dk_at dksX0_roundBridged_1 12 rfl rfl)
theorem dX0_roundBridged_38 : decode cX0_roundBridged 38 = .ok (.aload_n 0, 1) := dk_42 (dk_at dksX0_roundBridged_1 14 rfl rfl)
theorem dX0_roundBridged_39 : decode cX0_roundBridged 39 = .ok (.getfield 61, 3) := dk_180 0 61 (dk_at dksX0_roundBridged_1 15 rfl rfl)
theorem dX0_roundBridged_42 : decode cX0_roundBridged 42 = .ok (.getfield 183, 3) := dk_180 0 183 (dk_at dksX0_roundBridged_1 18 rfl rfl)
theorem dX0_roundBridged_45 : decode cX0_roundBridged 45 = .ok (.iload_n 3, 1) := dk_29 (dk_at dksX0_roundBridged_1 21 rfl rfl)
theorem dX0_roundBridged_46 : decode cX0_roundBridged 46 = .ok (.aaload, 1) := dk_50 (dk_at dksX0_roundBridged_1 22 rfl rfl)
theorem dX0_roundBridged_47 : decode cX0_roundBridged 47 = .ok (.iload 4, 2) := dk_21 4 (dk_at dksX0_roundBridged_2 0 rfl rfl)
theorem dX0_roundBridged_49 : decode cX0_roundBridged 49 = .ok (.iaload, 1) := dk_46 (dk_at dksX0_roundBridged_2 2 rfl rfl)
theorem dX0_roundBridged_50 : decode cX0_roundBridged 50 = .ok (.iconst 1, 1) := dk_4 (dk_at dksX0_roundBridged_2 3 rfl rfl)
theorem dX0_roundBridged_51 : decode cX0_roundBridged 51 = .ok (.invokevirtual 186, 3) := dk_182 0 186 (dk_at dksX0_roundBridged_2 4 rfl rfl)
theorem dX0_roundBridged_54 : decode cX0_roundBridged 54 = .ok (.iload 5, 2) := dk_21 5 (dk_at dksX0_roundBridged_2 7 rfl rfl)
theorem dX0_roundBridged_56 : decode cX0_roundBridged 56 = .ok (.ireturn, 1) := dk_172 (dk_at dksX0_roundBridged_2 9 rfl rfl)
theorem dX0_roundBridged_57 : decode cX0_roundBridged 57 = .ok (.astore 6, 2) := dk_58 6 (dk_at dksX0_roundBridged_2 10 rfl rfl)
theorem dX0_roundBridged_59 : decode cX0_roundBridged 59 = .ok (.aload_n 0, 1) := dk_42 (dk_at dksX0_roundBridged_2 12 rfl rfl)
theorem dX0_roundBridged_60 : decode cX0_roundBridged 60 = .ok (.getfield 61, 3) := dk_180 0 61 (dk_at dksX0_roundBridged_2 13 rfl rfl)
theorem dX0_roundBridged_63 : decode cX0_roundBridged 63 = .ok (.iload_n 3, 1) := dk_29 (dk_at dksX0_roundBridged_2 16 rfl rfl)
theorem dX0_roundBridged_64 : decode cX0_roundBridged 64 = .ok (.iload 4, 2) := dk_21 4 (dk_at dksX0_roundBridged_2 17 rfl rfl)
theorem dX0_roundBridged_66 : decode cX0_roundBridged 66 = .ok (.aload_n 0, 1) := dk_42 (dk_at dksX0_roundBridged_2 19 rfl rfl)
theorem dX0_roundBridged_67 : decode cX0_roundBridged 67 = .ok (.getfield 61, 3) := dk_180 0 61 (dk_at dksX0_roundBridged_2 20 rfl rfl)
theorem dX0_roundBridged_70 : decode cX0_roundBridged 70 = .ok (.getfield 183, 3) := dk_180 0 183 (dk_at dksX0_roundBridged_3 0 rfl rfl)
theorem dX0_roundBridged_73 : decode cX0_roundBridged 73 = .ok (.iload_n 3, 1) := dk_29 (dk_at dksX0_roundBridged_3 3 rfl rfl)
theorem dX0_roundBridged_74 : decode cX0_roundBridged 74 = .ok (.aaload, 1) := dk_50 (dk_at dksX0_roundBridged_3 4 rfl rfl)
theorem dX0_roundBridged_75 : decode cX0_roundBridged 75 = .ok (.iload 4, 2) := dk_21 4 (dk_at dksX0_roundBridged_3 5 rfl rfl)
theorem dX0_roundBridged_77 : decode cX0_roundBridged 77 = .ok (.iaload, 1) := dk_46 (dk_at dksX0_roundBridged_3 7 rfl rfl)
theorem dX0_roundBridged_78 : decode cX0_roundBridged 78 = .ok (.iconst 1, 1) := dk_4 (dk_at dksX0_roundBridged_3 8 rfl rfl)
theorem dX0_roundBridged_79 : decode cX0_roundBridged 79 = .ok (.invokevirtual 186, 3) := dk_182 0 186 (dk_at dksX0_roundBridged_3 9 rfl rfl)
theorem dX0_roundBridged_82 : decode cX0_roundBridged 82 = .ok (.aload 6, 2) := dk_25 6 (dk_at dksX0_roundBridged_3 12 rfl rfl)
theorem dX0_roundBridged_84 : decode cX0_roundBridged 84 = .ok (.athrow, 1) := dk_191 (dk_at dksX0_roundBridged_3 14 rfl rfl)
abbrev cX0_worth : ByteArray := prog_1_method_80_code
def yX0_worth : MethodName := ⟨RX0, "worth", "(II)I"⟩
def dkwX0_worth_2 : List UInt8 := [182, 0, 142, 167, 0, 8, 21, 4, 21, 5, 100, 172]
abbrev dktX0_worth_2 : List UInt8 := dkwX0_worth_2 ++ []
def dkwX0_worth_1 : List UInt8 := [54, 4, 42, 27, 28, 182, 1, 96, 54, 5, 21, 4, 2, 159, 0, 9, 21, 5, 2, 160, 0, 11, 42, 6]
abbrev dktX0_worth_1 : List UInt8 := dkwX0_worth_1 ++ dktX0_worth_2
def dkwX0_worth_0 : List UInt8 := [42, 27, 28, 182, 1, 53, 62, 29, 2, 159, 0, 9, 42, 29, 182, 0, 142, 172, 42, 27, 28, 182, 1, 56]
abbrev dktX0_worth_0 : List UInt8 := dkwX0_worth_0 ++ dktX0_worth_1
theorem dksX0_worth_0 : cX0_worth.data.toList.drop 0 = dktX0_worth_0 := by decide +kernel
theorem dksX0_worth_1 : cX0_worth.data.toList.drop 24 = dktX0_worth_1 := dk_seg dksX0_worth_0 24 rfl rfl
theorem dksX0_worth_2 : cX0_worth.data.toList.drop 48 = dktX0_worth_2 := dk_seg dksX0_worth_1 24 rfl rfl
theorem dX0_worth_0 : decode cX0_worth 0 = .ok (.aload_n 0, 1) := dk_42 (dk_at dksX0_worth_0 0 rfl rfl)
theorem dX0_worth_1 : decode cX0_worth 1 = .ok (.iload_n 1, 1) := dk_27 (dk_at dksX0_worth_0 1 rfl rfl)
theorem dX0_worth_2 : decode cX0_worth 2 = .ok (.iload_n 2, 1) := dk_28 (dk_at dksX0_worth_0 2 rfl rfl)
theorem dX0_worth_3 : decode cX0_worth 3 = .ok (.invokevirtual 309, 3) := dk_182 1 53 (dk_at dksX0_worth_0 3 rfl rfl)
theorem dX0_worth_6 : decode cX0_worth 6 = .ok (.istore_n 3, 1) := dk_62 (dk_at dksX0_worth_0 6 rfl rfl)
theorem dX0_worth_7 : decode cX0_worth 7 = .ok (.iload_n 3, 1) := dk_29 (dk_at dksX0_worth_0 7 rfl rfl)
theorem dX0_worth_8 : decode cX0_worth 8 = .ok (.iconst (-1), 1) := dk_2 (dk_at dksX0_worth_0 8 rfl rfl)
theorem dX0_worth_9 : decode cX0_worth 9 = .ok (.if_icmp .eq 9, 3) := dk_159 0 9 (dk_at dksX0_worth_0 9 rfl rfl)
theorem dX0_worth_12 : decode cX0_worth 12 = .ok (.aload_n 0, 1) := dk_42 (dk_at dksX0_worth_0 12 rfl rfl)
theorem dX0_worth_13 : decode cX0_worth 13 = .ok (.iload_n 3, 1) := dk_29 (dk_at dksX0_worth_0 13 rfl rfl)
theorem dX0_worth_14 : decode cX0_worth 14 = .ok (.invokevirtual 142, 3) := dk_182 0 142 (dk_at dksX0_worth_0 14 rfl rfl)
theorem dX0_worth_17 : decode cX0_worth 17 = .ok (.ireturn, 1) := dk_172 (dk_at dksX0_worth_0 17 rfl rfl)
theorem dX0_worth_18 : decode cX0_worth 18 = .ok (.aload_n 0, 1) := dk_42 (dk_at dksX0_worth_0 18 rfl rfl)
theorem dX0_worth_19 : decode cX0_worth 19 = .ok (.iload_n 1, 1) := dk_27 (dk_at dksX0_worth_0 19 rfl rfl)
theorem dX0_worth_20 : decode cX0_worth 20 = .ok (.iload_n 2, 1) := dk_28 (dk_at dksX0_worth_0 20 rfl rfl)
theorem dX0_worth_21 : decode cX0_worth 21 = .ok (.invokevirtual 312, 3) := dk_182 1 56 (dk_at dksX0_worth_0 21 rfl rfl)
theorem dX0_worth_24 : decode cX0_worth 24 = .ok (.istore 4, 2) := dk_54 4 (dk_at dksX0_worth_1 0 rfl rfl)
theorem dX0_worth_26 : decode cX0_worth 26 = .ok (.aload_n 0, 1) := dk_42 (dk_at dksX0_worth_1 2 rfl rfl)
theorem dX0_worth_27 : decode cX0_worth 27 = .ok (.iload_n 1, 1) := dk_27 (dk_at dksX0_worth_1 3 rfl rfl)
theorem dX0_worth_28 : decode cX0_worth 28 = .ok (.iload_n 2, 1) := dk_28 (dk_at dksX0_worth_1 4 rfl rfl)
theorem dX0_worth_29 : decode cX0_worth 29 = .ok (.invokevirtual 352, 3) := dk_182 1 96 (dk_at dksX0_worth_1 5 rfl rfl)
theorem dX0_worth_32 : decode cX0_worth 32 = .ok (.istore 5, 2) := dk_54 5 (dk_at dksX0_worth_1 8 rfl rfl)
theorem dX0_worth_34 : decode cX0_worth 34 = .ok (.iload 4, 2) := dk_21 4 (dk_at dksX0_worth_1 10 rfl rfl)
theorem dX0_worth_36 : decode cX0_worth 36 = .ok (.iconst (-1), 1) := dk_2 (dk_at dksX0_worth_1 12 rfl rfl)
theorem dX0_worth_37 : decode cX0_worth 37 = .ok (.if_icmp .eq 9, 3) := dk_159 0 9 (dk_at dksX0_worth_1 13 rfl rfl)
theorem dX0_worth_40 : decode cX0_worth 40 = .ok (.iload 5, 2) := dk_21 5 (dk_at dksX0_worth_1 16 rfl rfl)
theorem dX0_worth_42 : decode cX0_worth 42 = .ok (.iconst (-1), 1) := dk_2 (dk_at dksX0_worth_1 18 rfl rfl)
theorem dX0_worth_43 : decode cX0_worth 43 = .ok (.if_icmp .ne 11, 3) := dk_160 0 11 (dk_at dksX0_worth_1 19 rfl rfl)
theorem dX0_worth_46 : decode cX0_worth 46 = .ok (.aload_n 0, 1) := dk_42 (dk_at dksX0_worth_1 22 rfl rfl)
theorem dX0_worth_47 : decode cX0_worth 47 = .ok (.iconst 3, 1) := dk_6 (dk_at dksX0_worth_1 23 rfl rfl)
theorem dX0_worth_48 : decode cX0_worth 48 = .ok (.invokevirtual 142, 3) := dk_182 0 142 (dk_at dksX0_worth_2 0 rfl rfl)
theorem dX0_worth_51 : decode cX0_worth 51 = .ok (.goto 8, 3) := dk_167 0 8 (dk_at dksX0_worth_2 3 rfl rfl)
theorem dX0_worth_54 : decode cX0_worth 54 = .ok (.iload 4, 2) := dk_21 4 (dk_at dksX0_worth_2 6 rfl rfl)
theorem dX0_worth_56 : decode cX0_worth 56 = .ok (.iload 5, 2) := dk_21 5 (dk_at dksX0_worth_2 8 rfl rfl)
theorem dX0_worth_58 : decode cX0_worth 58 = .ok (.isub, 1) := dk_100 (dk_at dksX0_worth_2 10 rfl rfl)
theorem dX0_worth_59 : decode cX0_worth 59 = .ok (.ireturn, 1) := dk_172 (dk_at dksX0_worth_2 11 rfl rfl)
abbrev cX0_reach : ByteArray := prog_1_method_82_code
def yX0_reach : MethodName := ⟨RX0, "reach", "(I)I"⟩
def dkwX0_reach_1 : List UInt8 := [180, 0, 113, 4, 50, 27, 46, 182, 1, 99, 172]
abbrev dktX0_reach_1 : List UInt8 := dkwX0_reach_1 ++ []
def dkwX0_reach_0 : List UInt8 := [42, 27, 182, 0, 161, 154, 0, 9, 42, 3, 182, 0, 142, 172, 42, 27, 182, 0, 239, 42, 42, 180, 0, 61]
abbrev dktX0_reach_0 : List UInt8 := dkwX0_reach_0 ++ dktX0_reach_1
theorem dksX0_reach_0 : cX0_reach.data.toList.drop 0 = dktX0_reach_0 := by decide +kernel
theorem dksX0_reach_1 : cX0_reach.data.toList.drop 24 = dktX0_reach_1 := dk_seg dksX0_reach_0 24 rfl rfl
theorem dX0_reach_0 : decode cX0_reach 0 = .ok (.aload_n 0, 1) := dk_42 (dk_at dksX0_reach_0 0 rfl rfl)
theorem dX0_reach_1 : decode cX0_reach 1 = .ok (.iload_n 1, 1) := dk_27 (dk_at dksX0_reach_0 1 rfl rfl)
theorem dX0_reach_2 : decode cX0_reach 2 = .ok (.invokevirtual 161, 3) := dk_182 0 161 (dk_at dksX0_reach_0 2 rfl rfl)
theorem dX0_reach_5 : decode cX0_reach 5 = .ok (.ifCond .ne 9, 3) := dk_154 0 9 (dk_at dksX0_reach_0 5 rfl rfl)
theorem dX0_reach_8 : decode cX0_reach 8 = .ok (.aload_n 0, 1) := dk_42 (dk_at dksX0_reach_0 8 rfl rfl)
theorem dX0_reach_9 : decode cX0_reach 9 = .ok (.iconst 0, 1) := dk_3 (dk_at dksX0_reach_0 9 rfl rfl)
theorem dX0_reach_10 : decode cX0_reach 10 = .ok (.invokevirtual 142, 3) := dk_182 0 142 (dk_at dksX0_reach_0 10 rfl rfl)
theorem dX0_reach_13 : decode cX0_reach 13 = .ok (.ireturn, 1) := dk_172 (dk_at dksX0_reach_0 13 rfl rfl)
theorem dX0_reach_14 : decode cX0_reach 14 = .ok (.aload_n 0, 1) := dk_42 (dk_at dksX0_reach_0 14 rfl rfl)
theorem dX0_reach_15 : decode cX0_reach 15 = .ok (.iload_n 1, 1) := dk_27 (dk_at dksX0_reach_0 15 rfl rfl)
theorem dX0_reach_16 : decode cX0_reach 16 = .ok (.invokevirtual 239, 3) := dk_182 0 239 (dk_at dksX0_reach_0 16 rfl rfl)
theorem dX0_reach_19 : decode cX0_reach 19 = .ok (.aload_n 0, 1) := dk_42 (dk_at dksX0_reach_0 19 rfl rfl)
theorem dX0_reach_20 : decode cX0_reach 20 = .ok (.aload_n 0, 1) := dk_42 (dk_at dksX0_reach_0 20 rfl rfl)
theorem dX0_reach_21 : decode cX0_reach 21 = .ok (.getfield 61, 3) := dk_180 0 61 (dk_at dksX0_reach_0 21 rfl rfl)
theorem dX0_reach_24 : decode cX0_reach 24 = .ok (.getfield 113, 3) := dk_180 0 113 (dk_at dksX0_reach_1 0 rfl rfl)
theorem dX0_reach_27 : decode cX0_reach 27 = .ok (.iconst 1, 1) := dk_4 (dk_at dksX0_reach_1 3 rfl rfl)
theorem dX0_reach_28 : decode cX0_reach 28 = .ok (.aaload, 1) := dk_50 (dk_at dksX0_reach_1 4 rfl rfl)
theorem dX0_reach_29 : decode cX0_reach 29 = .ok (.iload_n 1, 1) := dk_27 (dk_at dksX0_reach_1 5 rfl rfl)
theorem dX0_reach_30 : decode cX0_reach 30 = .ok (.iaload, 1) := dk_46 (dk_at dksX0_reach_1 6 rfl rfl)
theorem dX0_reach_31 : decode cX0_reach 31 = .ok (.invokevirtual 355, 3) := dk_182 1 99 (dk_at dksX0_reach_1 7 rfl rfl)
theorem dX0_reach_34 : decode cX0_reach 34 = .ok (.ireturn, 1) := dk_172 (dk_at dksX0_reach_1 10 rfl rfl)
abbrev cX0_reachFrom : ByteArray := prog_1_method_81_code
def yX0_reachFrom : MethodName := ⟨RX0, "reachFrom", "(I)I"⟩
def dkwX0_reachFrom_1 : List UInt8 := [4, 29, 120, 167, 0, 4, 3, 128, 61, 132, 3, 1, 167, 255, 224, 28, 172]
abbrev dktX0_reachFrom_1 : List UInt8 := dkwX0_reachFrom_1 ++ []
def dkwX0_reachFrom_0 : List UInt8 := [3, 61, 3, 62, 29, 16, 7, 162, 0, 32, 28, 42, 180, 0, 92, 27, 50, 29, 46, 18, 196, 162, 0, 9]
abbrev dktX0_reachFrom_0 : List UInt8 := dkwX0_reachFrom_0 ++ dktX0_reachFrom_1
theorem dksX0_reachFrom_0 : cX0_reachFrom.data.toList.drop 0 = dktX0_reachFrom_0 := by decide +kernel
theorem dksX0_reachFrom_1 : cX0_reachFrom.data.toList.drop 24 = dktX0_reachFrom_1 := dk_seg dksX0_reachFrom_0 24 rfl rfl
theorem dX0_reachFrom_0 : decode cX0_reachFrom 0 = .ok (.iconst 0, 1) := dk_3 (dk_at dksX0_reachFrom_0 0 rfl rfl)
theorem dX0_reachFrom_1 : decode cX0_reachFrom 1 = .ok (.istore_n 2, 1) := dk_61 (dk_at dksX0_reachFrom_0 1 rfl rfl)
theorem dX0_reachFrom_2 : decode cX0_reachFrom 2 = .ok (.iconst 0, 1) := dk_3 (dk_at dksX0_reachFrom_0 2 rfl rfl)
theorem dX0_reachFrom_3 : decode cX0_reachFrom 3 = .ok (.istore_n 3, 1) := dk_62 (dk_at dksX0_reachFrom_0 3 rfl rfl)
theorem dX0_reachFrom_4 : decode cX0_reachFrom 4 = .ok (.iload_n 3, 1) := dk_29 (dk_at dksX0_reachFrom_0 4 rfl rfl)
theorem dX0_reachFrom_5 : decode cX0_reachFrom 5 = .ok (.bipush 7, 2) := dk_16 7 (dk_at dksX0_reachFrom_0 5 rfl rfl)
theorem dX0_reachFrom_7 : decode cX0_reachFrom 7 = .ok (.if_icmp .ge 32, 3) := dk_162 0 32 (dk_at dksX0_reachFrom_0 7 rfl rfl)
theorem dX0_reachFrom_10 : decode cX0_reachFrom 10 = .ok (.iload_n 2, 1) := dk_28 (dk_at dksX0_reachFrom_0 10 rfl rfl)
theorem dX0_reachFrom_11 : decode cX0_reachFrom 11 = .ok (.aload_n 0, 1) := dk_42 (dk_at dksX0_reachFrom_0 11 rfl rfl)
theorem dX0_reachFrom_12 : decode cX0_reachFrom 12 = .ok (.getfield 92, 3) := dk_180 0 92 (dk_at dksX0_reachFrom_0 12 rfl rfl)
theorem dX0_reachFrom_15 : decode cX0_reachFrom 15 = .ok (.iload_n 1, 1) := dk_27 (dk_at dksX0_reachFrom_0 15 rfl rfl)
theorem dX0_reachFrom_16 : decode cX0_reachFrom 16 = .ok (.aaload, 1) := dk_50 (dk_at dksX0_reachFrom_0 16 rfl rfl)
theorem dX0_reachFrom_17 : decode cX0_reachFrom 17 = .ok (.iload_n 3, 1) := dk_29 (dk_at dksX0_reachFrom_0 17 rfl rfl)
theorem dX0_reachFrom_18 : decode cX0_reachFrom 18 = .ok (.iaload, 1) := dk_46 (dk_at dksX0_reachFrom_0 18 rfl rfl)
theorem dX0_reachFrom_19 : decode cX0_reachFrom 19 = .ok (.ldc 196, 2) := dk_18 196 (dk_at dksX0_reachFrom_0 19 rfl rfl)
theorem dX0_reachFrom_21 : decode cX0_reachFrom 21 = .ok (.if_icmp .ge 9, 3) := dk_162 0 9 (dk_at dksX0_reachFrom_0 21 rfl rfl)
theorem dX0_reachFrom_24 : decode cX0_reachFrom 24 = .ok (.iconst 1, 1) := dk_4 (dk_at dksX0_reachFrom_1 0 rfl rfl)
theorem dX0_reachFrom_25 : decode cX0_reachFrom 25 = .ok (.iload_n 3, 1) := dk_29 (dk_at dksX0_reachFrom_1 1 rfl rfl)
theorem dX0_reachFrom_26 : decode cX0_reachFrom 26 = .ok (.ishl, 1) := dk_120 (dk_at dksX0_reachFrom_1 2 rfl rfl)
theorem dX0_reachFrom_27 : decode cX0_reachFrom 27 = .ok (.goto 4, 3) := dk_167 0 4 (dk_at dksX0_reachFrom_1 3 rfl rfl)
theorem dX0_reachFrom_30 : decode cX0_reachFrom 30 = .ok (.iconst 0, 1) := dk_3 (dk_at dksX0_reachFrom_1 6 rfl rfl)
theorem dX0_reachFrom_31 : decode cX0_reachFrom 31 = .ok (.ior, 1) := dk_128 (dk_at dksX0_reachFrom_1 7 rfl rfl)
theorem dX0_reachFrom_32 : decode cX0_reachFrom 32 = .ok (.istore_n 2, 1) := dk_61 (dk_at dksX0_reachFrom_1 8 rfl rfl)
theorem dX0_reachFrom_33 : decode cX0_reachFrom 33 = .ok (.iinc 3 1, 3) := dk_132 3 1 (dk_at dksX0_reachFrom_1 9 rfl rfl)
theorem dX0_reachFrom_36 : decode cX0_reachFrom 36 = .ok (.goto (-32), 3) := dk_167 255 224 (dk_at dksX0_reachFrom_1 12 rfl rfl)
theorem dX0_reachFrom_39 : decode cX0_reachFrom 39 = .ok (.iload_n 2, 1) := dk_28 (dk_at dksX0_reachFrom_1 15 rfl rfl)
theorem dX0_reachFrom_40 : decode cX0_reachFrom 40 = .ok (.ireturn, 1) := dk_172 (dk_at dksX0_reachFrom_1 16 rfl rfl)
abbrev cX0_middle : ByteArray := prog_1_method_85_code
def yX0_middle : MethodName := ⟨RX0, "middle", "(I)I"⟩
def dkwX0_middle_1 : List UInt8 := [182, 0, 142, 172]
abbrev dktX0_middle_1 : List UInt8 := dkwX0_middle_1 ++ []
def dkwX0_middle_0 : List UInt8 := [42, 27, 182, 0, 161, 153, 0, 15, 42, 42, 27, 182, 1, 111, 182, 0, 223, 167, 0, 8, 42, 3]
abbrev dktX0_middle_0 : List UInt8 := dkwX0_middle_0 ++ dktX0_middle_1
theorem dksX0_middle_0 : cX0_middle.data.toList.drop 0 = dktX0_middle_0 := by decide +kernel
theorem dksX0_middle_1 : cX0_middle.data.toList.drop 22 = dktX0_middle_1 := dk_seg dksX0_middle_0 22 rfl rfl
theorem dX0_middle_0 : decode cX0_middle 0 = .ok (.aload_n 0, 1) := dk_42 (dk_at dksX0_middle_0 0 rfl rfl)
theorem dX0_middle_1 : decode cX0_middle 1 = .ok (.iload_n 1, 1) := dk_27 (dk_at dksX0_middle_0 1 rfl rfl)
theorem dX0_middle_2 : decode cX0_middle 2 = .ok (.invokevirtual 161, 3) := dk_182 0 161 (dk_at dksX0_middle_0 2 rfl rfl)
theorem dX0_middle_5 : decode cX0_middle 5 = .ok (.ifCond .eq 15, 3) := dk_153 0 15 (dk_at dksX0_middle_0 5 rfl rfl)
theorem dX0_middle_8 : decode cX0_middle 8 = .ok (.aload_n 0, 1) := dk_42 (dk_at dksX0_middle_0 8 rfl rfl)
theorem dX0_middle_9 : decode cX0_middle 9 = .ok (.aload_n 0, 1) := dk_42 (dk_at dksX0_middle_0 9 rfl rfl)
theorem dX0_middle_10 : decode cX0_middle 10 = .ok (.iload_n 1, 1) := dk_27 (dk_at dksX0_middle_0 10 rfl rfl)
theorem dX0_middle_11 : decode cX0_middle 11 = .ok (.invokevirtual 367, 3) := dk_182 1 111 (dk_at dksX0_middle_0 11 rfl rfl)
theorem dX0_middle_14 : decode cX0_middle 14 = .ok (.invokevirtual 223, 3) := dk_182 0 223 (dk_at dksX0_middle_0 14 rfl rfl)
theorem dX0_middle_17 : decode cX0_middle 17 = .ok (.goto 8, 3) := dk_167 0 8 (dk_at dksX0_middle_0 17 rfl rfl)
theorem dX0_middle_20 : decode cX0_middle 20 = .ok (.aload_n 0, 1) := dk_42 (dk_at dksX0_middle_0 20 rfl rfl)
theorem dX0_middle_21 : decode cX0_middle 21 = .ok (.iconst 0, 1) := dk_3 (dk_at dksX0_middle_0 21 rfl rfl)
theorem dX0_middle_22 : decode cX0_middle 22 = .ok (.invokevirtual 142, 3) := dk_182 0 142 (dk_at dksX0_middle_1 0 rfl rfl)
theorem dX0_middle_25 : decode cX0_middle 25 = .ok (.ireturn, 1) := dk_172 (dk_at dksX0_middle_1 3 rfl rfl)
abbrev cX0_middleOf : ByteArray := prog_1_method_84_code
def yX0_middleOf : MethodName := ⟨RX0, "middleOf", "(I)I"⟩
def dkwX0_middleOf_4 : List UInt8 := [167, 255, 184, 29, 172]
abbrev dktX0_middleOf_4 : List UInt8 := dkwX0_middleOf_4 ++ []
def dkwX0_middleOf_3 : List UInt8 := [4, 167, 0, 4, 3, 54, 5, 21, 5, 153, 0, 8, 21, 4, 167, 0, 4, 29, 62, 132, 4, 1]
abbrev dktX0_middleOf_3 : List UInt8 := dkwX0_middleOf_3 ++ dktX0_middleOf_4
def dkwX0_middleOf_2 : List UInt8 := [154, 0, 28, 29, 2, 159, 0, 19, 42, 21, 4, 28, 182, 1, 108, 42, 29, 28, 182, 1, 108, 162, 0, 7]
abbrev dktX0_middleOf_2 : List UInt8 := dkwX0_middleOf_2 ++ dktX0_middleOf_3
def dkwX0_middleOf_1 : List UInt8 := [162, 0, 71, 28, 21, 4, 184, 1, 2, 153, 0, 41, 28, 42, 21, 4, 182, 1, 99, 2, 130, 126]
abbrev dktX0_middleOf_1 : List UInt8 := dkwX0_middleOf_1 ++ dktX0_middleOf_2
def dkwX0_middleOf_0 : List UInt8 := [42, 27, 182, 0, 239, 42, 180, 0, 61, 182, 1, 105, 61, 2, 62, 3, 54, 4, 21, 4, 16, 7]
abbrev dktX0_middleOf_0 : List UInt8 := dkwX0_middleOf_0 ++ dktX0_middleOf_1
theorem dksX0_middleOf_0 : cX0_middleOf.data.toList.drop 0 = dktX0_middleOf_0 := by decide +kernel
theorem dksX0_middleOf_1 : cX0_middleOf.data.toList.drop 22 = dktX0_middleOf_1 := dk_seg dksX0_middleOf_0 22 rfl rfl
theorem dksX0_middleOf_2 : cX0_middleOf.data.toList.drop 44 = dktX0_middleOf_2 := dk_seg dksX0_middleOf_1 22 rfl rfl
theorem dksX0_middleOf_3 : cX0_middleOf.data.toList.drop 68 = dktX0_middleOf_3 := dk_seg dksX0_middleOf_2 24 rfl rfl
theorem dksX0_middleOf_4 : cX0_middleOf.data.toList.drop 90 = dktX0_middleOf_4 := dk_seg dksX0_middleOf_3 22 rfl rfl
theorem dX0_middleOf_0 : decode cX0_middleOf 0 = .ok (.aload_n 0, 1) := dk_42 (dk_at dksX0_middleOf_0 0 rfl rfl)
theorem dX0_middleOf_1 : decode cX0_middleOf 1 = .ok (.iload_n 1, 1) := dk_27 (dk_at dksX0_middleOf_0 1 rfl rfl)
theorem dX0_middleOf_2 : decode cX0_middleOf 2 = .ok (.invokevirtual 239, 3) := dk_182 0 239 (dk_at dksX0_middleOf_0 2 rfl rfl)
theorem dX0_middleOf_5 : decode cX0_middleOf 5 = .ok (.aload_n 0, 1) := dk_42 (dk_at dksX0_middleOf_0 5 rfl rfl)
theorem dX0_middleOf_6 : decode cX0_middleOf 6 = .ok (.getfield 61, 3) := dk_180 0 61 (dk_at dksX0_middleOf_0 6 rfl rfl)
theorem dX0_middleOf_9 : decode cX0_middleOf 9 = .ok (.invokevirtual 361, 3) := dk_182 1 105 (dk_at dksX0_middleOf_0 9 rfl rfl)
theorem dX0_middleOf_12 : decode cX0_middleOf 12 = .ok (.istore_n 2, 1) := dk_61 (dk_at dksX0_middleOf_0 12 rfl rfl)
theorem dX0_middleOf_13 : decode cX0_middleOf 13 = .ok (.iconst (-1), 1) := dk_2 (dk_at dksX0_middleOf_0 13 rfl rfl)
theorem dX0_middleOf_14 : decode cX0_middleOf 14 = .ok (.istore_n 3, 1) := dk_62 (dk_at dksX0_middleOf_0 14 rfl rfl)
theorem dX0_middleOf_15 : decode cX0_middleOf 15 = .ok (.iconst 0, 1) := dk_3 (dk_at dksX0_middleOf_0 15 rfl rfl)
theorem dX0_middleOf_16 : decode cX0_middleOf 16 = .ok (.istore 4, 2) := dk_54 4 (dk_at dksX0_middleOf_0 16 rfl rfl)
theorem dX0_middleOf_18 : decode cX0_middleOf 18 = .ok (.iload 4, 2) := dk_21 4 (dk_at dksX0_middleOf_0 18 rfl rfl)
theorem dX0_middleOf_20 : decode cX0_middleOf 20 = .ok (.bipush 7, 2) := dk_16 7 (dk_at dksX0_middleOf_0 20 rfl rfl)
theorem dX0_middleOf_22 : decode cX0_middleOf 22 = .ok (.if_icmp .ge 71, 3) := dk_162 0 71 (dk_at dksX0_middleOf_1 0 rfl rfl)
theorem dX0_middleOf_25 : decode cX0_middleOf 25 = .ok (.iload_n 2, 1) := dk_28 (dk_at dksX0_middleOf_1 3 rfl rfl)
theorem dX0_middleOf_26 : decode cX0_middleOf 26 = .ok (.iload 4, 2) := dk_21 4 (dk_at dksX0_middleOf_1 4 rfl rfl)
theorem dX0_middleOf_28 : decode cX0_middleOf 28 = .ok (.invokestatic 258, 3) := dk_184 1 2 (dk_at dksX0_middleOf_1 6 rfl rfl)
theorem dX0_middleOf_31 : decode cX0_middleOf 31 = .ok (.ifCond .eq 41, 3) := dk_153 0 41 (dk_at dksX0_middleOf_1 9 rfl rfl)
theorem dX0_middleOf_34 : decode cX0_middleOf 34 = .ok (.iload_n 2, 1) := dk_28 (dk_at dksX0_middleOf_1 12 rfl rfl)
theorem dX0_middleOf_35 : decode cX0_middleOf 35 = .ok (.aload_n 0, 1) := dk_42 (dk_at dksX0_middleOf_1 13 rfl rfl)
theorem dX0_middleOf_36 : decode cX0_middleOf 36 = .ok (.iload 4, 2) := dk_21 4 (dk_at dksX0_middleOf_1 14 rfl rfl)
theorem dX0_middleOf_38 : decode cX0_middleOf 38 = .ok (.invokevirtual 355, 3) := dk_182 1 99 (dk_at dksX0_middleOf_1 16 rfl rfl)
theorem dX0_middleOf_41 : decode cX0_middleOf 41 = .ok (.iconst (-1), 1) := dk_2 (dk_at dksX0_middleOf_1 19 rfl rfl)
theorem dX0_middleOf_42 : decode cX0_middleOf 42 = .ok (.ixor, 1) := dk_130 (dk_at dksX0_middleOf_1 20 rfl rfl)
theorem dX0_middleOf_43 : decode cX0_middleOf 43 = .ok (.iand, 1) := dk_126 (dk_at dksX0_middleOf_1 21 rfl rfl)
theorem dX0_middleOf_44 : decode cX0_middleOf 44 = .ok (.ifCond .ne 28, 3) := dk_154 0 28 (dk_at dksX0_middleOf_2 0 rfl rfl)
theorem dX0_middleOf_47 : decode cX0_middleOf 47 = .ok (.iload_n 3, 1) := dk_29 (dk_at dksX0_middleOf_2 3 rfl rfl)
theorem dX0_middleOf_48 : decode cX0_middleOf 48 = .ok (.iconst (-1), 1) := dk_2 (dk_at dksX0_middleOf_2 4 rfl rfl)
theorem dX0_middleOf_49 : decode cX0_middleOf 49 = .ok (.if_icmp .eq 19, 3) := dk_159 0 19 (dk_at dksX0_middleOf_2 5 rfl rfl)
theorem dX0_middleOf_52 : decode cX0_middleOf 52 = .ok (.aload_n 0, 1) := dk_42 (dk_at dksX0_middleOf_2 8 rfl rfl)
theorem dX0_middleOf_53 : decode cX0_middleOf 53 = .ok (.iload 4, 2) := dk_21 4 (dk_at dksX0_middleOf_2 9 rfl rfl)
theorem dX0_middleOf_55 : decode cX0_middleOf 55 = .ok (.iload_n 2, 1) := dk_28 (dk_at dksX0_middleOf_2 11 rfl rfl)
theorem dX0_middleOf_56 : decode cX0_middleOf 56 = .ok (.invokevirtual 364, 3) := dk_182 1 108 (dk_at dksX0_middleOf_2 12 rfl rfl)
theorem dX0_middleOf_59 : decode cX0_middleOf 59 = .ok (.aload_n 0, 1) := dk_42 (dk_at dksX0_middleOf_2 15 rfl rfl)
theorem dX0_middleOf_60 : decode cX0_middleOf 60 = .ok (.iload_n 3, 1) := dk_29 (dk_at dksX0_middleOf_2 16 rfl rfl)
theorem dX0_middleOf_61 : decode cX0_middleOf 61 = .ok (.iload_n 2, 1) := dk_28 (dk_at dksX0_middleOf_2 17 rfl rfl)
theorem dX0_middleOf_62 : decode cX0_middleOf 62 = .ok (.invokevirtual 364, 3) := dk_182 1 108 (dk_at dksX0_middleOf_2 18 rfl rfl)
theorem dX0_middleOf_65 : decode cX0_middleOf 65 = .ok (.if_icmp .ge 7, 3) := dk_162 0 7 (dk_at dksX0_middleOf_2 21 rfl rfl)
theorem dX0_middleOf_68 : decode cX0_middleOf 68 = .ok (.iconst 1, 1) := dk_4 (dk_at dksX0_middleOf_3 0 rfl rfl)
theorem dX0_middleOf_69 : decode cX0_middleOf 69 = .ok (.goto 4, 3) := dk_167 0 4 (dk_at dksX0_middleOf_3 1 rfl rfl)
theorem dX0_middleOf_72 : decode cX0_middleOf 72 = .ok (.iconst 0, 1) := dk_3 (dk_at dksX0_middleOf_3 4 rfl rfl)
theorem dX0_middleOf_73 : decode cX0_middleOf 73 = .ok (.istore 5, 2) := dk_54 5 (dk_at dksX0_middleOf_3 5 rfl rfl)
theorem dX0_middleOf_75 : decode cX0_middleOf 75 = .ok (.iload 5, 2) := dk_21 5 (dk_at dksX0_middleOf_3 7 rfl rfl)
theorem dX0_middleOf_77 : decode cX0_middleOf 77 = .ok (.ifCond .eq 8, 3) := dk_153 0 8 (dk_at dksX0_middleOf_3 9 rfl rfl)
theorem dX0_middleOf_80 : decode cX0_middleOf 80 = .ok (.iload 4, 2) := dk_21 4 (dk_at dksX0_middleOf_3 12 rfl rfl)
theorem dX0_middleOf_82 : decode cX0_middleOf 82 = .ok (.goto 4, 3) := dk_167 0 4 (dk_at dksX0_middleOf_3 14 rfl rfl)
theorem dX0_middleOf_85 : decode cX0_middleOf 85 = .ok (.iload_n 3, 1) := dk_29 (dk_at dksX0_middleOf_3 17 rfl rfl)
theorem dX0_middleOf_86 : decode cX0_middleOf 86 = .ok (.istore_n 3, 1) := dk_62 (dk_at dksX0_middleOf_3 18 rfl rfl)
theorem dX0_middleOf_87 : decode cX0_middleOf 87 = .ok (.iinc 4 1, 3) := dk_132 4 1 (dk_at dksX0_middleOf_3 19 rfl rfl)
theorem dX0_middleOf_90 : decode cX0_middleOf 90 = .ok (.goto (-72), 3) := dk_167 255 184 (dk_at dksX0_middleOf_4 0 rfl rfl)
theorem dX0_middleOf_93 : decode cX0_middleOf 93 = .ok (.iload_n 3, 1) := dk_29 (dk_at dksX0_middleOf_4 3 rfl rfl)
theorem dX0_middleOf_94 : decode cX0_middleOf 94 = .ok (.ireturn, 1) := dk_172 (dk_at dksX0_middleOf_4 4 rfl rfl)
abbrev cX0_farthest : ByteArray := prog_1_method_83_code
def yX0_farthest : MethodName := ⟨RX0, "farthest", "(II)I"⟩
def dkwX0_farthest_1 : List UInt8 := [180, 0, 92, 27, 50, 21, 4, 46, 184, 1, 102, 167, 0, 4, 29, 62, 132, 4, 1, 167, 255, 219, 29, 172]
abbrev dktX0_farthest_1 : List UInt8 := dkwX0_farthest_1 ++ []
def dkwX0_farthest_0 : List UInt8 := [3, 62, 3, 54, 4, 21, 4, 16, 7, 162, 0, 36, 28, 21, 4, 184, 1, 2, 153, 0, 19, 29, 42]
abbrev dktX0_farthest_0 : List UInt8 := dkwX0_farthest_0 ++ dktX0_farthest_1
theorem dksX0_farthest_0 : cX0_farthest.data.toList.drop 0 = dktX0_farthest_0 := by decide +kernel
theorem dksX0_farthest_1 : cX0_farthest.data.toList.drop 23 = dktX0_farthest_1 := dk_seg dksX0_farthest_0 23 rfl rfl
theorem dX0_farthest_0 : decode cX0_farthest 0 = .ok (.iconst 0, 1) := dk_3 (dk_at dksX0_farthest_0 0 rfl rfl)
theorem dX0_farthest_1 : decode cX0_farthest 1 = .ok (.istore_n 3, 1) := dk_62 (dk_at dksX0_farthest_0 1 rfl rfl)
theorem dX0_farthest_2 : decode cX0_farthest 2 = .ok (.iconst 0, 1) := dk_3 (dk_at dksX0_farthest_0 2 rfl rfl)
theorem dX0_farthest_3 : decode cX0_farthest 3 = .ok (.istore 4, 2) := dk_54 4 (dk_at dksX0_farthest_0 3 rfl rfl)
theorem dX0_farthest_5 : decode cX0_farthest 5 = .ok (.iload 4, 2) := dk_21 4 (dk_at dksX0_farthest_0 5 rfl rfl)
theorem dX0_farthest_7 : decode cX0_farthest 7 = .ok (.bipush 7, 2) := dk_16 7 (dk_at dksX0_farthest_0 7 rfl rfl)
theorem dX0_farthest_9 : decode cX0_farthest 9 = .ok (.if_icmp .ge 36, 3) := dk_162 0 36 (dk_at dksX0_farthest_0 9 rfl rfl)
theorem dX0_farthest_12 : decode cX0_farthest 12 = .ok (.iload_n 2, 1) := dk_28 (dk_at dksX0_farthest_0 12 rfl rfl)
theorem dX0_farthest_13 : decode cX0_farthest 13 = .ok (.iload 4, 2) := dk_21 4 (dk_at dksX0_farthest_0 13 rfl rfl)
theorem dX0_farthest_15 : decode cX0_farthest 15 = .ok (.invokestatic 258, 3) := dk_184 1 2 (dk_at dksX0_farthest_0 15 rfl rfl)
theorem dX0_farthest_18 : decode cX0_farthest 18 = .ok (.ifCond .eq 19, 3) := dk_153 0 19 (dk_at dksX0_farthest_0 18 rfl rfl)
theorem dX0_farthest_21 : decode cX0_farthest 21 = .ok (.iload_n 3, 1) := dk_29 (dk_at dksX0_farthest_0 21 rfl rfl)
theorem dX0_farthest_22 : decode cX0_farthest 22 = .ok (.aload_n 0, 1) := dk_42 (dk_at dksX0_farthest_0 22 rfl rfl)
theorem dX0_farthest_23 : decode cX0_farthest 23 = .ok (.getfield 92, 3) := dk_180 0 92 (dk_at dksX0_farthest_1 0 rfl rfl)
theorem dX0_farthest_26 : decode cX0_farthest 26 = .ok (.iload_n 1, 1) := dk_27 (dk_at dksX0_farthest_1 3 rfl rfl)
theorem dX0_farthest_27 : decode cX0_farthest 27 = .ok (.aaload, 1) := dk_50 (dk_at dksX0_farthest_1 4 rfl rfl)
theorem dX0_farthest_28 : decode cX0_farthest 28 = .ok (.iload 4, 2) := dk_21 4 (dk_at dksX0_farthest_1 5 rfl rfl)
theorem dX0_farthest_30 : decode cX0_farthest 30 = .ok (.iaload, 1) := dk_46 (dk_at dksX0_farthest_1 7 rfl rfl)
theorem dX0_farthest_31 : decode cX0_farthest 31 = .ok (.invokestatic 358, 3) := dk_184 1 102 (dk_at dksX0_farthest_1 8 rfl rfl)
theorem dX0_farthest_34 : decode cX0_farthest 34 = .ok (.goto 4, 3) := dk_167 0 4 (dk_at dksX0_farthest_1 11 rfl rfl)
theorem dX0_farthest_37 : decode cX0_farthest 37 = .ok (.iload_n 3, 1) := dk_29 (dk_at dksX0_farthest_1 14 rfl rfl)
theorem dX0_farthest_38 : decode cX0_farthest 38 = .ok (.istore_n 3, 1) := dk_62 (dk_at dksX0_farthest_1 15 rfl rfl)
theorem dX0_farthest_39 : decode cX0_farthest 39 = .ok (.iinc 4 1, 3) := dk_132 4 1 (dk_at dksX0_farthest_1 16 rfl rfl)
theorem dX0_farthest_42 : decode cX0_farthest 42 = .ok (.goto (-37), 3) := dk_167 255 219 (dk_at dksX0_farthest_1 19 rfl rfl)
theorem dX0_farthest_45 : decode cX0_farthest 45 = .ok (.iload_n 3, 1) := dk_29 (dk_at dksX0_farthest_1 22 rfl rfl)
theorem dX0_farthest_46 : decode cX0_farthest 46 = .ok (.ireturn, 1) := dk_172 (dk_at dksX0_farthest_1 23 rfl rfl)
abbrev cX0_heavy : ByteArray := prog_1_method_86_code
def yX0_heavy : MethodName := ⟨RX0, "heavy", "(II)I"⟩
def dkwX0_heavy_4 : List UInt8 := [4, 21, 5, 120, 167, 0, 4, 3, 128, 54, 4, 132, 5, 1, 167, 255, 201, 21, 4, 172]
abbrev dktX0_heavy_4 : List UInt8 := dkwX0_heavy_4 ++ []
def dkwX0_heavy_3 : List UInt8 := [184, 1, 2, 153, 0, 28, 42, 180, 0, 61, 180, 0, 214, 3, 50, 21, 5, 46, 5, 108, 29, 164, 0, 10]
abbrev dktX0_heavy_3 : List UInt8 := dkwX0_heavy_3 ++ dktX0_heavy_4
def dkwX0_heavy_2 : List UInt8 := [54, 4, 3, 54, 5, 21, 5, 42, 180, 0, 61, 180, 0, 127, 162, 0, 49, 21, 4, 28, 21, 5]
abbrev dktX0_heavy_2 : List UInt8 := dkwX0_heavy_2 ++ dktX0_heavy_3
def dkwX0_heavy_1 : List UInt8 := [182, 0, 167, 42, 180, 0, 61, 28, 182, 0, 173, 100, 62, 29, 156, 0, 9, 42, 7, 182, 0, 142, 172, 3]
abbrev dktX0_heavy_1 : List UInt8 := dkwX0_heavy_1 ++ dktX0_heavy_2
def dkwX0_heavy_0 : List UInt8 := [42, 27, 182, 0, 161, 153, 0, 11, 42, 28, 182, 0, 133, 154, 0, 9, 42, 3, 182, 0, 142, 172, 42, 27]
abbrev dktX0_heavy_0 : List UInt8 := dkwX0_heavy_0 ++ dktX0_heavy_1
theorem dksX0_heavy_0 : cX0_heavy.data.toList.drop 0 = dktX0_heavy_0 := by decide +kernel
theorem dksX0_heavy_1 : cX0_heavy.data.toList.drop 24 = dktX0_heavy_1 := dk_seg dksX0_heavy_0 24 rfl rfl
theorem dksX0_heavy_2 : cX0_heavy.data.toList.drop 48 = dktX0_heavy_2 := dk_seg dksX0_heavy_1 24 rfl rfl
theorem dksX0_heavy_3 : cX0_heavy.data.toList.drop 70 = dktX0_heavy_3 := dk_seg dksX0_heavy_2 22 rfl rfl
theorem dksX0_heavy_4 : cX0_heavy.data.toList.drop 94 = dktX0_heavy_4 := dk_seg dksX0_heavy_3 24 rfl rfl
theorem dX0_heavy_0 : decode cX0_heavy 0 = .ok (.aload_n 0, 1) := dk_42 (dk_at dksX0_heavy_0 0 rfl rfl)
theorem dX0_heavy_1 : decode cX0_heavy 1 = .ok (.iload_n 1, 1) := dk_27 (dk_at dksX0_heavy_0 1 rfl rfl)
theorem dX0_heavy_2 : decode cX0_heavy 2 = .ok (.invokevirtual 161, 3) := dk_182 0 161 (dk_at dksX0_heavy_0 2 rfl rfl)
theorem dX0_heavy_5 : decode cX0_heavy 5 = .ok (.ifCond .eq 11, 3) := dk_153 0 11 (dk_at dksX0_heavy_0 5 rfl rfl)
theorem dX0_heavy_8 : decode cX0_heavy 8 = .ok (.aload_n 0, 1) := dk_42 (dk_at dksX0_heavy_0 8 rfl rfl)
theorem dX0_heavy_9 : decode cX0_heavy 9 = .ok (.iload_n 2, 1) := dk_28 (dk_at dksX0_heavy_0 9 rfl rfl)
theorem dX0_heavy_10 : decode cX0_heavy 10 = .ok (.invokevirtual 133, 3) := dk_182 0 133 (dk_at dksX0_heavy_0 10 rfl rfl)
theorem dX0_heavy_13 : decode cX0_heavy 13 = .ok (.ifCond .ne 9, 3) := dk_154 0 9 (dk_at dksX0_heavy_0 13 rfl rfl)
theorem dX0_heavy_16 : decode cX0_heavy 16 = .ok (.aload_n 0, 1) := dk_42 (dk_at dksX0_heavy_0 16 rfl rfl)
theorem dX0_heavy_17 : decode cX0_heavy 17 = .ok (.iconst 0, 1) := dk_3 (dk_at dksX0_heavy_0 17 rfl rfl)
theorem dX0_heavy_18 : decode cX0_heavy 18 = .ok (.invokevirtual 142, 3) := dk_182 0 142 (dk_at dksX0_heavy_0 18 rfl rfl)
theorem dX0_heavy_21 : decode cX0_heavy 21 = .ok (.ireturn, 1) := dk_172 (dk_at dksX0_heavy_0 21 rfl rfl)
theorem dX0_heavy_22 : decode cX0_heavy 22 = .ok (.aload_n 0, 1) := dk_42 (dk_at dksX0_heavy_0 22 rfl rfl)
theorem dX0_heavy_23 : decode cX0_heavy 23 = .ok (.iload_n 1, 1) := dk_27 (dk_at dksX0_heavy_0 23 rfl rfl)
theorem dX0_heavy_24 : decode cX0_heavy 24 = .ok (.invokevirtual 167, 3) := dk_182 0 167 (dk_at dksX0_heavy_1 0 rfl rfl)
theorem dX0_heavy_27 : decode cX0_heavy 27 = .ok (.aload_n 0, 1) := dk_42 (dk_at dksX0_heavy_1 3 rfl rfl)
theorem dX0_heavy_28 : decode cX0_heavy 28 = .ok (.getfield 61, 3) := dk_180 0 61 (dk_at dksX0_heavy_1 4 rfl rfl)
theorem dX0_heavy_31 : decode cX0_heavy 31 = .ok (.iload_n 2, 1) := dk_28 (dk_at dksX0_heavy_1 7 rfl rfl)
theorem dX0_heavy_32 : decode cX0_heavy 32 = .ok (.invokevirtual 173, 3) := dk_182 0 173 (dk_at dksX0_heavy_1 8 rfl rfl)
theorem dX0_heavy_35 : decode cX0_heavy 35 = .ok (.isub, 1) := dk_100 (dk_at dksX0_heavy_1 11 rfl rfl)
theorem dX0_heavy_36 : decode cX0_heavy 36 = .ok (.istore_n 3, 1) := dk_62 (dk_at dksX0_heavy_1 12 rfl rfl)
theorem dX0_heavy_37 : decode cX0_heavy 37 = .ok (.iload_n 3, 1) := dk_29 (dk_at dksX0_heavy_1 13 rfl rfl)
theorem dX0_heavy_38 : decode cX0_heavy 38 = .ok (.ifCond .ge 9, 3) := dk_156 0 9 (dk_at dksX0_heavy_1 14 rfl rfl)
theorem dX0_heavy_41 : decode cX0_heavy 41 = .ok (.aload_n 0, 1) := dk_42 (dk_at dksX0_heavy_1 17 rfl rfl)
theorem dX0_heavy_42 : decode cX0_heavy 42 = .ok (.iconst 4, 1) := dk_7 (dk_at dksX0_heavy_1 18 rfl rfl)
theorem dX0_heavy_43 : decode cX0_heavy 43 = .ok (.invokevirtual 142, 3) := dk_182 0 142 (dk_at dksX0_heavy_1 19 rfl rfl)
theorem dX0_heavy_46 : decode cX0_heavy 46 = .ok (.ireturn, 1) := dk_172 (dk_at dksX0_heavy_1 22 rfl rfl)
theorem dX0_heavy_47 : decode cX0_heavy 47 = .ok (.iconst 0, 1) := dk_3 (dk_at dksX0_heavy_1 23 rfl rfl)
theorem dX0_heavy_48 : decode cX0_heavy 48 = .ok (.istore 4, 2) := dk_54 4 (dk_at dksX0_heavy_2 0 rfl rfl)
theorem dX0_heavy_50 : decode cX0_heavy 50 = .ok (.iconst 0, 1) := dk_3 (dk_at dksX0_heavy_2 2 rfl rfl)
theorem dX0_heavy_51 : decode cX0_heavy 51 = .ok (.istore 5, 2) := dk_54 5 (dk_at dksX0_heavy_2 3 rfl rfl)
theorem dX0_heavy_53 : decode cX0_heavy 53 = .ok (.iload 5, 2) := dk_21 5 (dk_at dksX0_heavy_2 5 rfl rfl)
theorem dX0_heavy_55 : decode cX0_heavy 55 = .ok (.aload_n 0, 1) := dk_42 (dk_at dksX0_heavy_2 7 rfl rfl)
theorem dX0_heavy_56 : decode cX0_heavy 56 = .ok (.getfield 61, 3) := dk_180 0 61 (dk_at dksX0_heavy_2 8 rfl rfl)
theorem dX0_heavy_59 : decode cX0_heavy 59 = .ok (.getfield 127, 3) := dk_180 0 127 (dk_at dksX0_heavy_2 11 rfl rfl)
theorem dX0_heavy_62 : decode cX0_heavy 62 = .ok (.if_icmp .ge 49, 3) := dk_162 0 49 (dk_at dksX0_heavy_2 14 rfl rfl)
theorem dX0_heavy_65 : decode cX0_heavy 65 = .ok (.iload 4, 2) := dk_21 4 (dk_at dksX0_heavy_2 17 rfl rfl)
theorem dX0_heavy_67 : decode cX0_heavy 67 = .ok (.iload_n 2, 1) := dk_28 (dk_at dksX0_heavy_2 19 rfl rfl)
theorem dX0_heavy_68 : decode cX0_heavy 68 = .ok (.iload 5, 2) := dk_21 5 (dk_at dksX0_heavy_2 20 rfl rfl)
theorem dX0_heavy_70 : decode cX0_heavy 70 = .ok (.invokestatic 258, 3) := dk_184 1 2 (dk_at dksX0_heavy_3 0 rfl rfl)
theorem dX0_heavy_73 : decode cX0_heavy 73 = .ok (.ifCond .eq 28, 3) := dk_153 0 28 (dk_at dksX0_heavy_3 3 rfl rfl)
theorem dX0_heavy_76 : decode cX0_heavy 76 = .ok (.aload_n 0, 1) := dk_42 (dk_at dksX0_heavy_3 6 rfl rfl)
theorem dX0_heavy_77 : decode cX0_heavy 77 = .ok (.getfield 61, 3) := dk_180 0 61 (dk_at dksX0_heavy_3 7 rfl rfl)
theorem dX0_heavy_80 : decode cX0_heavy 80 = .ok (.getfield 214, 3) := dk_180 0 214 (dk_at dksX0_heavy_3 10 rfl rfl)
theorem dX0_heavy_83 : decode cX0_heavy 83 = .ok (.iconst 0, 1) := dk_3 (dk_at dksX0_heavy_3 13 rfl rfl)
theorem dX0_heavy_84 : decode cX0_heavy 84 = .ok (.aaload, 1) := dk_50 (dk_at dksX0_heavy_3 14 rfl rfl)
theorem dX0_heavy_85 : decode cX0_heavy 85 = .ok (.iload 5, 2) := dk_21 5 (dk_at dksX0_heavy_3 15 rfl rfl)
theorem dX0_heavy_87 : decode cX0_heavy 87 = .ok (.iaload, 1) := dk_46 (dk_at dksX0_heavy_3 17 rfl rfl)
theorem dX0_heavy_88 : decode cX0_heavy 88 = .ok (.iconst 2, 1) := dk_5 (dk_at dksX0_heavy_3 18 rfl rfl)
theorem dX0_heavy_89 : decode cX0_heavy 89 = .ok (.idiv, 1) := dk_108 (dk_at dksX0_heavy_3 19 rfl rfl)
theorem dX0_heavy_90 : decode cX0_heavy 90 = .ok (.iload_n 3, 1) := dk_29 (dk_at dksX0_heavy_3 20 rfl rfl)
theorem dX0_heavy_91 : decode cX0_heavy 91 = .ok (.if_icmp .le 10, 3) := dk_164 0 10 (dk_at dksX0_heavy_3 21 rfl rfl)
theorem dX0_heavy_94 : decode cX0_heavy 94 = .ok (.iconst 1, 1) := dk_4 (dk_at dksX0_heavy_4 0 rfl rfl)
theorem dX0_heavy_95 : decode cX0_heavy 95 = .ok (.iload 5, 2) := dk_21 5 (dk_at dksX0_heavy_4 1 rfl rfl)
theorem dX0_heavy_97 : decode cX0_heavy 97 = .ok (.ishl, 1) := dk_120 (dk_at dksX0_heavy_4 3 rfl rfl)
theorem dX0_heavy_98 : decode cX0_heavy 98 = .ok (.goto 4, 3) := dk_167 0 4 (dk_at dksX0_heavy_4 4 rfl rfl)
theorem dX0_heavy_101 : decode cX0_heavy 101 = .ok (.iconst 0, 1) := dk_3 (dk_at dksX0_heavy_4 7 rfl rfl)
theorem dX0_heavy_102 : decode cX0_heavy 102 = .ok (.ior, 1) := dk_128 (dk_at dksX0_heavy_4 8 rfl rfl)
theorem dX0_heavy_103 : decode cX0_heavy 103 = .ok (.istore 4, 2) := dk_54 4 (dk_at dksX0_heavy_4 9 rfl rfl)
theorem dX0_heavy_105 : decode cX0_heavy 105 = .ok (.iinc 5 1, 3) := dk_132 5 1 (dk_at dksX0_heavy_4 11 rfl rfl)
theorem dX0_heavy_108 : decode cX0_heavy 108 = .ok (.goto (-55), 3) := dk_167 255 201 (dk_at dksX0_heavy_4 14 rfl rfl)
theorem dX0_heavy_111 : decode cX0_heavy 111 = .ok (.iload 4, 2) := dk_21 4 (dk_at dksX0_heavy_4 17 rfl rfl)
theorem dX0_heavy_113 : decode cX0_heavy 113 = .ok (.ireturn, 1) := dk_172 (dk_at dksX0_heavy_4 19 rfl rfl)
abbrev cX0_day : ByteArray := prog_1_method_90_code
def yX0_day : MethodName := ⟨RX0, "day", "(I)I"⟩
def dkwX0_day_1 : List UInt8 := [172]
abbrev dktX0_day_1 : List UInt8 := dkwX0_day_1 ++ []
def dkwX0_day_0 : List UInt8 := [42, 27, 182, 1, 120, 61, 28, 2, 160, 0, 11, 42, 27, 182, 1, 123, 167, 0, 8, 42, 28, 182, 0, 142]
abbrev dktX0_day_0 : List UInt8 := dkwX0_day_0 ++ dktX0_day_1
theorem dksX0_day_0 : cX0_day.data.toList.drop 0 = dktX0_day_0 := by decide +kernel
theorem dksX0_day_1 : cX0_day.data.toList.drop 24 = dktX0_day_1 := dk_seg dksX0_day_0 24 rfl rfl
theorem dX0_day_0 : decode cX0_day 0 = .ok (.aload_n 0, 1) := dk_42 (dk_at dksX0_day_0 0 rfl rfl)
theorem dX0_day_1 : decode cX0_day 1 = .ok (.iload_n 1, 1) := dk_27 (dk_at dksX0_day_0 1 rfl rfl)
theorem dX0_day_2 : decode cX0_day 2 = .ok (.invokevirtual 376, 3) := dk_182 1 120 (dk_at dksX0_day_0 2 rfl rfl)
theorem dX0_day_5 : decode cX0_day 5 = .ok (.istore_n 2, 1) := dk_61 (dk_at dksX0_day_0 5 rfl rfl)
theorem dX0_day_6 : decode cX0_day 6 = .ok (.iload_n 2, 1) := dk_28 (dk_at dksX0_day_0 6 rfl rfl)
theorem dX0_day_7 : decode cX0_day 7 = .ok (.iconst (-1), 1) := dk_2 (dk_at dksX0_day_0 7 rfl rfl)
theorem dX0_day_8 : decode cX0_day 8 = .ok (.if_icmp .ne 11, 3) := dk_160 0 11 (dk_at dksX0_day_0 8 rfl rfl)
theorem dX0_day_11 : decode cX0_day 11 = .ok (.aload_n 0, 1) := dk_42 (dk_at dksX0_day_0 11 rfl rfl)
theorem dX0_day_12 : decode cX0_day 12 = .ok (.iload_n 1, 1) := dk_27 (dk_at dksX0_day_0 12 rfl rfl)
theorem dX0_day_13 : decode cX0_day 13 = .ok (.invokevirtual 379, 3) := dk_182 1 123 (dk_at dksX0_day_0 13 rfl rfl)
theorem dX0_day_16 : decode cX0_day 16 = .ok (.goto 8, 3) := dk_167 0 8 (dk_at dksX0_day_0 16 rfl rfl)
theorem dX0_day_19 : decode cX0_day 19 = .ok (.aload_n 0, 1) := dk_42 (dk_at dksX0_day_0 19 rfl rfl)
theorem dX0_day_20 : decode cX0_day 20 = .ok (.iload_n 2, 1) := dk_28 (dk_at dksX0_day_0 20 rfl rfl)
theorem dX0_day_21 : decode cX0_day 21 = .ok (.invokevirtual 142, 3) := dk_182 0 142 (dk_at dksX0_day_0 21 rfl rfl)
theorem dX0_day_24 : decode cX0_day 24 = .ok (.ireturn, 1) := dk_172 (dk_at dksX0_day_1 0 rfl rfl)
abbrev cX0_whyNoDay : ByteArray := prog_1_method_89_code
def yX0_whyNoDay : MethodName := ⟨RX0, "whyNoDay", "(I)I"⟩
def dkwX0_whyNoDay_1 : List UInt8 := [7, 167, 0, 4, 2, 172]
abbrev dktX0_whyNoDay_1 : List UInt8 := dkwX0_whyNoDay_1 ++ []
def dkwX0_whyNoDay_0 : List UInt8 := [27, 4, 16, 12, 184, 0, 3, 154, 0, 7, 3, 167, 0, 18, 42, 180, 0, 61, 180, 0, 125, 154, 0, 7]
abbrev dktX0_whyNoDay_0 : List UInt8 := dkwX0_whyNoDay_0 ++ dktX0_whyNoDay_1
theorem dksX0_whyNoDay_0 : cX0_whyNoDay.data.toList.drop 0 = dktX0_whyNoDay_0 := by decide +kernel
theorem dksX0_whyNoDay_1 : cX0_whyNoDay.data.toList.drop 24 = dktX0_whyNoDay_1 := dk_seg dksX0_whyNoDay_0 24 rfl rfl
theorem dX0_whyNoDay_0 : decode cX0_whyNoDay 0 = .ok (.iload_n 1, 1) := dk_27 (dk_at dksX0_whyNoDay_0 0 rfl rfl)
theorem dX0_whyNoDay_1 : decode cX0_whyNoDay 1 = .ok (.iconst 1, 1) := dk_4 (dk_at dksX0_whyNoDay_0 1 rfl rfl)
theorem dX0_whyNoDay_2 : decode cX0_whyNoDay 2 = .ok (.bipush 12, 2) := dk_16 12 (dk_at dksX0_whyNoDay_0 2 rfl rfl)
theorem dX0_whyNoDay_4 : decode cX0_whyNoDay 4 = .ok (.invokestatic 3, 3) := dk_184 0 3 (dk_at dksX0_whyNoDay_0 4 rfl rfl)
theorem dX0_whyNoDay_7 : decode cX0_whyNoDay 7 = .ok (.ifCond .ne 7, 3) := dk_154 0 7 (dk_at dksX0_whyNoDay_0 7 rfl rfl)
theorem dX0_whyNoDay_10 : decode cX0_whyNoDay 10 = .ok (.iconst 0, 1) := dk_3 (dk_at dksX0_whyNoDay_0 10 rfl rfl)
theorem dX0_whyNoDay_11 : decode cX0_whyNoDay 11 = .ok (.goto 18, 3) := dk_167 0 18 (dk_at dksX0_whyNoDay_0 11 rfl rfl)
theorem dX0_whyNoDay_14 : decode cX0_whyNoDay 14 = .ok (.aload_n 0, 1) := dk_42 (dk_at dksX0_whyNoDay_0 14 rfl rfl)
theorem dX0_whyNoDay_15 : decode cX0_whyNoDay 15 = .ok (.getfield 61, 3) := dk_180 0 61 (dk_at dksX0_whyNoDay_0 15 rfl rfl)
theorem dX0_whyNoDay_18 : decode cX0_whyNoDay 18 = .ok (.getfield 125, 3) := dk_180 0 125 (dk_at dksX0_whyNoDay_0 18 rfl rfl)
theorem dX0_whyNoDay_21 : decode cX0_whyNoDay 21 = .ok (.ifCond .ne 7, 3) := dk_154 0 7 (dk_at dksX0_whyNoDay_0 21 rfl rfl)
theorem dX0_whyNoDay_24 : decode cX0_whyNoDay 24 = .ok (.iconst 4, 1) := dk_7 (dk_at dksX0_whyNoDay_1 0 rfl rfl)
theorem dX0_whyNoDay_25 : decode cX0_whyNoDay 25 = .ok (.goto 4, 3) := dk_167 0 4 (dk_at dksX0_whyNoDay_1 1 rfl rfl)
theorem dX0_whyNoDay_28 : decode cX0_whyNoDay 28 = .ok (.iconst (-1), 1) := dk_2 (dk_at dksX0_whyNoDay_1 4 rfl rfl)
theorem dX0_whyNoDay_29 : decode cX0_whyNoDay 29 = .ok (.ireturn, 1) := dk_172 (dk_at dksX0_whyNoDay_1 5 rfl rfl)
abbrev cX0_works : ByteArray := prog_1_method_88_code
def yX0_works : MethodName := ⟨RX0, "works", "(I)I"⟩
def dkwX0_works_4 : List UInt8 := [132, 3, 1, 167, 255, 174, 42, 180, 0, 61, 5, 182, 1, 14, 184, 0, 136, 28, 100, 172]
abbrev dktX0_works_4 : List UInt8 := dkwX0_works_4 ++ []
def dkwX0_works_3 : List UInt8 := [21, 5, 182, 0, 242, 54, 6, 21, 6, 2, 159, 0, 14, 42, 21, 4, 21, 5, 21, 6, 182, 1, 11, 87]
abbrev dktX0_works_3 : List UInt8 := dkwX0_works_3 ++ dktX0_works_4
def dkwX0_works_2 : List UInt8 := [182, 1, 114, 16, 7, 112, 54, 5, 42, 21, 4, 42, 180, 0, 61, 180, 0, 113, 4, 50, 21, 4, 46]
abbrev dktX0_works_2 : List UInt8 := dkwX0_works_2 ++ dktX0_works_3
def dkwX0_works_1 : List UInt8 := [182, 1, 114, 42, 180, 0, 61, 180, 0, 125, 112, 54, 4, 42, 21, 4, 182, 1, 117, 42, 180, 0, 61]
abbrev dktX0_works_1 : List UInt8 := dkwX0_works_1 ++ dktX0_works_2
def dkwX0_works_0 : List UInt8 := [42, 180, 0, 61, 5, 182, 1, 14, 184, 0, 136, 61, 3, 62, 29, 27, 162, 0, 83, 42, 180, 0, 61]
abbrev dktX0_works_0 : List UInt8 := dkwX0_works_0 ++ dktX0_works_1
theorem dksX0_works_0 : cX0_works.data.toList.drop 0 = dktX0_works_0 := by decide +kernel
theorem dksX0_works_1 : cX0_works.data.toList.drop 23 = dktX0_works_1 := dk_seg dksX0_works_0 23 rfl rfl
theorem dksX0_works_2 : cX0_works.data.toList.drop 46 = dktX0_works_2 := dk_seg dksX0_works_1 23 rfl rfl
theorem dksX0_works_3 : cX0_works.data.toList.drop 69 = dktX0_works_3 := dk_seg dksX0_works_2 23 rfl rfl
theorem dksX0_works_4 : cX0_works.data.toList.drop 93 = dktX0_works_4 := dk_seg dksX0_works_3 24 rfl rfl
theorem dX0_works_0 : decode cX0_works 0 = .ok (.aload_n 0, 1) := dk_42 (dk_at dksX0_works_0 0 rfl rfl)
theorem dX0_works_1 : decode cX0_works 1 = .ok (.getfield 61, 3) := dk_180 0 61 (dk_at dksX0_works_0 1 rfl rfl)
theorem dX0_works_4 : decode cX0_works 4 = .ok (.iconst 2, 1) := dk_5 (dk_at dksX0_works_0 4 rfl rfl)
theorem dX0_works_5 : decode cX0_works 5 = .ok (.invokevirtual 270, 3) := dk_182 1 14 (dk_at dksX0_works_0 5 rfl rfl)
theorem dX0_works_8 : decode cX0_works 8 = .ok (.invokestatic 136, 3) := dk_184 0 136 (dk_at dksX0_works_0 8 rfl rfl)
theorem dX0_works_11 : decode cX0_works 11 = .ok (.istore_n 2, 1) := dk_61 (dk_at dksX0_works_0 11 rfl rfl)
theorem dX0_works_12 : decode cX0_works 12 = .ok (.iconst 0, 1) := dk_3 (dk_at dksX0_works_0 12 rfl rfl)
theorem dX0_works_13 : decode cX0_works 13 = .ok (.istore_n 3, 1) := dk_62 (dk_at dksX0_works_0 13 rfl rfl)
theorem dX0_works_14 : decode cX0_works 14 = .ok (.iload_n 3, 1) := dk_29 (dk_at dksX0_works_0 14 rfl rfl)
theorem dX0_works_15 : decode cX0_works 15 = .ok (.iload_n 1, 1) := dk_27 (dk_at dksX0_works_0 15 rfl rfl)
theorem dX0_works_16 : decode cX0_works 16 = .ok (.if_icmp .ge 83, 3) := dk_162 0 83 (dk_at dksX0_works_0 16 rfl rfl)
theorem dX0_works_19 : decode cX0_works 19 = .ok (.aload_n 0, 1) := dk_42 (dk_at dksX0_works_0 19 rfl rfl)
theorem dX0_works_20 : decode cX0_works 20 = .ok (.getfield 61, 3) := dk_180 0 61 (dk_at dksX0_works_0 20 rfl rfl)
theorem dX0_works_23 : decode cX0_works 23 = .ok (.invokevirtual 370, 3) := dk_182 1 114 (dk_at dksX0_works_1 0 rfl rfl)
theorem dX0_works_26 : decode cX0_works 26 = .ok (.aload_n 0, 1) := dk_42 (dk_at dksX0_works_1 3 rfl rfl)
theorem dX0_works_27 : decode cX0_works 27 = .ok (.getfield 61, 3) := dk_180 0 61 (dk_at dksX0_works_1 4 rfl rfl)
theorem dX0_works_30 : decode cX0_works 30 = .ok (.getfield 125, 3) := dk_180 0 125 (dk_at dksX0_works_1 7 rfl rfl)
theorem dX0_works_33 : decode cX0_works 33 = .ok (.irem, 1) := dk_112 (dk_at dksX0_works_1 10 rfl rfl)
theorem dX0_works_34 : decode cX0_works 34 = .ok (.istore 4, 2) := dk_54 4 (dk_at dksX0_works_1 11 rfl rfl)
theorem dX0_works_36 : decode cX0_works 36 = .ok (.aload_n 0, 1) := dk_42 (dk_at dksX0_works_1 13 rfl rfl)
theorem dX0_works_37 : decode cX0_works 37 = .ok (.iload 4, 2) := dk_21 4 (dk_at dksX0_works_1 14 rfl rfl)
theorem dX0_works_39 : decode cX0_works 39 = .ok (.invokevirtual 373, 3) := dk_182 1 117 (dk_at dksX0_works_1 16 rfl rfl)
theorem dX0_works_42 : decode cX0_works 42 = .ok (.aload_n 0, 1) := dk_42 (dk_at dksX0_works_1 19 rfl rfl)
theorem dX0_works_43 : decode cX0_works 43 = .ok (.getfield 61, 3) := dk_180 0 61 (dk_at dksX0_works_1 20 rfl rfl)
theorem dX0_works_46 : decode cX0_works 46 = .ok (.invokevirtual 370, 3) := dk_182 1 114 (dk_at dksX0_works_2 0 rfl rfl)
theorem dX0_works_49 : decode cX0_works 49 = .ok (.bipush 7, 2) := dk_16 7 (dk_at dksX0_works_2 3 rfl rfl)
theorem dX0_works_51 : decode cX0_works 51 = .ok (.irem, 1) := dk_112 (dk_at dksX0_works_2 5 rfl rfl)
theorem dX0_works_52 : decode cX0_works 52 = .ok (.istore 5, 2) := dk_54 5 (dk_at dksX0_works_2 6 rfl rfl)
theorem dX0_works_54 : decode cX0_works 54 = .ok (.aload_n 0, 1) := dk_42 (dk_at dksX0_works_2 8 rfl rfl)
theorem dX0_works_55 : decode cX0_works 55 = .ok (.iload 4, 2) := dk_21 4 (dk_at dksX0_works_2 9 rfl rfl)
theorem dX0_works_57 : decode cX0_works 57 = .ok (.aload_n 0, 1) := dk_42 (dk_at dksX0_works_2 11 rfl rfl)
theorem dX0_works_58 : decode cX0_works 58 = .ok (.getfield 61, 3) := dk_180 0 61 (dk_at dksX0_works_2 12 rfl rfl)
theorem dX0_works_61 : decode cX0_works 61 = .ok (.getfield 113, 3) := dk_180 0 113 (dk_at dksX0_works_2 15 rfl rfl)
theorem dX0_works_64 : decode cX0_works 64 = .ok (.iconst 1, 1) := dk_4 (dk_at dksX0_works_2 18 rfl rfl)
theorem dX0_works_65 : decode cX0_works 65 = .ok (.aaload, 1) := dk_50 (dk_at dksX0_works_2 19 rfl rfl)
theorem dX0_works_66 : decode cX0_works 66 = .ok (.iload 4, 2) := dk_21 4 (dk_at dksX0_works_2 20 rfl rfl)
theorem dX0_works_68 : decode cX0_works 68 = .ok (.iaload, 1) := dk_46 (dk_at dksX0_works_2 22 rfl rfl)
theorem dX0_works_69 : decode cX0_works 69 = .ok (.iload 5, 2) := dk_21 5 (dk_at dksX0_works_3 0 rfl rfl)
theorem dX0_works_71 : decode cX0_works 71 = .ok (.invokevirtual 242, 3) := dk_182 0 242 (dk_at dksX0_works_3 2 rfl rfl)
theorem dX0_works_74 : decode cX0_works 74 = .ok (.istore 6, 2) := dk_54 6 (dk_at dksX0_works_3 5 rfl rfl)
theorem dX0_works_76 : decode cX0_works 76 = .ok (.iload 6, 2) := dk_21 6 (dk_at dksX0_works_3 7 rfl rfl)
theorem dX0_works_78 : decode cX0_works 78 = .ok (.iconst (-1), 1) := dk_2 (dk_at dksX0_works_3 9 rfl rfl)
theorem dX0_works_79 : decode cX0_works 79 = .ok (.if_icmp .eq 14, 3) := dk_159 0 14 (dk_at dksX0_works_3 10 rfl rfl)
theorem dX0_works_82 : decode cX0_works 82 = .ok (.aload_n 0, 1) := dk_42 (dk_at dksX0_works_3 13 rfl rfl)
theorem dX0_works_83 : decode cX0_works 83 = .ok (.iload 4, 2) := dk_21 4 (dk_at dksX0_works_3 14 rfl rfl)
theorem dX0_works_85 : decode cX0_works 85 = .ok (.iload 5, 2) := dk_21 5 (dk_at dksX0_works_3 16 rfl rfl)
theorem dX0_works_87 : decode cX0_works 87 = .ok (.iload 6, 2) := dk_21 6 (dk_at dksX0_works_3 18 rfl rfl)
theorem dX0_works_89 : decode cX0_works 89 = .ok (.invokevirtual 267, 3) := dk_182 1 11 (dk_at dksX0_works_3 20 rfl rfl)
theorem dX0_works_92 : decode cX0_works 92 = .ok (.pop, 1) := dk_87 (dk_at dksX0_works_3 23 rfl rfl)
theorem dX0_works_93 : decode cX0_works 93 = .ok (.iinc 3 1, 3) := dk_132 3 1 (dk_at dksX0_works_4 0 rfl rfl)
theorem dX0_works_96 : decode cX0_works 96 = .ok (.goto (-82), 3) := dk_167 255 174 (dk_at dksX0_works_4 3 rfl rfl)
theorem dX0_works_99 : decode cX0_works 99 = .ok (.aload_n 0, 1) := dk_42 (dk_at dksX0_works_4 6 rfl rfl)
theorem dX0_works_100 : decode cX0_works 100 = .ok (.getfield 61, 3) := dk_180 0 61 (dk_at dksX0_works_4 7 rfl rfl)
theorem dX0_works_103 : decode cX0_works 103 = .ok (.iconst 2, 1) := dk_5 (dk_at dksX0_works_4 10 rfl rfl)
theorem dX0_works_104 : decode cX0_works 104 = .ok (.invokevirtual 270, 3) := dk_182 1 14 (dk_at dksX0_works_4 11 rfl rfl)
theorem dX0_works_107 : decode cX0_works 107 = .ok (.invokestatic 136, 3) := dk_184 0 136 (dk_at dksX0_works_4 14 rfl rfl)
theorem dX0_works_110 : decode cX0_works 110 = .ok (.iload_n 2, 1) := dk_28 (dk_at dksX0_works_4 17 rfl rfl)
theorem dX0_works_111 : decode cX0_works 111 = .ok (.isub, 1) := dk_100 (dk_at dksX0_works_4 18 rfl rfl)
theorem dX0_works_112 : decode cX0_works 112 = .ok (.ireturn, 1) := dk_172 (dk_at dksX0_works_4 19 rfl rfl)
abbrev cX0_takesAll : ByteArray := prog_1_method_87_code
def yX0_takesAll : MethodName := ⟨RX0, "takesAll", "(I)V"⟩
def dkwX0_takesAll_2 : List UInt8 := [180, 0, 61, 28, 4, 27, 182, 0, 255, 132, 2, 1, 167, 255, 201, 177]
abbrev dktX0_takesAll_2 : List UInt8 := dkwX0_takesAll_2 ++ []
def dkwX0_takesAll_1 : List UInt8 := [180, 0, 113, 4, 50, 27, 46, 182, 0, 249, 153, 0, 22, 42, 27, 28, 182, 0, 252, 153, 0, 13, 42]
abbrev dktX0_takesAll_1 : List UInt8 := dkwX0_takesAll_1 ++ dktX0_takesAll_2
def dkwX0_takesAll_0 : List UInt8 := [3, 61, 28, 42, 180, 0, 61, 180, 0, 127, 162, 0, 50, 42, 180, 0, 61, 28, 42, 180, 0, 61]
abbrev dktX0_takesAll_0 : List UInt8 := dkwX0_takesAll_0 ++ dktX0_takesAll_1
theorem dksX0_takesAll_0 : cX0_takesAll.data.toList.drop 0 = dktX0_takesAll_0 := by decide +kernel
theorem dksX0_takesAll_1 : cX0_takesAll.data.toList.drop 22 = dktX0_takesAll_1 := dk_seg dksX0_takesAll_0 22 rfl rfl
theorem dksX0_takesAll_2 : cX0_takesAll.data.toList.drop 45 = dktX0_takesAll_2 := dk_seg dksX0_takesAll_1 23 rfl rfl
theorem dX0_takesAll_0 : decode cX0_takesAll 0 = .ok (.iconst 0, 1) := dk_3 (dk_at dksX0_takesAll_0 0 rfl rfl)
theorem dX0_takesAll_1 : decode cX0_takesAll 1 = .ok (.istore_n 2, 1) := dk_61 (dk_at dksX0_takesAll_0 1 rfl rfl)
theorem dX0_takesAll_2 : decode cX0_takesAll 2 = .ok (.iload_n 2, 1) := dk_28 (dk_at dksX0_takesAll_0 2 rfl rfl)
theorem dX0_takesAll_3 : decode cX0_takesAll 3 = .ok (.aload_n 0, 1) := dk_42 (dk_at dksX0_takesAll_0 3 rfl rfl)
theorem dX0_takesAll_4 : decode cX0_takesAll 4 = .ok (.getfield 61, 3) := dk_180 0 61 (dk_at dksX0_takesAll_0 4 rfl rfl)
theorem dX0_takesAll_7 : decode cX0_takesAll 7 = .ok (.getfield 127, 3) := dk_180 0 127 (dk_at dksX0_takesAll_0 7 rfl rfl)
theorem dX0_takesAll_10 : decode cX0_takesAll 10 = .ok (.if_icmp .ge 50, 3) := dk_162 0 50 (dk_at dksX0_takesAll_0 10 rfl rfl)
theorem dX0_takesAll_13 : decode cX0_takesAll 13 = .ok (.aload_n 0, 1) := dk_42 (dk_at dksX0_takesAll_0 13 rfl rfl)
theorem dX0_takesAll_14 : decode cX0_takesAll 14 = .ok (.getfield 61, 3) := dk_180 0 61 (dk_at dksX0_takesAll_0 14 rfl rfl)
theorem dX0_takesAll_17 : decode cX0_takesAll 17 = .ok (.iload_n 2, 1) := dk_28 (dk_at dksX0_takesAll_0 17 rfl rfl)
theorem dX0_takesAll_18 : decode cX0_takesAll 18 = .ok (.aload_n 0, 1) := dk_42 (dk_at dksX0_takesAll_0 18 rfl rfl)
theorem dX0_takesAll_19 : decode cX0_takesAll 19 = .ok (.getfield 61, 3) := dk_180 0 61 (dk_at dksX0_takesAll_0 19 rfl rfl)
theorem dX0_takesAll_22 : decode cX0_takesAll 22 = .ok (.getfield 113, 3) := dk_180 0 113 (dk_at dksX0_takesAll_1 0 rfl rfl)
theorem dX0_takesAll_25 : decode cX0_takesAll 25 = .ok (.iconst 1, 1) := dk_4 (dk_at dksX0_takesAll_1 3 rfl rfl)
theorem dX0_takesAll_26 : decode cX0_takesAll 26 = .ok (.aaload, 1) := dk_50 (dk_at dksX0_takesAll_1 4 rfl rfl)
theorem dX0_takesAll_27 : decode cX0_takesAll 27 = .ok (.iload_n 1, 1) := dk_27 (dk_at dksX0_takesAll_1 5 rfl rfl)
theorem dX0_takesAll_28 : decode cX0_takesAll 28 = .ok (.iaload, 1) := dk_46 (dk_at dksX0_takesAll_1 6 rfl rfl)
theorem dX0_takesAll_29 : decode cX0_takesAll 29 = .ok (.invokevirtual 249, 3) := dk_182 0 249 (dk_at dksX0_takesAll_1 7 rfl rfl)
theorem dX0_takesAll_32 : decode cX0_takesAll 32 = .ok (.ifCond .eq 22, 3) := dk_153 0 22 (dk_at dksX0_takesAll_1 10 rfl rfl)
theorem dX0_takesAll_35 : decode cX0_takesAll 35 = .ok (.aload_n 0, 1) := dk_42 (dk_at dksX0_takesAll_1 13 rfl rfl)
theorem dX0_takesAll_36 : decode cX0_takesAll 36 = .ok (.iload_n 1, 1) := dk_27 (dk_at dksX0_takesAll_1 14 rfl rfl)
theorem dX0_takesAll_37 : decode cX0_takesAll 37 = .ok (.iload_n 2, 1) := dk_28 (dk_at dksX0_takesAll_1 15 rfl rfl)
theorem dX0_takesAll_38 : decode cX0_takesAll 38 = .ok (.invokevirtual 252, 3) := dk_182 0 252 (dk_at dksX0_takesAll_1 16 rfl rfl)
theorem dX0_takesAll_41 : decode cX0_takesAll 41 = .ok (.ifCond .eq 13, 3) := dk_153 0 13 (dk_at dksX0_takesAll_1 19 rfl rfl)
theorem dX0_takesAll_44 : decode cX0_takesAll 44 = .ok (.aload_n 0, 1) := dk_42 (dk_at dksX0_takesAll_1 22 rfl rfl)
theorem dX0_takesAll_45 : decode cX0_takesAll 45 = .ok (.getfield 61, 3) := dk_180 0 61 (dk_at dksX0_takesAll_2 0 rfl rfl)
theorem dX0_takesAll_48 : decode cX0_takesAll 48 = .ok (.iload_n 2, 1) := dk_28 (dk_at dksX0_takesAll_2 3 rfl rfl)
theorem dX0_takesAll_49 : decode cX0_takesAll 49 = .ok (.iconst 1, 1) := dk_4 (dk_at dksX0_takesAll_2 4 rfl rfl)
theorem dX0_takesAll_50 : decode cX0_takesAll 50 = .ok (.iload_n 1, 1) := dk_27 (dk_at dksX0_takesAll_2 5 rfl rfl)
theorem dX0_takesAll_51 : decode cX0_takesAll 51 = .ok (.invokevirtual 255, 3) := dk_182 0 255 (dk_at dksX0_takesAll_2 6 rfl rfl)
theorem dX0_takesAll_54 : decode cX0_takesAll 54 = .ok (.iinc 2 1, 3) := dk_132 2 1 (dk_at dksX0_takesAll_2 9 rfl rfl)
theorem dX0_takesAll_57 : decode cX0_takesAll 57 = .ok (.goto (-55), 3) := dk_167 255 201 (dk_at dksX0_takesAll_2 12 rfl rfl)
theorem dX0_takesAll_60 : decode cX0_takesAll 60 = .ok (.return_, 1) := dk_177 (dk_at dksX0_takesAll_2 15 rfl rfl)
abbrev cX0_ahead : ByteArray := prog_1_method_91_code
def yX0_ahead : MethodName := ⟨RX0, "ahead", "(I)I"⟩
def dkwX0_ahead_2 : List UInt8 := [172, 58, 4, 42, 180, 0, 61, 42, 180, 0, 68, 182, 1, 126, 25, 4, 191]
abbrev dktX0_ahead_2 : List UInt8 := dkwX0_ahead_2 ++ []
def dkwX0_ahead_1 : List UInt8 := [180, 0, 61, 182, 1, 126, 42, 27, 182, 1, 123, 62, 42, 180, 0, 61, 42, 180, 0, 68, 182, 1, 126, 29]
abbrev dktX0_ahead_1 : List UInt8 := dkwX0_ahead_1 ++ dktX0_ahead_2
def dkwX0_ahead_0 : List UInt8 := [42, 27, 182, 1, 120, 61, 28, 2, 159, 0, 9, 42, 28, 182, 0, 142, 172, 42, 180, 0, 68, 42]
abbrev dktX0_ahead_0 : List UInt8 := dkwX0_ahead_0 ++ dktX0_ahead_1
theorem dksX0_ahead_0 : cX0_ahead.data.toList.drop 0 = dktX0_ahead_0 := by decide +kernel
theorem dksX0_ahead_1 : cX0_ahead.data.toList.drop 22 = dktX0_ahead_1 := dk_seg dksX0_ahead_0 22 rfl rfl
theorem dksX0_ahead_2 : cX0_ahead.data.toList.drop 46 = dktX0_ahead_2 := dk_seg dksX0_ahead_1 24 rfl rfl
theorem dX0_ahead_0 : decode cX0_ahead 0 = .ok (.aload_n 0, 1) := dk_42 (dk_at dksX0_ahead_0 0 rfl rfl)
theorem dX0_ahead_1 : decode cX0_ahead 1 = .ok (.iload_n 1, 1) := dk_27 (dk_at dksX0_ahead_0 1 rfl rfl)
theorem dX0_ahead_2 : decode cX0_ahead 2 = .ok (.invokevirtual 376, 3) := dk_182 1 120 (dk_at dksX0_ahead_0 2 rfl rfl)
theorem dX0_ahead_5 : decode cX0_ahead 5 = .ok (.istore_n 2, 1) := dk_61 (dk_at dksX0_ahead_0 5 rfl rfl)
theorem dX0_ahead_6 : decode cX0_ahead 6 = .ok (.iload_n 2, 1) := dk_28 (dk_at dksX0_ahead_0 6 rfl rfl)
theorem dX0_ahead_7 : decode cX0_ahead 7 = .ok (.iconst (-1), 1) := dk_2 (dk_at dksX0_ahead_0 7 rfl rfl)
theorem dX0_ahead_8 : decode cX0_ahead 8 = .ok (.if_icmp .eq 9, 3) := dk_159 0 9 (dk_at dksX0_ahead_0 8 rfl rfl)
theorem dX0_ahead_11 : decode cX0_ahead 11 = .ok (.aload_n 0, 1) := dk_42 (dk_at dksX0_ahead_0 11 rfl rfl)
theorem dX0_ahead_12 : decode cX0_ahead 12 = .ok (.iload_n 2, 1) := dk_28 (dk_at dksX0_ahead_0 12 rfl rfl)
theorem dX0_ahead_13 : decode cX0_ahead 13 = .ok (.invokevirtual 142, 3) := dk_182 0 142 (dk_at dksX0_ahead_0 13 rfl rfl)
theorem dX0_ahead_16 : decode cX0_ahead 16 = .ok (.ireturn, 1) := dk_172 (dk_at dksX0_ahead_0 16 rfl rfl)
theorem dX0_ahead_17 : decode cX0_ahead 17 = .ok (.aload_n 0, 1) := dk_42 (dk_at dksX0_ahead_0 17 rfl rfl)
theorem dX0_ahead_18 : decode cX0_ahead 18 = .ok (.getfield 68, 3) := dk_180 0 68 (dk_at dksX0_ahead_0 18 rfl rfl)
theorem dX0_ahead_21 : decode cX0_ahead 21 = .ok (.aload_n 0, 1) := dk_42 (dk_at dksX0_ahead_0 21 rfl rfl)
theorem dX0_ahead_22 : decode cX0_ahead 22 = .ok (.getfield 61, 3) := dk_180 0 61 (dk_at dksX0_ahead_1 0 rfl rfl)
theorem dX0_ahead_25 : decode cX0_ahead 25 = .ok (.invokevirtual 382, 3) := dk_182 1 126 (dk_at dksX0_ahead_1 3 rfl rfl)
theorem dX0_ahead_28 : decode cX0_ahead 28 = .ok (.aload_n 0, 1) := dk_42 (dk_at dksX0_ahead_1 6 rfl rfl)
theorem dX0_ahead_29 : decode cX0_ahead 29 = .ok (.iload_n 1, 1) := dk_27 (dk_at dksX0_ahead_1 7 rfl rfl)
theorem dX0_ahead_30 : decode cX0_ahead 30 = .ok (.invokevirtual 379, 3) := dk_182 1 123 (dk_at dksX0_ahead_1 8 rfl rfl)
theorem dX0_ahead_33 : decode cX0_ahead 33 = .ok (.istore_n 3, 1) := dk_62 (dk_at dksX0_ahead_1 11 rfl rfl)
theorem dX0_ahead_34 : decode cX0_ahead 34 = .ok (.aload_n 0, 1) := dk_42 (dk_at dksX0_ahead_1 12 rfl rfl)
theorem dX0_ahead_35 : decode cX0_ahead 35 = .ok (.getfield 61, 3) := dk_180 0 61 (dk_at dksX0_ahead_1 13 rfl rfl)
theorem dX0_ahead_38 : decode cX0_ahead 38 = .ok (.aload_n 0, 1) := dk_42 (dk_at dksX0_ahead_1 16 rfl rfl)
theorem dX0_ahead_39 : decode cX0_ahead 39 = .ok (.getfield 68, 3) := dk_180 0 68 (dk_at dksX0_ahead_1 17 rfl rfl)
theorem dX0_ahead_42 : decode cX0_ahead 42 = .ok (.invokevirtual 382, 3) := dk_182 1 126 (dk_at dksX0_ahead_1 20 rfl rfl)
theorem dX0_ahead_45 : decode cX0_ahead 45 = .ok (.iload_n 3, 1) := dk_29 (dk_at dksX0_ahead_1 23 rfl rfl)
theorem dX0_ahead_46 : decode cX0_ahead 46 = .ok (.ireturn, 1) := dk_172 (dk_at dksX0_ahead_2 0 rfl rfl)
theorem dX0_ahead_47 : decode cX0_ahead 47 = .ok (.astore 4, 2) := dk_58 4 (dk_at dksX0_ahead_2 1 rfl rfl)
theorem dX0_ahead_49 : decode cX0_ahead 49 = .ok (.aload_n 0, 1) := dk_42 (dk_at dksX0_ahead_2 3 rfl rfl)
theorem dX0_ahead_50 : decode cX0_ahead 50 = .ok (.getfield 61, 3) := dk_180 0 61 (dk_at dksX0_ahead_2 4 rfl rfl)
theorem dX0_ahead_53 : decode cX0_ahead 53 = .ok (.aload_n 0, 1) := dk_42 (dk_at dksX0_ahead_2 7 rfl rfl)
theorem dX0_ahead_54 : decode cX0_ahead 54 = .ok (.getfield 68, 3) := dk_180 0 68 (dk_at dksX0_ahead_2 8 rfl rfl)
theorem dX0_ahead_57 : decode cX0_ahead 57 = .ok (.invokevirtual 382, 3) := dk_182 1 126 (dk_at dksX0_ahead_2 11 rfl rfl)
theorem dX0_ahead_60 : decode cX0_ahead 60 = .ok (.aload 4, 2) := dk_25 4 (dk_at dksX0_ahead_2 14 rfl rfl)
theorem dX0_ahead_62 : decode cX0_ahead 62 = .ok (.athrow, 1) := dk_191 (dk_at dksX0_ahead_2 16 rfl rfl)
abbrev cX0_seed : ByteArray := prog_1_method_92_code
def yX0_seed : MethodName := ⟨RX0, "seed", "(I)I"⟩
def dkwX0_seed_0 : List UInt8 := [42, 180, 0, 61, 180, 1, 130, 61, 42, 180, 0, 61, 27, 181, 1, 130, 28, 172]
abbrev dktX0_seed_0 : List UInt8 := dkwX0_seed_0 ++ []
theorem dksX0_seed_0 : cX0_seed.data.toList.drop 0 = dktX0_seed_0 := by decide +kernel
theorem dX0_seed_0 : decode cX0_seed 0 = .ok (.aload_n 0, 1) := dk_42 (dk_at dksX0_seed_0 0 rfl rfl)
theorem dX0_seed_1 : decode cX0_seed 1 = .ok (.getfield 61, 3) := dk_180 0 61 (dk_at dksX0_seed_0 1 rfl rfl)
theorem dX0_seed_4 : decode cX0_seed 4 = .ok (.getfield 386, 3) := dk_180 1 130 (dk_at dksX0_seed_0 4 rfl rfl)
theorem dX0_seed_7 : decode cX0_seed 7 = .ok (.istore_n 2, 1) := dk_61 (dk_at dksX0_seed_0 7 rfl rfl)
theorem dX0_seed_8 : decode cX0_seed 8 = .ok (.aload_n 0, 1) := dk_42 (dk_at dksX0_seed_0 8 rfl rfl)
theorem dX0_seed_9 : decode cX0_seed 9 = .ok (.getfield 61, 3) := dk_180 0 61 (dk_at dksX0_seed_0 9 rfl rfl)
theorem dX0_seed_12 : decode cX0_seed 12 = .ok (.iload_n 1, 1) := dk_27 (dk_at dksX0_seed_0 12 rfl rfl)
theorem dX0_seed_13 : decode cX0_seed 13 = .ok (.putfield 386, 3) := dk_181 1 130 (dk_at dksX0_seed_0 13 rfl rfl)
theorem dX0_seed_16 : decode cX0_seed 16 = .ok (.iload_n 2, 1) := dk_28 (dk_at dksX0_seed_0 16 rfl rfl)
theorem dX0_seed_17 : decode cX0_seed 17 = .ok (.ireturn, 1) := dk_172 (dk_at dksX0_seed_0 17 rfl rfl)
abbrev cX0_feed : ByteArray := prog_1_method_93_code
def yX0_feed : MethodName := ⟨RX0, "feed", "(II)I"⟩
def dkwX0_feed_3 : List UInt8 := [132, 3, 255, 167, 255, 220, 42, 180, 1, 133, 172]
abbrev dktX0_feed_3 : List UInt8 := dkwX0_feed_3 ++ []
def dkwX0_feed_2 : List UInt8 := [42, 180, 1, 133, 27, 16, 8, 29, 104, 122, 145, 84, 42, 89, 180, 1, 133, 4, 96, 181, 1, 133]
abbrev dktX0_feed_2 : List UInt8 := dkwX0_feed_2 ++ dktX0_feed_3
def dkwX0_feed_1 : List UInt8 := [164, 0, 9, 42, 4, 182, 0, 142, 172, 28, 4, 100, 62, 29, 155, 0, 38, 42, 180, 0, 54, 180, 1, 136]
abbrev dktX0_feed_1 : List UInt8 := dkwX0_feed_1 ++ dktX0_feed_2
def dkwX0_feed_0 : List UInt8 := [28, 4, 7, 184, 0, 3, 154, 0, 9, 42, 3, 182, 0, 142, 172, 42, 180, 1, 133, 28, 96, 16, 120]
abbrev dktX0_feed_0 : List UInt8 := dkwX0_feed_0 ++ dktX0_feed_1
theorem dksX0_feed_0 : cX0_feed.data.toList.drop 0 = dktX0_feed_0 := by decide +kernel
theorem dksX0_feed_1 : cX0_feed.data.toList.drop 23 = dktX0_feed_1 := dk_seg dksX0_feed_0 23 rfl rfl
theorem dksX0_feed_2 : cX0_feed.data.toList.drop 47 = dktX0_feed_2 := dk_seg dksX0_feed_1 24 rfl rfl
theorem dksX0_feed_3 : cX0_feed.data.toList.drop 69 = dktX0_feed_3 := dk_seg dksX0_feed_2 22 rfl rfl
theorem dX0_feed_0 : decode cX0_feed 0 = .ok (.iload_n 2, 1) := dk_28 (dk_at dksX0_feed_0 0 rfl rfl)
theorem dX0_feed_1 : decode cX0_feed 1 = .ok (.iconst 1, 1) := dk_4 (dk_at dksX0_feed_0 1 rfl rfl)
theorem dX0_feed_2 : decode cX0_feed 2 = .ok (.iconst 4, 1) := dk_7 (dk_at dksX0_feed_0 2 rfl rfl)
theorem dX0_feed_3 : decode cX0_feed 3 = .ok (.invokestatic 3, 3) := dk_184 0 3 (dk_at dksX0_feed_0 3 rfl rfl)
theorem dX0_feed_6 : decode cX0_feed 6 = .ok (.ifCond .ne 9, 3) := dk_154 0 9 (dk_at dksX0_feed_0 6 rfl rfl)
theorem dX0_feed_9 : decode cX0_feed 9 = .ok (.aload_n 0, 1) := dk_42 (dk_at dksX0_feed_0 9 rfl rfl)
theorem dX0_feed_10 : decode cX0_feed 10 = .ok (.iconst 0, 1) := dk_3 (dk_at dksX0_feed_0 10 rfl rfl)
theorem dX0_feed_11 : decode cX0_feed 11 = .ok (.invokevirtual 142, 3) := dk_182 0 142 (dk_at dksX0_feed_0 11 rfl rfl)
theorem dX0_feed_14 : decode cX0_feed 14 = .ok (.ireturn, 1) := dk_172 (dk_at dksX0_feed_0 14 rfl rfl)
theorem dX0_feed_15 : decode cX0_feed 15 = .ok (.aload_n 0, 1) := dk_42 (dk_at dksX0_feed_0 15 rfl rfl)
theorem dX0_feed_16 : decode cX0_feed 16 = .ok (.getfield 389, 3) := dk_180 1 133 (dk_at dksX0_feed_0 16 rfl rfl)
theorem dX0_feed_19 : decode cX0_feed 19 = .ok (.iload_n 2, 1) := dk_28 (dk_at dksX0_feed_0 19 rfl rfl)
theorem dX0_feed_20 : decode cX0_feed 20 = .ok (.iadd, 1) := dk_96 (dk_at dksX0_feed_0 20 rfl rfl)
theorem dX0_feed_21 : decode cX0_feed 21 = .ok (.bipush 120, 2) := dk_16 120 (dk_at dksX0_feed_0 21 rfl rfl)
theorem dX0_feed_23 : decode cX0_feed 23 = .ok (.if_icmp .le 9, 3) := dk_164 0 9 (dk_at dksX0_feed_1 0 rfl rfl)
theorem dX0_feed_26 : decode cX0_feed 26 = .ok (.aload_n 0, 1) := dk_42 (dk_at dksX0_feed_1 3 rfl rfl)
theorem dX0_feed_27 : decode cX0_feed 27 = .ok (.iconst 1, 1) := dk_4 (dk_at dksX0_feed_1 4 rfl rfl)
theorem dX0_feed_28 : decode cX0_feed 28 = .ok (.invokevirtual 142, 3) := dk_182 0 142 (dk_at dksX0_feed_1 5 rfl rfl)
theorem dX0_feed_31 : decode cX0_feed 31 = .ok (.ireturn, 1) := dk_172 (dk_at dksX0_feed_1 8 rfl rfl)
theorem dX0_feed_32 : decode cX0_feed 32 = .ok (.iload_n 2, 1) := dk_28 (dk_at dksX0_feed_1 9 rfl rfl)
theorem dX0_feed_33 : decode cX0_feed 33 = .ok (.iconst 1, 1) := dk_4 (dk_at dksX0_feed_1 10 rfl rfl)
theorem dX0_feed_34 : decode cX0_feed 34 = .ok (.isub, 1) := dk_100 (dk_at dksX0_feed_1 11 rfl rfl)
theorem dX0_feed_35 : decode cX0_feed 35 = .ok (.istore_n 3, 1) := dk_62 (dk_at dksX0_feed_1 12 rfl rfl)
theorem dX0_feed_36 : decode cX0_feed 36 = .ok (.iload_n 3, 1) := dk_29 (dk_at dksX0_feed_1 13 rfl rfl)
theorem dX0_feed_37 : decode cX0_feed 37 = .ok (.ifCond .lt 38, 3) := dk_155 0 38 (dk_at dksX0_feed_1 14 rfl rfl)
theorem dX0_feed_40 : decode cX0_feed 40 = .ok (.aload_n 0, 1) := dk_42 (dk_at dksX0_feed_1 17 rfl rfl)
theorem dX0_feed_41 : decode cX0_feed 41 = .ok (.getfield 54, 3) := dk_180 0 54 (dk_at dksX0_feed_1 18 rfl rfl)
theorem dX0_feed_44 : decode cX0_feed 44 = .ok (.getfield 392, 3) := dk_180 1 136 (dk_at dksX0_feed_1 21 rfl rfl)
theorem dX0_feed_47 : decode cX0_feed 47 = .ok (.aload_n 0, 1) := dk_42 (dk_at dksX0_feed_2 0 rfl rfl)
theorem dX0_feed_48 : decode cX0_feed 48 = .ok (.getfield 389, 3) := dk_180 1 133 (dk_at dksX0_feed_2 1 rfl rfl)
theorem dX0_feed_51 : decode cX0_feed 51 = .ok (.iload_n 1, 1) := dk_27 (dk_at dksX0_feed_2 4 rfl rfl)
theorem dX0_feed_52 : decode cX0_feed 52 = .ok (.bipush 8, 2) := dk_16 8 (dk_at dksX0_feed_2 5 rfl rfl)
theorem dX0_feed_54 : decode cX0_feed 54 = .ok (.iload_n 3, 1) := dk_29 (dk_at dksX0_feed_2 7 rfl rfl)
theorem dX0_feed_55 : decode cX0_feed 55 = .ok (.imul, 1) := dk_104 (dk_at dksX0_feed_2 8 rfl rfl)
theorem dX0_feed_56 : decode cX0_feed 56 = .ok (.ishr, 1) := dk_122 (dk_at dksX0_feed_2 9 rfl rfl)
theorem dX0_feed_57 : decode cX0_feed 57 = .ok (.i2b, 1) := dk_145 (dk_at dksX0_feed_2 10 rfl rfl)
theorem dX0_feed_58 : decode cX0_feed 58 = .ok (.bastore, 1) := dk_84 (dk_at dksX0_feed_2 11 rfl rfl)
theorem dX0_feed_59 : decode cX0_feed 59 = .ok (.aload_n 0, 1) := dk_42 (dk_at dksX0_feed_2 12 rfl rfl)
theorem dX0_feed_60 : decode cX0_feed 60 = .ok (.dup, 1) := dk_89 (dk_at dksX0_feed_2 13 rfl rfl)
theorem dX0_feed_61 : decode cX0_feed 61 = .ok (.getfield 389, 3) := dk_180 1 133 (dk_at dksX0_feed_2 14 rfl rfl)
theorem dX0_feed_64 : decode cX0_feed 64 = .ok (.iconst 1, 1) := dk_4 (dk_at dksX0_feed_2 17 rfl rfl)
theorem dX0_feed_65 : decode cX0_feed 65 = .ok (.iadd, 1) := dk_96 (dk_at dksX0_feed_2 18 rfl rfl)
theorem dX0_feed_66 : decode cX0_feed 66 = .ok (.putfield 389, 3) := dk_181 1 133 (dk_at dksX0_feed_2 19 rfl rfl)
theorem dX0_feed_69 : decode cX0_feed 69 = .ok (.iinc 3 (-1), 3) := dk_132 3 255 (dk_at dksX0_feed_3 0 rfl rfl)
theorem dX0_feed_72 : decode cX0_feed 72 = .ok (.goto (-36), 3) := dk_167 255 220 (dk_at dksX0_feed_3 3 rfl rfl)
theorem dX0_feed_75 : decode cX0_feed 75 = .ok (.aload_n 0, 1) := dk_42 (dk_at dksX0_feed_3 6 rfl rfl)
theorem dX0_feed_76 : decode cX0_feed 76 = .ok (.getfield 389, 3) := dk_180 1 133 (dk_at dksX0_feed_3 7 rfl rfl)
theorem dX0_feed_79 : decode cX0_feed 79 = .ok (.ireturn, 1) := dk_172 (dk_at dksX0_feed_3 10 rfl rfl)
abbrev cX0_wipe : ByteArray := prog_1_method_94_code
def yX0_wipe : MethodName := ⟨RX0, "wipe", "()I"⟩
def dkwX0_wipe_0 : List UInt8 := [42, 180, 1, 133, 60, 42, 3, 181, 1, 133, 27, 172]
abbrev dktX0_wipe_0 : List UInt8 := dkwX0_wipe_0 ++ []
theorem dksX0_wipe_0 : cX0_wipe.data.toList.drop 0 = dktX0_wipe_0 := by decide +kernel
theorem dX0_wipe_0 : decode cX0_wipe 0 = .ok (.aload_n 0, 1) := dk_42 (dk_at dksX0_wipe_0 0 rfl rfl)
theorem dX0_wipe_1 : decode cX0_wipe 1 = .ok (.getfield 389, 3) := dk_180 1 133 (dk_at dksX0_wipe_0 1 rfl rfl)
theorem dX0_wipe_4 : decode cX0_wipe 4 = .ok (.istore_n 1, 1) := dk_60 (dk_at dksX0_wipe_0 4 rfl rfl)
theorem dX0_wipe_5 : decode cX0_wipe 5 = .ok (.aload_n 0, 1) := dk_42 (dk_at dksX0_wipe_0 5 rfl rfl)
theorem dX0_wipe_6 : decode cX0_wipe 6 = .ok (.iconst 0, 1) := dk_3 (dk_at dksX0_wipe_0 6 rfl rfl)
theorem dX0_wipe_7 : decode cX0_wipe 7 = .ok (.putfield 389, 3) := dk_181 1 133 (dk_at dksX0_wipe_0 7 rfl rfl)
theorem dX0_wipe_10 : decode cX0_wipe 10 = .ok (.iload_n 1, 1) := dk_27 (dk_at dksX0_wipe_0 10 rfl rfl)
theorem dX0_wipe_11 : decode cX0_wipe 11 = .ok (.ireturn, 1) := dk_172 (dk_at dksX0_wipe_0 11 rfl rfl)
abbrev cX0_text : ByteArray := prog_1_method_95_code
def yX0_text : MethodName := ⟨RX0, "text", "()I"⟩
def dkwX0_text_2 : List UInt8 := [180, 1, 143, 182, 1, 126, 27, 172, 76, 2, 42, 180, 0, 54, 180, 1, 151, 100, 172]
abbrev dktX0_text_2 : List UInt8 := dkwX0_text_2 ++ []
def dkwX0_text_1 : List UInt8 := [180, 0, 61, 182, 1, 126, 42, 180, 0, 54, 182, 1, 146, 60, 42, 180, 0, 61, 42, 180, 0, 54]
abbrev dktX0_text_1 : List UInt8 := dkwX0_text_1 ++ dktX0_text_2
def dkwX0_text_0 : List UInt8 := [42, 180, 0, 54, 42, 180, 1, 133, 181, 1, 140, 42, 3, 181, 1, 133, 42, 180, 0, 54, 180, 1, 143, 42]
abbrev dktX0_text_0 : List UInt8 := dkwX0_text_0 ++ dktX0_text_1
theorem dksX0_text_0 : cX0_text.data.toList.drop 0 = dktX0_text_0 := by decide +kernel
theorem dksX0_text_1 : cX0_text.data.toList.drop 24 = dktX0_text_1 := dk_seg dksX0_text_0 24 rfl rfl
theorem dksX0_text_2 : cX0_text.data.toList.drop 46 = dktX0_text_2 := dk_seg dksX0_text_1 22 rfl rfl
theorem dX0_text_0 : decode cX0_text 0 = .ok (.aload_n 0, 1) := dk_42 (dk_at dksX0_text_0 0 rfl rfl)
theorem dX0_text_1 : decode cX0_text 1 = .ok (.getfield 54, 3) := dk_180 0 54 (dk_at dksX0_text_0 1 rfl rfl)
theorem dX0_text_4 : decode cX0_text 4 = .ok (.aload_n 0, 1) := dk_42 (dk_at dksX0_text_0 4 rfl rfl)
theorem dX0_text_5 : decode cX0_text 5 = .ok (.getfield 389, 3) := dk_180 1 133 (dk_at dksX0_text_0 5 rfl rfl)
theorem dX0_text_8 : decode cX0_text 8 = .ok (.putfield 396, 3) := dk_181 1 140 (dk_at dksX0_text_0 8 rfl rfl)
theorem dX0_text_11 : decode cX0_text 11 = .ok (.aload_n 0, 1) := dk_42 (dk_at dksX0_text_0 11 rfl rfl)
theorem dX0_text_12 : decode cX0_text 12 = .ok (.iconst 0, 1) := dk_3 (dk_at dksX0_text_0 12 rfl rfl)
theorem dX0_text_13 : decode cX0_text 13 = .ok (.putfield 389, 3) := dk_181 1 133 (dk_at dksX0_text_0 13 rfl rfl)
theorem dX0_text_16 : decode cX0_text 16 = .ok (.aload_n 0, 1) := dk_42 (dk_at dksX0_text_0 16 rfl rfl)
theorem dX0_text_17 : decode cX0_text 17 = .ok (.getfield 54, 3) := dk_180 0 54 (dk_at dksX0_text_0 17 rfl rfl)
theorem dX0_text_20 : decode cX0_text 20 = .ok (.getfield 399, 3) := dk_180 1 143 (dk_at dksX0_text_0 20 rfl rfl)
theorem dX0_text_23 : decode cX0_text 23 = .ok (.aload_n 0, 1) := dk_42 (dk_at dksX0_text_0 23 rfl rfl)
theorem dX0_text_24 : decode cX0_text 24 = .ok (.getfield 61, 3) := dk_180 0 61 (dk_at dksX0_text_1 0 rfl rfl)
theorem dX0_text_27 : decode cX0_text 27 = .ok (.invokevirtual 382, 3) := dk_182 1 126 (dk_at dksX0_text_1 3 rfl rfl)
theorem dX0_text_30 : decode cX0_text 30 = .ok (.aload_n 0, 1) := dk_42 (dk_at dksX0_text_1 6 rfl rfl)
theorem dX0_text_31 : decode cX0_text 31 = .ok (.getfield 54, 3) := dk_180 0 54 (dk_at dksX0_text_1 7 rfl rfl)
theorem dX0_text_34 : decode cX0_text 34 = .ok (.invokevirtual 402, 3) := dk_182 1 146 (dk_at dksX0_text_1 10 rfl rfl)
theorem dX0_text_37 : decode cX0_text 37 = .ok (.istore_n 1, 1) := dk_60 (dk_at dksX0_text_1 13 rfl rfl)
theorem dX0_text_38 : decode cX0_text 38 = .ok (.aload_n 0, 1) := dk_42 (dk_at dksX0_text_1 14 rfl rfl)
theorem dX0_text_39 : decode cX0_text 39 = .ok (.getfield 61, 3) := dk_180 0 61 (dk_at dksX0_text_1 15 rfl rfl)
theorem dX0_text_42 : decode cX0_text 42 = .ok (.aload_n 0, 1) := dk_42 (dk_at dksX0_text_1 18 rfl rfl)
theorem dX0_text_43 : decode cX0_text 43 = .ok (.getfield 54, 3) := dk_180 0 54 (dk_at dksX0_text_1 19 rfl rfl)
theorem dX0_text_46 : decode cX0_text 46 = .ok (.getfield 399, 3) := dk_180 1 143 (dk_at dksX0_text_2 0 rfl rfl)
theorem dX0_text_49 : decode cX0_text 49 = .ok (.invokevirtual 382, 3) := dk_182 1 126 (dk_at dksX0_text_2 3 rfl rfl)
theorem dX0_text_52 : decode cX0_text 52 = .ok (.iload_n 1, 1) := dk_27 (dk_at dksX0_text_2 6 rfl rfl)
theorem dX0_text_53 : decode cX0_text 53 = .ok (.ireturn, 1) := dk_172 (dk_at dksX0_text_2 7 rfl rfl)
theorem dX0_text_54 : decode cX0_text 54 = .ok (.astore_n 1, 1) := dk_76 (dk_at dksX0_text_2 8 rfl rfl)
theorem dX0_text_55 : decode cX0_text 55 = .ok (.iconst (-1), 1) := dk_2 (dk_at dksX0_text_2 9 rfl rfl)
theorem dX0_text_56 : decode cX0_text 56 = .ok (.aload_n 0, 1) := dk_42 (dk_at dksX0_text_2 10 rfl rfl)
theorem dX0_text_57 : decode cX0_text 57 = .ok (.getfield 54, 3) := dk_180 0 54 (dk_at dksX0_text_2 11 rfl rfl)
theorem dX0_text_60 : decode cX0_text 60 = .ok (.getfield 407, 3) := dk_180 1 151 (dk_at dksX0_text_2 14 rfl rfl)
theorem dX0_text_63 : decode cX0_text 63 = .ok (.isub, 1) := dk_100 (dk_at dksX0_text_2 17 rfl rfl)
theorem dX0_text_64 : decode cX0_text 64 = .ok (.ireturn, 1) := dk_172 (dk_at dksX0_text_2 18 rfl rfl)
abbrev cX0_hold : ByteArray := prog_1_method_98_code
def yX0_hold : MethodName := ⟨RX0, "hold", "(II)I"⟩
def dkwX0_hold_1 : List UInt8 := [182, 0, 142, 172, 42, 180, 0, 61, 180, 1, 154, 27, 28, 79, 4, 172]
abbrev dktX0_hold_1 : List UInt8 := dkwX0_hold_1 ++ []
def dkwX0_hold_0 : List UInt8 := [27, 184, 1, 157, 153, 0, 16, 28, 2, 159, 0, 17, 42, 28, 182, 0, 161, 154, 0, 9, 42, 3]
abbrev dktX0_hold_0 : List UInt8 := dkwX0_hold_0 ++ dktX0_hold_1
theorem dksX0_hold_0 : cX0_hold.data.toList.drop 0 = dktX0_hold_0 := by decide +kernel
theorem dksX0_hold_1 : cX0_hold.data.toList.drop 22 = dktX0_hold_1 := dk_seg dksX0_hold_0 22 rfl rfl
theorem dX0_hold_0 : decode cX0_hold 0 = .ok (.iload_n 1, 1) := dk_27 (dk_at dksX0_hold_0 0 rfl rfl)
theorem dX0_hold_1 : decode cX0_hold 1 = .ok (.invokestatic 413, 3) := dk_184 1 157 (dk_at dksX0_hold_0 1 rfl rfl)
theorem dX0_hold_4 : decode cX0_hold 4 = .ok (.ifCond .eq 16, 3) := dk_153 0 16 (dk_at dksX0_hold_0 4 rfl rfl)
theorem dX0_hold_7 : decode cX0_hold 7 = .ok (.iload_n 2, 1) := dk_28 (dk_at dksX0_hold_0 7 rfl rfl)
theorem dX0_hold_8 : decode cX0_hold 8 = .ok (.iconst (-1), 1) := dk_2 (dk_at dksX0_hold_0 8 rfl rfl)
theorem dX0_hold_9 : decode cX0_hold 9 = .ok (.if_icmp .eq 17, 3) := dk_159 0 17 (dk_at dksX0_hold_0 9 rfl rfl)
theorem dX0_hold_12 : decode cX0_hold 12 = .ok (.aload_n 0, 1) := dk_42 (dk_at dksX0_hold_0 12 rfl rfl)
theorem dX0_hold_13 : decode cX0_hold 13 = .ok (.iload_n 2, 1) := dk_28 (dk_at dksX0_hold_0 13 rfl rfl)
theorem dX0_hold_14 : decode cX0_hold 14 = .ok (.invokevirtual 161, 3) := dk_182 0 161 (dk_at dksX0_hold_0 14 rfl rfl)
theorem dX0_hold_17 : decode cX0_hold 17 = .ok (.ifCond .ne 9, 3) := dk_154 0 9 (dk_at dksX0_hold_0 17 rfl rfl)
theorem dX0_hold_20 : decode cX0_hold 20 = .ok (.aload_n 0, 1) := dk_42 (dk_at dksX0_hold_0 20 rfl rfl)
theorem dX0_hold_21 : decode cX0_hold 21 = .ok (.iconst 0, 1) := dk_3 (dk_at dksX0_hold_0 21 rfl rfl)
theorem dX0_hold_22 : decode cX0_hold 22 = .ok (.invokevirtual 142, 3) := dk_182 0 142 (dk_at dksX0_hold_1 0 rfl rfl)
theorem dX0_hold_25 : decode cX0_hold 25 = .ok (.ireturn, 1) := dk_172 (dk_at dksX0_hold_1 3 rfl rfl)
theorem dX0_hold_26 : decode cX0_hold 26 = .ok (.aload_n 0, 1) := dk_42 (dk_at dksX0_hold_1 4 rfl rfl)
theorem dX0_hold_27 : decode cX0_hold 27 = .ok (.getfield 61, 3) := dk_180 0 61 (dk_at dksX0_hold_1 5 rfl rfl)
theorem dX0_hold_30 : decode cX0_hold 30 = .ok (.getfield 410, 3) := dk_180 1 154 (dk_at dksX0_hold_1 8 rfl rfl)
theorem dX0_hold_33 : decode cX0_hold 33 = .ok (.iload_n 1, 1) := dk_27 (dk_at dksX0_hold_1 11 rfl rfl)
theorem dX0_hold_34 : decode cX0_hold 34 = .ok (.iload_n 2, 1) := dk_28 (dk_at dksX0_hold_1 12 rfl rfl)
theorem dX0_hold_35 : decode cX0_hold 35 = .ok (.iastore, 1) := dk_79 (dk_at dksX0_hold_1 13 rfl rfl)
theorem dX0_hold_36 : decode cX0_hold 36 = .ok (.iconst 1, 1) := dk_4 (dk_at dksX0_hold_1 14 rfl rfl)
theorem dX0_hold_37 : decode cX0_hold 37 = .ok (.ireturn, 1) := dk_172 (dk_at dksX0_hold_1 15 rfl rfl)
abbrev cX0_isSpot : ByteArray := prog_1_method_4_code
def yX0_isSpot : MethodName := ⟨RX0, "isSpot", "(I)Z"⟩
def dkwX0_isSpot_0 : List UInt8 := [26, 3, 16, 9, 184, 0, 3, 172]
abbrev dktX0_isSpot_0 : List UInt8 := dkwX0_isSpot_0 ++ []
theorem dksX0_isSpot_0 : cX0_isSpot.data.toList.drop 0 = dktX0_isSpot_0 := by decide +kernel
theorem dX0_isSpot_0 : decode cX0_isSpot 0 = .ok (.iload_n 0, 1) := dk_26 (dk_at dksX0_isSpot_0 0 rfl rfl)
theorem dX0_isSpot_1 : decode cX0_isSpot 1 = .ok (.iconst 0, 1) := dk_3 (dk_at dksX0_isSpot_0 1 rfl rfl)
theorem dX0_isSpot_2 : decode cX0_isSpot 2 = .ok (.bipush 9, 2) := dk_16 9 (dk_at dksX0_isSpot_0 2 rfl rfl)
theorem dX0_isSpot_4 : decode cX0_isSpot 4 = .ok (.invokestatic 3, 3) := dk_184 0 3 (dk_at dksX0_isSpot_0 4 rfl rfl)
theorem dX0_isSpot_7 : decode cX0_isSpot 7 = .ok (.ireturn, 1) := dk_172 (dk_at dksX0_isSpot_0 7 rfl rfl)
abbrev cX0_as : ByteArray := prog_1_method_100_code
def yX0_as : MethodName := ⟨RX0, "as", "(II)I"⟩
def dkwX0_as_3 : List UInt8 := [184, 1, 167, 180, 1, 171, 167, 0, 8, 42, 5, 182, 0, 142, 172]
abbrev dktX0_as_3 : List UInt8 := dkwX0_as_3 ++ []
def dkwX0_as_2 : List UInt8 := [192, 0, 36, 28, 182, 1, 164, 153, 0, 7, 4, 167, 0, 4, 3, 54, 4, 21, 4, 153, 0, 14, 45, 28]
abbrev dktX0_as_2 : List UInt8 := dkwX0_as_2 ++ dktX0_as_3
def dkwX0_as_1 : List UInt8 := [182, 1, 160, 78, 45, 199, 0, 9, 42, 8, 182, 0, 142, 172, 45, 193, 0, 36, 153, 0, 18, 45]
abbrev dktX0_as_1 : List UInt8 := dkwX0_as_1 ++ dktX0_as_2
def dkwX0_as_0 : List UInt8 := [27, 184, 1, 157, 153, 0, 10, 28, 184, 0, 11, 154, 0, 9, 42, 3, 182, 0, 142, 172, 42, 27]
abbrev dktX0_as_0 : List UInt8 := dkwX0_as_0 ++ dktX0_as_1
theorem dksX0_as_0 : cX0_as.data.toList.drop 0 = dktX0_as_0 := by decide +kernel
theorem dksX0_as_1 : cX0_as.data.toList.drop 22 = dktX0_as_1 := dk_seg dksX0_as_0 22 rfl rfl
theorem dksX0_as_2 : cX0_as.data.toList.drop 44 = dktX0_as_2 := dk_seg dksX0_as_1 22 rfl rfl
theorem dksX0_as_3 : cX0_as.data.toList.drop 68 = dktX0_as_3 := dk_seg dksX0_as_2 24 rfl rfl
theorem dX0_as_0 : decode cX0_as 0 = .ok (.iload_n 1, 1) := dk_27 (dk_at dksX0_as_0 0 rfl rfl)
theorem dX0_as_1 : decode cX0_as 1 = .ok (.invokestatic 413, 3) := dk_184 1 157 (dk_at dksX0_as_0 1 rfl rfl)
theorem dX0_as_4 : decode cX0_as 4 = .ok (.ifCond .eq 10, 3) := dk_153 0 10 (dk_at dksX0_as_0 4 rfl rfl)
theorem dX0_as_7 : decode cX0_as 7 = .ok (.iload_n 2, 1) := dk_28 (dk_at dksX0_as_0 7 rfl rfl)
theorem dX0_as_8 : decode cX0_as 8 = .ok (.invokestatic 11, 3) := dk_184 0 11 (dk_at dksX0_as_0 8 rfl rfl)
theorem dX0_as_11 : decode cX0_as 11 = .ok (.ifCond .ne 9, 3) := dk_154 0 9 (dk_at dksX0_as_0 11 rfl rfl)
theorem dX0_as_14 : decode cX0_as 14 = .ok (.aload_n 0, 1) := dk_42 (dk_at dksX0_as_0 14 rfl rfl)
theorem dX0_as_15 : decode cX0_as 15 = .ok (.iconst 0, 1) := dk_3 (dk_at dksX0_as_0 15 rfl rfl)
theorem dX0_as_16 : decode cX0_as 16 = .ok (.invokevirtual 142, 3) := dk_182 0 142 (dk_at dksX0_as_0 16 rfl rfl)
theorem dX0_as_19 : decode cX0_as 19 = .ok (.ireturn, 1) := dk_172 (dk_at dksX0_as_0 19 rfl rfl)
theorem dX0_as_20 : decode cX0_as 20 = .ok (.aload_n 0, 1) := dk_42 (dk_at dksX0_as_0 20 rfl rfl)
theorem dX0_as_21 : decode cX0_as 21 = .ok (.iload_n 1, 1) := dk_27 (dk_at dksX0_as_0 21 rfl rfl)
theorem dX0_as_22 : decode cX0_as 22 = .ok (.invokevirtual 416, 3) := dk_182 1 160 (dk_at dksX0_as_1 0 rfl rfl)
theorem dX0_as_25 : decode cX0_as 25 = .ok (.astore_n 3, 1) := dk_78 (dk_at dksX0_as_1 3 rfl rfl)
theorem dX0_as_26 : decode cX0_as 26 = .ok (.aload_n 3, 1) := dk_45 (dk_at dksX0_as_1 4 rfl rfl)
theorem dX0_as_27 : decode cX0_as 27 = .ok (.ifnonnull 9, 3) := dk_199 0 9 (dk_at dksX0_as_1 5 rfl rfl)
theorem dX0_as_30 : decode cX0_as 30 = .ok (.aload_n 0, 1) := dk_42 (dk_at dksX0_as_1 8 rfl rfl)
theorem dX0_as_31 : decode cX0_as 31 = .ok (.iconst 5, 1) := dk_8 (dk_at dksX0_as_1 9 rfl rfl)
theorem dX0_as_32 : decode cX0_as 32 = .ok (.invokevirtual 142, 3) := dk_182 0 142 (dk_at dksX0_as_1 10 rfl rfl)
theorem dX0_as_35 : decode cX0_as 35 = .ok (.ireturn, 1) := dk_172 (dk_at dksX0_as_1 13 rfl rfl)
theorem dX0_as_36 : decode cX0_as 36 = .ok (.aload_n 3, 1) := dk_45 (dk_at dksX0_as_1 14 rfl rfl)
theorem dX0_as_37 : decode cX0_as 37 = .ok (.instanceof 36, 3) := dk_193 0 36 (dk_at dksX0_as_1 15 rfl rfl)
theorem dX0_as_40 : decode cX0_as 40 = .ok (.ifCond .eq 18, 3) := dk_153 0 18 (dk_at dksX0_as_1 18 rfl rfl)
theorem dX0_as_43 : decode cX0_as 43 = .ok (.aload_n 3, 1) := dk_45 (dk_at dksX0_as_1 21 rfl rfl)
theorem dX0_as_44 : decode cX0_as 44 = .ok (.checkcast 36, 3) := dk_192 0 36 (dk_at dksX0_as_2 0 rfl rfl)
theorem dX0_as_47 : decode cX0_as 47 = .ok (.iload_n 2, 1) := dk_28 (dk_at dksX0_as_2 3 rfl rfl)
theorem dX0_as_48 : decode cX0_as 48 = .ok (.invokevirtual 420, 3) := dk_182 1 164 (dk_at dksX0_as_2 4 rfl rfl)
theorem dX0_as_51 : decode cX0_as 51 = .ok (.ifCond .eq 7, 3) := dk_153 0 7 (dk_at dksX0_as_2 7 rfl rfl)
theorem dX0_as_54 : decode cX0_as 54 = .ok (.iconst 1, 1) := dk_4 (dk_at dksX0_as_2 10 rfl rfl)
theorem dX0_as_55 : decode cX0_as 55 = .ok (.goto 4, 3) := dk_167 0 4 (dk_at dksX0_as_2 11 rfl rfl)
theorem dX0_as_58 : decode cX0_as 58 = .ok (.iconst 0, 1) := dk_3 (dk_at dksX0_as_2 14 rfl rfl)
theorem dX0_as_59 : decode cX0_as 59 = .ok (.istore 4, 2) := dk_54 4 (dk_at dksX0_as_2 15 rfl rfl)
theorem dX0_as_61 : decode cX0_as 61 = .ok (.iload 4, 2) := dk_21 4 (dk_at dksX0_as_2 17 rfl rfl)
theorem dX0_as_63 : decode cX0_as 63 = .ok (.ifCond .eq 14, 3) := dk_153 0 14 (dk_at dksX0_as_2 19 rfl rfl)
theorem dX0_as_66 : decode cX0_as 66 = .ok (.aload_n 3, 1) := dk_45 (dk_at dksX0_as_2 22 rfl rfl)
theorem dX0_as_67 : decode cX0_as 67 = .ok (.iload_n 2, 1) := dk_28 (dk_at dksX0_as_2 23 rfl rfl)
theorem dX0_as_68 : decode cX0_as 68 = .ok (.invokestatic 423, 3) := dk_184 1 167 (dk_at dksX0_as_3 0 rfl rfl)
theorem dX0_as_71 : decode cX0_as 71 = .ok (.getfield 427, 3) := dk_180 1 171 (dk_at dksX0_as_3 3 rfl rfl)
theorem dX0_as_74 : decode cX0_as 74 = .ok (.goto 8, 3) := dk_167 0 8 (dk_at dksX0_as_3 6 rfl rfl)
theorem dX0_as_77 : decode cX0_as 77 = .ok (.aload_n 0, 1) := dk_42 (dk_at dksX0_as_3 9 rfl rfl)
theorem dX0_as_78 : decode cX0_as 78 = .ok (.iconst 2, 1) := dk_5 (dk_at dksX0_as_3 10 rfl rfl)
theorem dX0_as_79 : decode cX0_as 79 = .ok (.invokevirtual 142, 3) := dk_182 0 142 (dk_at dksX0_as_3 11 rfl rfl)
theorem dX0_as_82 : decode cX0_as 82 = .ok (.ireturn, 1) := dk_172 (dk_at dksX0_as_3 14 rfl rfl)
abbrev cX0_thingAt : ByteArray := prog_1_method_96_code
def yX0_thingAt : MethodName := ⟨RX0, "thingAt", "(I)Ljava/lang/Object;"⟩
def dkwX0_thingAt_1 : List UInt8 := [167, 0, 8, 42, 28, 182, 0, 148, 181, 0, 109, 42, 180, 0, 77, 27, 50, 180, 0, 109, 176]
abbrev dktX0_thingAt_1 : List UInt8 := dkwX0_thingAt_1 ++ []
def dkwX0_thingAt_0 : List UInt8 := [42, 180, 0, 61, 180, 1, 154, 27, 46, 61, 42, 180, 0, 77, 27, 50, 28, 2, 160, 0, 7, 1]
abbrev dktX0_thingAt_0 : List UInt8 := dkwX0_thingAt_0 ++ dktX0_thingAt_1
theorem dksX0_thingAt_0 : cX0_thingAt.data.toList.drop 0 = dktX0_thingAt_0 := by decide +kernel
theorem dksX0_thingAt_1 : cX0_thingAt.data.toList.drop 22 = dktX0_thingAt_1 := dk_seg dksX0_thingAt_0 22 rfl rfl
theorem dX0_thingAt_0 : decode cX0_thingAt 0 = .ok (.aload_n 0, 1) := dk_42 (dk_at dksX0_thingAt_0 0 rfl rfl)
theorem dX0_thingAt_1 : decode cX0_thingAt 1 = .ok (.getfield 61, 3) := dk_180 0 61 (dk_at dksX0_thingAt_0 1 rfl rfl)
theorem dX0_thingAt_4 : decode cX0_thingAt 4 = .ok (.getfield 410, 3) := dk_180 1 154 (dk_at dksX0_thingAt_0 4 rfl rfl)
theorem dX0_thingAt_7 : decode cX0_thingAt 7 = .ok (.iload_n 1, 1) := dk_27 (dk_at dksX0_thingAt_0 7 rfl rfl)
theorem dX0_thingAt_8 : decode cX0_thingAt 8 = .ok (.iaload, 1) := dk_46 (dk_at dksX0_thingAt_0 8 rfl rfl)
theorem dX0_thingAt_9 : decode cX0_thingAt 9 = .ok (.istore_n 2, 1) := dk_61 (dk_at dksX0_thingAt_0 9 rfl rfl)
theorem dX0_thingAt_10 : decode cX0_thingAt 10 = .ok (.aload_n 0, 1) := dk_42 (dk_at dksX0_thingAt_0 10 rfl rfl)
theorem dX0_thingAt_11 : decode cX0_thingAt 11 = .ok (.getfield 77, 3) := dk_180 0 77 (dk_at dksX0_thingAt_0 11 rfl rfl)
theorem dX0_thingAt_14 : decode cX0_thingAt 14 = .ok (.iload_n 1, 1) := dk_27 (dk_at dksX0_thingAt_0 14 rfl rfl)
theorem dX0_thingAt_15 : decode cX0_thingAt 15 = .ok (.aaload, 1) := dk_50 (dk_at dksX0_thingAt_0 15 rfl rfl)
theorem dX0_thingAt_16 : decode cX0_thingAt 16 = .ok (.iload_n 2, 1) := dk_28 (dk_at dksX0_thingAt_0 16 rfl rfl)
theorem dX0_thingAt_17 : decode cX0_thingAt 17 = .ok (.iconst (-1), 1) := dk_2 (dk_at dksX0_thingAt_0 17 rfl rfl)
theorem dX0_thingAt_18 : decode cX0_thingAt 18 = .ok (.if_icmp .ne 7, 3) := dk_160 0 7 (dk_at dksX0_thingAt_0 18 rfl rfl)
theorem dX0_thingAt_21 : decode cX0_thingAt 21 = .ok (.aconst_null, 1) := dk_1 (dk_at dksX0_thingAt_0 21 rfl rfl)
theorem dX0_thingAt_22 : decode cX0_thingAt 22 = .ok (.goto 8, 3) := dk_167 0 8 (dk_at dksX0_thingAt_1 0 rfl rfl)
theorem dX0_thingAt_25 : decode cX0_thingAt 25 = .ok (.aload_n 0, 1) := dk_42 (dk_at dksX0_thingAt_1 3 rfl rfl)
theorem dX0_thingAt_26 : decode cX0_thingAt 26 = .ok (.iload_n 2, 1) := dk_28 (dk_at dksX0_thingAt_1 4 rfl rfl)
theorem dX0_thingAt_27 : decode cX0_thingAt 27 = .ok (.invokevirtual 148, 3) := dk_182 0 148 (dk_at dksX0_thingAt_1 5 rfl rfl)
theorem dX0_thingAt_30 : decode cX0_thingAt 30 = .ok (.putfield 109, 3) := dk_181 0 109 (dk_at dksX0_thingAt_1 8 rfl rfl)
theorem dX0_thingAt_33 : decode cX0_thingAt 33 = .ok (.aload_n 0, 1) := dk_42 (dk_at dksX0_thingAt_1 11 rfl rfl)
theorem dX0_thingAt_34 : decode cX0_thingAt 34 = .ok (.getfield 77, 3) := dk_180 0 77 (dk_at dksX0_thingAt_1 12 rfl rfl)
theorem dX0_thingAt_37 : decode cX0_thingAt 37 = .ok (.iload_n 1, 1) := dk_27 (dk_at dksX0_thingAt_1 15 rfl rfl)
theorem dX0_thingAt_38 : decode cX0_thingAt 38 = .ok (.aaload, 1) := dk_50 (dk_at dksX0_thingAt_1 16 rfl rfl)
theorem dX0_thingAt_39 : decode cX0_thingAt 39 = .ok (.getfield 109, 3) := dk_180 0 109 (dk_at dksX0_thingAt_1 17 rfl rfl)
theorem dX0_thingAt_42 : decode cX0_thingAt 42 = .ok (.areturn, 1) := dk_176 (dk_at dksX0_thingAt_1 20 rfl rfl)
abbrev cX0_cast : ByteArray := prog_1_method_99_code
def yX0_cast : MethodName := ⟨RX0, "cast", "(Ljava/lang/Object;I)LCarryFair$Carrier;"⟩
def dkwX0_cast_3 : List UInt8 := [176, 42, 192, 0, 33, 176, 42, 192, 0, 36, 176]
abbrev dktX0_cast_3 : List UInt8 := dkwX0_cast_3 ++ []
def dkwX0_cast_2 : List UInt8 := [42, 192, 0, 15, 176, 42, 192, 0, 21, 176, 42, 192, 0, 24, 176, 42, 192, 0, 27, 176, 42, 192, 0, 30]
abbrev dktX0_cast_2 : List UInt8 := dkwX0_cast_2 ++ dktX0_cast_3
def dkwX0_cast_1 : List UInt8 := [170, 0, 0, 0, 0, 0, 69, 0, 0, 0, 1, 0, 0, 0, 6, 0, 0, 0, 39, 0, 0, 0, 44, 0, 0, 0, 49, 0, 0, 0, 54, 0, 0, 0, 59, 0, 0, 0, 64]
abbrev dktX0_cast_1 : List UInt8 := dkwX0_cast_1 ++ dktX0_cast_2
def dkwX0_cast_0 : List UInt8 := [27]
abbrev dktX0_cast_0 : List UInt8 := dkwX0_cast_0 ++ dktX0_cast_1
theorem dksX0_cast_0 : cX0_cast.data.toList.drop 0 = dktX0_cast_0 := by decide +kernel
theorem dksX0_cast_1 : cX0_cast.data.toList.drop 1 = dktX0_cast_1 := dk_seg dksX0_cast_0 1 rfl rfl
theorem dksX0_cast_2 : cX0_cast.data.toList.drop 40 = dktX0_cast_2 := dk_seg dksX0_cast_1 39 rfl rfl
theorem dksX0_cast_3 : cX0_cast.data.toList.drop 64 = dktX0_cast_3 := dk_seg dksX0_cast_2 24 rfl rfl
theorem dX0_cast_0 : decode cX0_cast 0 = .ok (.iload_n 1, 1) := dk_27 (dk_at dksX0_cast_0 0 rfl rfl)
theorem dX0_cast_1 : decode cX0_cast 1 = .ok (.tableswitch 69 1 6 #[39, 44, 49, 54, 59, 64], 39) := by decide +kernel
theorem dX0_cast_40 : decode cX0_cast 40 = .ok (.aload_n 0, 1) := dk_42 (dk_at dksX0_cast_2 0 rfl rfl)
theorem dX0_cast_41 : decode cX0_cast 41 = .ok (.checkcast 15, 3) := dk_192 0 15 (dk_at dksX0_cast_2 1 rfl rfl)
theorem dX0_cast_44 : decode cX0_cast 44 = .ok (.areturn, 1) := dk_176 (dk_at dksX0_cast_2 4 rfl rfl)
theorem dX0_cast_45 : decode cX0_cast 45 = .ok (.aload_n 0, 1) := dk_42 (dk_at dksX0_cast_2 5 rfl rfl)
theorem dX0_cast_46 : decode cX0_cast 46 = .ok (.checkcast 21, 3) := dk_192 0 21 (dk_at dksX0_cast_2 6 rfl rfl)
theorem dX0_cast_49 : decode cX0_cast 49 = .ok (.areturn, 1) := dk_176 (dk_at dksX0_cast_2 9 rfl rfl)
theorem dX0_cast_50 : decode cX0_cast 50 = .ok (.aload_n 0, 1) := dk_42 (dk_at dksX0_cast_2 10 rfl rfl)
theorem dX0_cast_51 : decode cX0_cast 51 = .ok (.checkcast 24, 3) := dk_192 0 24 (dk_at dksX0_cast_2 11 rfl rfl)
theorem dX0_cast_54 : decode cX0_cast 54 = .ok (.areturn, 1) := dk_176 (dk_at dksX0_cast_2 14 rfl rfl)
theorem dX0_cast_55 : decode cX0_cast 55 = .ok (.aload_n 0, 1) := dk_42 (dk_at dksX0_cast_2 15 rfl rfl)
theorem dX0_cast_56 : decode cX0_cast 56 = .ok (.checkcast 27, 3) := dk_192 0 27 (dk_at dksX0_cast_2 16 rfl rfl)
theorem dX0_cast_59 : decode cX0_cast 59 = .ok (.areturn, 1) := dk_176 (dk_at dksX0_cast_2 19 rfl rfl)
theorem dX0_cast_60 : decode cX0_cast 60 = .ok (.aload_n 0, 1) := dk_42 (dk_at dksX0_cast_2 20 rfl rfl)
theorem dX0_cast_61 : decode cX0_cast 61 = .ok (.checkcast 30, 3) := dk_192 0 30 (dk_at dksX0_cast_2 21 rfl rfl)
theorem dX0_cast_64 : decode cX0_cast 64 = .ok (.areturn, 1) := dk_176 (dk_at dksX0_cast_3 0 rfl rfl)
theorem dX0_cast_65 : decode cX0_cast 65 = .ok (.aload_n 0, 1) := dk_42 (dk_at dksX0_cast_3 1 rfl rfl)
theorem dX0_cast_66 : decode cX0_cast 66 = .ok (.checkcast 33, 3) := dk_192 0 33 (dk_at dksX0_cast_3 2 rfl rfl)
theorem dX0_cast_69 : decode cX0_cast 69 = .ok (.areturn, 1) := dk_176 (dk_at dksX0_cast_3 5 rfl rfl)
theorem dX0_cast_70 : decode cX0_cast 70 = .ok (.aload_n 0, 1) := dk_42 (dk_at dksX0_cast_3 6 rfl rfl)
theorem dX0_cast_71 : decode cX0_cast 71 = .ok (.checkcast 36, 3) := dk_192 0 36 (dk_at dksX0_cast_3 7 rfl rfl)
theorem dX0_cast_74 : decode cX0_cast 74 = .ok (.areturn, 1) := dk_176 (dk_at dksX0_cast_3 10 rfl rfl)
abbrev cX0_sheet : ByteArray := prog_1_method_101_code
def yX0_sheet : MethodName := ⟨RX0, "sheet", "(III)I"⟩
def dkwX0_sheet_4 : List UInt8 := [167, 0, 6, 29, 188, 10, 181, 0, 109, 28, 154, 0, 7, 3, 167, 0, 4, 29, 172]
abbrev dktX0_sheet_4 : List UInt8 := dkwX0_sheet_4 ++ []
def dkwX0_sheet_3 : List UInt8 := [167, 0, 30, 28, 16, 8, 160, 0, 9, 29, 188, 8, 167, 0, 18, 28, 16, 16, 160, 0, 9, 29, 188, 9]
abbrev dktX0_sheet_3 : List UInt8 := dkwX0_sheet_3 ++ dktX0_sheet_4
def dkwX0_sheet_2 : List UInt8 := [156, 0, 8, 16, 6, 167, 0, 4, 3, 182, 0, 142, 172, 42, 180, 0, 80, 27, 50, 28, 154, 0, 7, 1]
abbrev dktX0_sheet_2 : List UInt8 := dkwX0_sheet_2 ++ dktX0_sheet_3
def dkwX0_sheet_1 : List UInt8 := [16, 32, 159, 0, 9, 42, 3, 182, 0, 142, 172, 29, 155, 0, 9, 29, 16, 40, 164, 0, 18, 42, 29]
abbrev dktX0_sheet_1 : List UInt8 := dkwX0_sheet_1 ++ dktX0_sheet_2
def dkwX0_sheet_0 : List UInt8 := [27, 184, 1, 174, 153, 0, 25, 28, 153, 0, 27, 28, 16, 8, 159, 0, 21, 28, 16, 16, 159, 0, 15, 28]
abbrev dktX0_sheet_0 : List UInt8 := dkwX0_sheet_0 ++ dktX0_sheet_1
theorem dksX0_sheet_0 : cX0_sheet.data.toList.drop 0 = dktX0_sheet_0 := by decide +kernel
theorem dksX0_sheet_1 : cX0_sheet.data.toList.drop 24 = dktX0_sheet_1 := dk_seg dksX0_sheet_0 24 rfl rfl
theorem dksX0_sheet_2 : cX0_sheet.data.toList.drop 47 = dktX0_sheet_2 := dk_seg dksX0_sheet_1 23 rfl rfl
theorem dksX0_sheet_3 : cX0_sheet.data.toList.drop 71 = dktX0_sheet_3 := dk_seg dksX0_sheet_2 24 rfl rfl
theorem dksX0_sheet_4 : cX0_sheet.data.toList.drop 95 = dktX0_sheet_4 := dk_seg dksX0_sheet_3 24 rfl rfl
theorem dX0_sheet_0 : decode cX0_sheet 0 = .ok (.iload_n 1, 1) := dk_27 (dk_at dksX0_sheet_0 0 rfl rfl)
theorem dX0_sheet_1 : decode cX0_sheet 1 = .ok (.invokestatic 430, 3) := dk_184 1 174 (dk_at dksX0_sheet_0 1 rfl rfl)
theorem dX0_sheet_4 : decode cX0_sheet 4 = .ok (.ifCond .eq 25, 3) := dk_153 0 25 (dk_at dksX0_sheet_0 4 rfl rfl)
theorem dX0_sheet_7 : decode cX0_sheet 7 = .ok (.iload_n 2, 1) := dk_28 (dk_at dksX0_sheet_0 7 rfl rfl)
theorem dX0_sheet_8 : decode cX0_sheet 8 = .ok (.ifCond .eq 27, 3) := dk_153 0 27 (dk_at dksX0_sheet_0 8 rfl rfl)
theorem dX0_sheet_11 : decode cX0_sheet 11 = .ok (.iload_n 2, 1) := dk_28 (dk_at dksX0_sheet_0 11 rfl rfl)
theorem dX0_sheet_12 : decode cX0_sheet 12 = .ok (.bipush 8, 2) := dk_16 8 (dk_at dksX0_sheet_0 12 rfl rfl)
theorem dX0_sheet_14 : decode cX0_sheet 14 = .ok (.if_icmp .eq 21, 3) := dk_159 0 21 (dk_at dksX0_sheet_0 14 rfl rfl)
theorem dX0_sheet_17 : decode cX0_sheet 17 = .ok (.iload_n 2, 1) := dk_28 (dk_at dksX0_sheet_0 17 rfl rfl)
theorem dX0_sheet_18 : decode cX0_sheet 18 = .ok (.bipush 16, 2) := dk_16 16 (dk_at dksX0_sheet_0 18 rfl rfl)
theorem dX0_sheet_20 : decode cX0_sheet 20 = .ok (.if_icmp .eq 15, 3) := dk_159 0 15 (dk_at dksX0_sheet_0 20 rfl rfl)
theorem dX0_sheet_23 : decode cX0_sheet 23 = .ok (.iload_n 2, 1) := dk_28 (dk_at dksX0_sheet_0 23 rfl rfl)
theorem dX0_sheet_24 : decode cX0_sheet 24 = .ok (.bipush 32, 2) := dk_16 32 (dk_at dksX0_sheet_1 0 rfl rfl)
theorem dX0_sheet_26 : decode cX0_sheet 26 = .ok (.if_icmp .eq 9, 3) := dk_159 0 9 (dk_at dksX0_sheet_1 2 rfl rfl)
theorem dX0_sheet_29 : decode cX0_sheet 29 = .ok (.aload_n 0, 1) := dk_42 (dk_at dksX0_sheet_1 5 rfl rfl)
theorem dX0_sheet_30 : decode cX0_sheet 30 = .ok (.iconst 0, 1) := dk_3 (dk_at dksX0_sheet_1 6 rfl rfl)
theorem dX0_sheet_31 : decode cX0_sheet 31 = .ok (.invokevirtual 142, 3) := dk_182 0 142 (dk_at dksX0_sheet_1 7 rfl rfl)
theorem dX0_sheet_34 : decode cX0_sheet 34 = .ok (.ireturn, 1) := dk_172 (dk_at dksX0_sheet_1 10 rfl rfl)
theorem dX0_sheet_35 : decode cX0_sheet 35 = .ok (.iload_n 3, 1) := dk_29 (dk_at dksX0_sheet_1 11 rfl rfl)
theorem dX0_sheet_36 : decode cX0_sheet 36 = .ok (.ifCond .lt 9, 3) := dk_155 0 9 (dk_at dksX0_sheet_1 12 rfl rfl)
theorem dX0_sheet_39 : decode cX0_sheet 39 = .ok (.iload_n 3, 1) := dk_29 (dk_at dksX0_sheet_1 15 rfl rfl)
theorem dX0_sheet_40 : decode cX0_sheet 40 = .ok (.bipush 40, 2) := dk_16 40 (dk_at dksX0_sheet_1 16 rfl rfl)
theorem dX0_sheet_42 : decode cX0_sheet 42 = .ok (.if_icmp .le 18, 3) := dk_164 0 18 (dk_at dksX0_sheet_1 18 rfl rfl)
theorem dX0_sheet_45 : decode cX0_sheet 45 = .ok (.aload_n 0, 1) := dk_42 (dk_at dksX0_sheet_1 21 rfl rfl)
theorem dX0_sheet_46 : decode cX0_sheet 46 = .ok (.iload_n 3, 1) := dk_29 (dk_at dksX0_sheet_1 22 rfl rfl)
theorem dX0_sheet_47 : decode cX0_sheet 47 = .ok (.ifCond .ge 8, 3) := dk_156 0 8 (dk_at dksX0_sheet_2 0 rfl rfl)
theorem dX0_sheet_50 : decode cX0_sheet 50 = .ok (.bipush 6, 2) := dk_16 6 (dk_at dksX0_sheet_2 3 rfl rfl)
theorem dX0_sheet_52 : decode cX0_sheet 52 = .ok (.goto 4, 3) := dk_167 0 4 (dk_at dksX0_sheet_2 5 rfl rfl)
theorem dX0_sheet_55 : decode cX0_sheet 55 = .ok (.iconst 0, 1) := dk_3 (dk_at dksX0_sheet_2 8 rfl rfl)
theorem dX0_sheet_56 : decode cX0_sheet 56 = .ok (.invokevirtual 142, 3) := dk_182 0 142 (dk_at dksX0_sheet_2 9 rfl rfl)
theorem dX0_sheet_59 : decode cX0_sheet 59 = .ok (.ireturn, 1) := dk_172 (dk_at dksX0_sheet_2 12 rfl rfl)
theorem dX0_sheet_60 : decode cX0_sheet 60 = .ok (.aload_n 0, 1) := dk_42 (dk_at dksX0_sheet_2 13 rfl rfl)
theorem dX0_sheet_61 : decode cX0_sheet 61 = .ok (.getfield 80, 3) := dk_180 0 80 (dk_at dksX0_sheet_2 14 rfl rfl)
theorem dX0_sheet_64 : decode cX0_sheet 64 = .ok (.iload_n 1, 1) := dk_27 (dk_at dksX0_sheet_2 17 rfl rfl)
theorem dX0_sheet_65 : decode cX0_sheet 65 = .ok (.aaload, 1) := dk_50 (dk_at dksX0_sheet_2 18 rfl rfl)
theorem dX0_sheet_66 : decode cX0_sheet 66 = .ok (.iload_n 2, 1) := dk_28 (dk_at dksX0_sheet_2 19 rfl rfl)
theorem dX0_sheet_67 : decode cX0_sheet 67 = .ok (.ifCond .ne 7, 3) := dk_154 0 7 (dk_at dksX0_sheet_2 20 rfl rfl)
theorem dX0_sheet_70 : decode cX0_sheet 70 = .ok (.aconst_null, 1) := dk_1 (dk_at dksX0_sheet_2 23 rfl rfl)
theorem dX0_sheet_71 : decode cX0_sheet 71 = .ok (.goto 30, 3) := dk_167 0 30 (dk_at dksX0_sheet_3 0 rfl rfl)
theorem dX0_sheet_74 : decode cX0_sheet 74 = .ok (.iload_n 2, 1) := dk_28 (dk_at dksX0_sheet_3 3 rfl rfl)
theorem dX0_sheet_75 : decode cX0_sheet 75 = .ok (.bipush 8, 2) := dk_16 8 (dk_at dksX0_sheet_3 4 rfl rfl)
theorem dX0_sheet_77 : decode cX0_sheet 77 = .ok (.if_icmp .ne 9, 3) := dk_160 0 9 (dk_at dksX0_sheet_3 6 rfl rfl)
theorem dX0_sheet_80 : decode cX0_sheet 80 = .ok (.iload_n 3, 1) := dk_29 (dk_at dksX0_sheet_3 9 rfl rfl)
theorem dX0_sheet_81 : decode cX0_sheet 81 = .ok (.newarray .byte, 2) := dk_188_8 (dk_at dksX0_sheet_3 10 rfl rfl)
theorem dX0_sheet_83 : decode cX0_sheet 83 = .ok (.goto 18, 3) := dk_167 0 18 (dk_at dksX0_sheet_3 12 rfl rfl)
theorem dX0_sheet_86 : decode cX0_sheet 86 = .ok (.iload_n 2, 1) := dk_28 (dk_at dksX0_sheet_3 15 rfl rfl)
theorem dX0_sheet_87 : decode cX0_sheet 87 = .ok (.bipush 16, 2) := dk_16 16 (dk_at dksX0_sheet_3 16 rfl rfl)
theorem dX0_sheet_89 : decode cX0_sheet 89 = .ok (.if_icmp .ne 9, 3) := dk_160 0 9 (dk_at dksX0_sheet_3 18 rfl rfl)
theorem dX0_sheet_92 : decode cX0_sheet 92 = .ok (.iload_n 3, 1) := dk_29 (dk_at dksX0_sheet_3 21 rfl rfl)
theorem dX0_sheet_93 : decode cX0_sheet 93 = .ok (.newarray .short, 2) := dk_188_9 (dk_at dksX0_sheet_3 22 rfl rfl)
theorem dX0_sheet_95 : decode cX0_sheet 95 = .ok (.goto 6, 3) := dk_167 0 6 (dk_at dksX0_sheet_4 0 rfl rfl)
theorem dX0_sheet_98 : decode cX0_sheet 98 = .ok (.iload_n 3, 1) := dk_29 (dk_at dksX0_sheet_4 3 rfl rfl)
theorem dX0_sheet_99 : decode cX0_sheet 99 = .ok (.newarray .int, 2) := dk_188_10 (dk_at dksX0_sheet_4 4 rfl rfl)
theorem dX0_sheet_101 : decode cX0_sheet 101 = .ok (.putfield 109, 3) := dk_181 0 109 (dk_at dksX0_sheet_4 6 rfl rfl)
theorem dX0_sheet_104 : decode cX0_sheet 104 = .ok (.iload_n 2, 1) := dk_28 (dk_at dksX0_sheet_4 9 rfl rfl)
theorem dX0_sheet_105 : decode cX0_sheet 105 = .ok (.ifCond .ne 7, 3) := dk_154 0 7 (dk_at dksX0_sheet_4 10 rfl rfl)
theorem dX0_sheet_108 : decode cX0_sheet 108 = .ok (.iconst 0, 1) := dk_3 (dk_at dksX0_sheet_4 13 rfl rfl)
theorem dX0_sheet_109 : decode cX0_sheet 109 = .ok (.goto 4, 3) := dk_167 0 4 (dk_at dksX0_sheet_4 14 rfl rfl)
theorem dX0_sheet_112 : decode cX0_sheet 112 = .ok (.iload_n 3, 1) := dk_29 (dk_at dksX0_sheet_4 17 rfl rfl)
theorem dX0_sheet_113 : decode cX0_sheet 113 = .ok (.ireturn, 1) := dk_172 (dk_at dksX0_sheet_4 18 rfl rfl)
abbrev cX0_isSheet : ByteArray := prog_1_method_3_code
def yX0_isSheet : MethodName := ⟨RX0, "isSheet", "(I)Z"⟩
def dkwX0_isSheet_0 : List UInt8 := [26, 3, 6, 184, 0, 3, 172]
abbrev dktX0_isSheet_0 : List UInt8 := dkwX0_isSheet_0 ++ []
theorem dksX0_isSheet_0 : cX0_isSheet.data.toList.drop 0 = dktX0_isSheet_0 := by decide +kernel
theorem dX0_isSheet_0 : decode cX0_isSheet 0 = .ok (.iload_n 0, 1) := dk_26 (dk_at dksX0_isSheet_0 0 rfl rfl)
theorem dX0_isSheet_1 : decode cX0_isSheet 1 = .ok (.iconst 0, 1) := dk_3 (dk_at dksX0_isSheet_0 1 rfl rfl)
theorem dX0_isSheet_2 : decode cX0_isSheet 2 = .ok (.iconst 3, 1) := dk_6 (dk_at dksX0_isSheet_0 2 rfl rfl)
theorem dX0_isSheet_3 : decode cX0_isSheet 3 = .ok (.invokestatic 3, 3) := dk_184 0 3 (dk_at dksX0_isSheet_0 3 rfl rfl)
theorem dX0_isSheet_6 : decode cX0_isSheet 6 = .ok (.ireturn, 1) := dk_172 (dk_at dksX0_isSheet_0 6 rfl rfl)
abbrev cX0_write : ByteArray := prog_1_method_107_code
def yX0_write : MethodName := ⟨RX0, "write", "(III)I"⟩
def dkwX0_write_2 : List UInt8 := [58, 4, 42, 25, 4, 180, 0, 117, 182, 0, 142, 172]
abbrev dktX0_write_2 : List UInt8 := dkwX0_write_2 ++ []
def dkwX0_write_1 : List UInt8 := [3, 25, 4, 184, 1, 188, 4, 100, 184, 0, 3, 3, 182, 1, 177, 25, 4, 28, 29, 184, 1, 191, 4, 172]
abbrev dktX0_write_1 : List UInt8 := dkwX0_write_1 ++ dktX0_write_2
def dkwX0_write_0 : List UInt8 := [42, 27, 182, 1, 185, 58, 4, 42, 25, 4, 198, 0, 7, 4, 167, 0, 4, 3, 8, 182, 1, 177, 42, 28]
abbrev dktX0_write_0 : List UInt8 := dkwX0_write_0 ++ dktX0_write_1
theorem dksX0_write_0 : cX0_write.data.toList.drop 0 = dktX0_write_0 := by decide +kernel
theorem dksX0_write_1 : cX0_write.data.toList.drop 24 = dktX0_write_1 := dk_seg dksX0_write_0 24 rfl rfl
theorem dksX0_write_2 : cX0_write.data.toList.drop 48 = dktX0_write_2 := dk_seg dksX0_write_1 24 rfl rfl
theorem dX0_write_0 : decode cX0_write 0 = .ok (.aload_n 0, 1) := dk_42 (dk_at dksX0_write_0 0 rfl rfl)
theorem dX0_write_1 : decode cX0_write 1 = .ok (.iload_n 1, 1) := dk_27 (dk_at dksX0_write_0 1 rfl rfl)
theorem dX0_write_2 : decode cX0_write 2 = .ok (.invokevirtual 441, 3) := dk_182 1 185 (dk_at dksX0_write_0 2 rfl rfl)
theorem dX0_write_5 : decode cX0_write 5 = .ok (.astore 4, 2) := dk_58 4 (dk_at dksX0_write_0 5 rfl rfl)
theorem dX0_write_7 : decode cX0_write 7 = .ok (.aload_n 0, 1) := dk_42 (dk_at dksX0_write_0 7 rfl rfl)
theorem dX0_write_8 : decode cX0_write 8 = .ok (.aload 4, 2) := dk_25 4 (dk_at dksX0_write_0 8 rfl rfl)
theorem dX0_write_10 : decode cX0_write 10 = .ok (.ifnull 7, 3) := dk_198 0 7 (dk_at dksX0_write_0 10 rfl rfl)
theorem dX0_write_13 : decode cX0_write 13 = .ok (.iconst 1, 1) := dk_4 (dk_at dksX0_write_0 13 rfl rfl)
theorem dX0_write_14 : decode cX0_write 14 = .ok (.goto 4, 3) := dk_167 0 4 (dk_at dksX0_write_0 14 rfl rfl)
theorem dX0_write_17 : decode cX0_write 17 = .ok (.iconst 0, 1) := dk_3 (dk_at dksX0_write_0 17 rfl rfl)
theorem dX0_write_18 : decode cX0_write 18 = .ok (.iconst 5, 1) := dk_8 (dk_at dksX0_write_0 18 rfl rfl)
theorem dX0_write_19 : decode cX0_write 19 = .ok (.invokevirtual 433, 3) := dk_182 1 177 (dk_at dksX0_write_0 19 rfl rfl)
theorem dX0_write_22 : decode cX0_write 22 = .ok (.aload_n 0, 1) := dk_42 (dk_at dksX0_write_0 22 rfl rfl)
theorem dX0_write_23 : decode cX0_write 23 = .ok (.iload_n 2, 1) := dk_28 (dk_at dksX0_write_0 23 rfl rfl)
theorem dX0_write_24 : decode cX0_write 24 = .ok (.iconst 0, 1) := dk_3 (dk_at dksX0_write_1 0 rfl rfl)
theorem dX0_write_25 : decode cX0_write 25 = .ok (.aload 4, 2) := dk_25 4 (dk_at dksX0_write_1 1 rfl rfl)
theorem dX0_write_27 : decode cX0_write 27 = .ok (.invokestatic 444, 3) := dk_184 1 188 (dk_at dksX0_write_1 3 rfl rfl)
theorem dX0_write_30 : decode cX0_write 30 = .ok (.iconst 1, 1) := dk_4 (dk_at dksX0_write_1 6 rfl rfl)
theorem dX0_write_31 : decode cX0_write 31 = .ok (.isub, 1) := dk_100 (dk_at dksX0_write_1 7 rfl rfl)
theorem dX0_write_32 : decode cX0_write 32 = .ok (.invokestatic 3, 3) := dk_184 0 3 (dk_at dksX0_write_1 8 rfl rfl)
theorem dX0_write_35 : decode cX0_write 35 = .ok (.iconst 0, 1) := dk_3 (dk_at dksX0_write_1 11 rfl rfl)
theorem dX0_write_36 : decode cX0_write 36 = .ok (.invokevirtual 433, 3) := dk_182 1 177 (dk_at dksX0_write_1 12 rfl rfl)
theorem dX0_write_39 : decode cX0_write 39 = .ok (.aload 4, 2) := dk_25 4 (dk_at dksX0_write_1 15 rfl rfl)
theorem dX0_write_41 : decode cX0_write 41 = .ok (.iload_n 2, 1) := dk_28 (dk_at dksX0_write_1 17 rfl rfl)
theorem dX0_write_42 : decode cX0_write 42 = .ok (.iload_n 3, 1) := dk_29 (dk_at dksX0_write_1 18 rfl rfl)
theorem dX0_write_43 : decode cX0_write 43 = .ok (.invokestatic 447, 3) := dk_184 1 191 (dk_at dksX0_write_1 19 rfl rfl)
theorem dX0_write_46 : decode cX0_write 46 = .ok (.iconst 1, 1) := dk_4 (dk_at dksX0_write_1 22 rfl rfl)
theorem dX0_write_47 : decode cX0_write 47 = .ok (.ireturn, 1) := dk_172 (dk_at dksX0_write_1 23 rfl rfl)
theorem dX0_write_48 : decode cX0_write 48 = .ok (.astore 4, 2) := dk_58 4 (dk_at dksX0_write_2 0 rfl rfl)
theorem dX0_write_50 : decode cX0_write 50 = .ok (.aload_n 0, 1) := dk_42 (dk_at dksX0_write_2 2 rfl rfl)
theorem dX0_write_51 : decode cX0_write 51 = .ok (.aload 4, 2) := dk_25 4 (dk_at dksX0_write_2 3 rfl rfl)
theorem dX0_write_53 : decode cX0_write 53 = .ok (.getfield 117, 3) := dk_180 0 117 (dk_at dksX0_write_2 5 rfl rfl)
theorem dX0_write_56 : decode cX0_write 56 = .ok (.invokevirtual 142, 3) := dk_182 0 142 (dk_at dksX0_write_2 8 rfl rfl)
theorem dX0_write_59 : decode cX0_write 59 = .ok (.ireturn, 1) := dk_172 (dk_at dksX0_write_2 11 rfl rfl)
abbrev cX0_rowAt : ByteArray := prog_1_method_102_code
def yX0_rowAt : MethodName := ⟨RX0, "rowAt", "(I)Ljava/lang/Object;"⟩
def dkwX0_rowAt_0 : List UInt8 := [42, 27, 184, 1, 174, 3, 182, 1, 177, 42, 180, 0, 80, 27, 50, 180, 0, 109, 176]
abbrev dktX0_rowAt_0 : List UInt8 := dkwX0_rowAt_0 ++ []
theorem dksX0_rowAt_0 : cX0_rowAt.data.toList.drop 0 = dktX0_rowAt_0 := by decide +kernel
theorem dX0_rowAt_0 : decode cX0_rowAt 0 = .ok (.aload_n 0, 1) := dk_42 (dk_at dksX0_rowAt_0 0 rfl rfl)
theorem dX0_rowAt_1 : decode cX0_rowAt 1 = .ok (.iload_n 1, 1) := dk_27 (dk_at dksX0_rowAt_0 1 rfl rfl)
theorem dX0_rowAt_2 : decode cX0_rowAt 2 = .ok (.invokestatic 430, 3) := dk_184 1 174 (dk_at dksX0_rowAt_0 2 rfl rfl)
theorem dX0_rowAt_5 : decode cX0_rowAt 5 = .ok (.iconst 0, 1) := dk_3 (dk_at dksX0_rowAt_0 5 rfl rfl)
theorem dX0_rowAt_6 : decode cX0_rowAt 6 = .ok (.invokevirtual 433, 3) := dk_182 1 177 (dk_at dksX0_rowAt_0 6 rfl rfl)
theorem dX0_rowAt_9 : decode cX0_rowAt 9 = .ok (.aload_n 0, 1) := dk_42 (dk_at dksX0_rowAt_0 9 rfl rfl)
theorem dX0_rowAt_10 : decode cX0_rowAt 10 = .ok (.getfield 80, 3) := dk_180 0 80 (dk_at dksX0_rowAt_0 10 rfl rfl)
theorem dX0_rowAt_13 : decode cX0_rowAt 13 = .ok (.iload_n 1, 1) := dk_27 (dk_at dksX0_rowAt_0 13 rfl rfl)
theorem dX0_rowAt_14 : decode cX0_rowAt 14 = .ok (.aaload, 1) := dk_50 (dk_at dksX0_rowAt_0 14 rfl rfl)
theorem dX0_rowAt_15 : decode cX0_rowAt 15 = .ok (.getfield 109, 3) := dk_180 0 109 (dk_at dksX0_rowAt_0 15 rfl rfl)
theorem dX0_rowAt_18 : decode cX0_rowAt 18 = .ok (.areturn, 1) := dk_176 (dk_at dksX0_rowAt_0 18 rfl rfl)
abbrev cX0_need : ByteArray := prog_1_method_15_code
def yX0_need : MethodName := ⟨RX0, "need", "(ZI)V"⟩
def dkwX0_need_0 : List UInt8 := [27, 154, 0, 9, 42, 28, 182, 0, 121, 191, 177]
abbrev dktX0_need_0 : List UInt8 := dkwX0_need_0 ++ []
theorem dksX0_need_0 : cX0_need.data.toList.drop 0 = dktX0_need_0 := by decide +kernel
theorem dX0_need_0 : decode cX0_need 0 = .ok (.iload_n 1, 1) := dk_27 (dk_at dksX0_need_0 0 rfl rfl)
theorem dX0_need_1 : decode cX0_need 1 = .ok (.ifCond .ne 9, 3) := dk_154 0 9 (dk_at dksX0_need_0 1 rfl rfl)
theorem dX0_need_4 : decode cX0_need 4 = .ok (.aload_n 0, 1) := dk_42 (dk_at dksX0_need_0 4 rfl rfl)
theorem dX0_need_5 : decode cX0_need 5 = .ok (.iload_n 2, 1) := dk_28 (dk_at dksX0_need_0 5 rfl rfl)
theorem dX0_need_6 : decode cX0_need 6 = .ok (.invokevirtual 121, 3) := dk_182 0 121 (dk_at dksX0_need_0 6 rfl rfl)
theorem dX0_need_9 : decode cX0_need 9 = .ok (.athrow, 1) := dk_191 (dk_at dksX0_need_0 9 rfl rfl)
theorem dX0_need_10 : decode cX0_need 10 = .ok (.return_, 1) := dk_177 (dk_at dksX0_need_0 10 rfl rfl)
abbrev cX0_refused : ByteArray := prog_1_method_14_code
def yX0_refused : MethodName := ⟨RX0, "refused", "(I)LCarryFair$Refusal;"⟩
def dkwX0_refused_0 : List UInt8 := [42, 180, 0, 47, 27, 181, 0, 117, 42, 180, 0, 47, 176]
abbrev dktX0_refused_0 : List UInt8 := dkwX0_refused_0 ++ []
theorem dksX0_refused_0 : cX0_refused.data.toList.drop 0 = dktX0_refused_0 := by decide +kernel
theorem dX0_refused_0 : decode cX0_refused 0 = .ok (.aload_n 0, 1) := dk_42 (dk_at dksX0_refused_0 0 rfl rfl)
theorem dX0_refused_1 : decode cX0_refused 1 = .ok (.getfield 47, 3) := dk_180 0 47 (dk_at dksX0_refused_0 1 rfl rfl)
theorem dX0_refused_4 : decode cX0_refused 4 = .ok (.iload_n 1, 1) := dk_27 (dk_at dksX0_refused_0 4 rfl rfl)
theorem dX0_refused_5 : decode cX0_refused 5 = .ok (.putfield 117, 3) := dk_181 0 117 (dk_at dksX0_refused_0 5 rfl rfl)
theorem dX0_refused_8 : decode cX0_refused 8 = .ok (.aload_n 0, 1) := dk_42 (dk_at dksX0_refused_0 8 rfl rfl)
theorem dX0_refused_9 : decode cX0_refused 9 = .ok (.getfield 47, 3) := dk_180 0 47 (dk_at dksX0_refused_0 9 rfl rfl)
theorem dX0_refused_12 : decode cX0_refused 12 = .ok (.areturn, 1) := dk_176 (dk_at dksX0_refused_0 12 rfl rfl)
abbrev cX0_length : ByteArray := prog_1_method_103_code
def yX0_length : MethodName := ⟨RX0, "length", "(Ljava/lang/Object;)I"⟩
def dkwX0_length_1 : List UInt8 := [192, 1, 182, 190, 167, 0, 8, 42, 192, 1, 184, 190, 172]
abbrev dktX0_length_1 : List UInt8 := dkwX0_length_1 ++ []
def dkwX0_length_0 : List UInt8 := [42, 193, 1, 181, 153, 0, 11, 42, 192, 1, 181, 190, 167, 0, 23, 42, 193, 1, 182, 153, 0, 11, 42]
abbrev dktX0_length_0 : List UInt8 := dkwX0_length_0 ++ dktX0_length_1
theorem dksX0_length_0 : cX0_length.data.toList.drop 0 = dktX0_length_0 := by decide +kernel
theorem dksX0_length_1 : cX0_length.data.toList.drop 23 = dktX0_length_1 := dk_seg dksX0_length_0 23 rfl rfl
theorem dX0_length_0 : decode cX0_length 0 = .ok (.aload_n 0, 1) := dk_42 (dk_at dksX0_length_0 0 rfl rfl)
theorem dX0_length_1 : decode cX0_length 1 = .ok (.instanceof 437, 3) := dk_193 1 181 (dk_at dksX0_length_0 1 rfl rfl)
theorem dX0_length_4 : decode cX0_length 4 = .ok (.ifCond .eq 11, 3) := dk_153 0 11 (dk_at dksX0_length_0 4 rfl rfl)
theorem dX0_length_7 : decode cX0_length 7 = .ok (.aload_n 0, 1) := dk_42 (dk_at dksX0_length_0 7 rfl rfl)
theorem dX0_length_8 : decode cX0_length 8 = .ok (.checkcast 437, 3) := dk_192 1 181 (dk_at dksX0_length_0 8 rfl rfl)
theorem dX0_length_11 : decode cX0_length 11 = .ok (.arraylength, 1) := dk_190 (dk_at dksX0_length_0 11 rfl rfl)
theorem dX0_length_12 : decode cX0_length 12 = .ok (.goto 23, 3) := dk_167 0 23 (dk_at dksX0_length_0 12 rfl rfl)
theorem dX0_length_15 : decode cX0_length 15 = .ok (.aload_n 0, 1) := dk_42 (dk_at dksX0_length_0 15 rfl rfl)
theorem dX0_length_16 : decode cX0_length 16 = .ok (.instanceof 438, 3) := dk_193 1 182 (dk_at dksX0_length_0 16 rfl rfl)
theorem dX0_length_19 : decode cX0_length 19 = .ok (.ifCond .eq 11, 3) := dk_153 0 11 (dk_at dksX0_length_0 19 rfl rfl)
theorem dX0_length_22 : decode cX0_length 22 = .ok (.aload_n 0, 1) := dk_42 (dk_at dksX0_length_0 22 rfl rfl)
theorem dX0_length_23 : decode cX0_length 23 = .ok (.checkcast 438, 3) := dk_192 1 182 (dk_at dksX0_length_1 0 rfl rfl)
theorem dX0_length_26 : decode cX0_length 26 = .ok (.arraylength, 1) := dk_190 (dk_at dksX0_length_1 3 rfl rfl)
theorem dX0_length_27 : decode cX0_length 27 = .ok (.goto 8, 3) := dk_167 0 8 (dk_at dksX0_length_1 4 rfl rfl)
theorem dX0_length_30 : decode cX0_length 30 = .ok (.aload_n 0, 1) := dk_42 (dk_at dksX0_length_1 7 rfl rfl)
theorem dX0_length_31 : decode cX0_length 31 = .ok (.checkcast 440, 3) := dk_192 1 184 (dk_at dksX0_length_1 8 rfl rfl)
theorem dX0_length_34 : decode cX0_length 34 = .ok (.arraylength, 1) := dk_190 (dk_at dksX0_length_1 11 rfl rfl)
theorem dX0_length_35 : decode cX0_length 35 = .ok (.ireturn, 1) := dk_172 (dk_at dksX0_length_1 12 rfl rfl)
abbrev cX0_lay : ByteArray := prog_1_method_106_code
def yX0_lay : MethodName := ⟨RX0, "lay", "(Ljava/lang/Object;II)V"⟩
def dkwX0_lay_1 : List UInt8 := [153, 0, 14, 42, 192, 1, 182, 27, 28, 147, 86, 167, 0, 10, 42, 192, 1, 184, 27, 28, 79, 177]
abbrev dktX0_lay_1 : List UInt8 := dkwX0_lay_1 ++ []
def dkwX0_lay_0 : List UInt8 := [42, 193, 1, 181, 153, 0, 14, 42, 192, 1, 181, 27, 28, 145, 84, 167, 0, 28, 42, 193, 1, 182]
abbrev dktX0_lay_0 : List UInt8 := dkwX0_lay_0 ++ dktX0_lay_1
theorem dksX0_lay_0 : cX0_lay.data.toList.drop 0 = dktX0_lay_0 := by decide +kernel
theorem dksX0_lay_1 : cX0_lay.data.toList.drop 22 = dktX0_lay_1 := dk_seg dksX0_lay_0 22 rfl rfl
theorem dX0_lay_0 : decode cX0_lay 0 = .ok (.aload_n 0, 1) := dk_42 (dk_at dksX0_lay_0 0 rfl rfl)
theorem dX0_lay_1 : decode cX0_lay 1 = .ok (.instanceof 437, 3) := dk_193 1 181 (dk_at dksX0_lay_0 1 rfl rfl)
theorem dX0_lay_4 : decode cX0_lay 4 = .ok (.ifCond .eq 14, 3) := dk_153 0 14 (dk_at dksX0_lay_0 4 rfl rfl)
theorem dX0_lay_7 : decode cX0_lay 7 = .ok (.aload_n 0, 1) := dk_42 (dk_at dksX0_lay_0 7 rfl rfl)
theorem dX0_lay_8 : decode cX0_lay 8 = .ok (.checkcast 437, 3) := dk_192 1 181 (dk_at dksX0_lay_0 8 rfl rfl)
theorem dX0_lay_11 : decode cX0_lay 11 = .ok (.iload_n 1, 1) := dk_27 (dk_at dksX0_lay_0 11 rfl rfl)
theorem dX0_lay_12 : decode cX0_lay 12 = .ok (.iload_n 2, 1) := dk_28 (dk_at dksX0_lay_0 12 rfl rfl)
theorem dX0_lay_13 : decode cX0_lay 13 = .ok (.i2b, 1) := dk_145 (dk_at dksX0_lay_0 13 rfl rfl)
theorem dX0_lay_14 : decode cX0_lay 14 = .ok (.bastore, 1) := dk_84 (dk_at dksX0_lay_0 14 rfl rfl)
theorem dX0_lay_15 : decode cX0_lay 15 = .ok (.goto 28, 3) := dk_167 0 28 (dk_at dksX0_lay_0 15 rfl rfl)
theorem dX0_lay_18 : decode cX0_lay 18 = .ok (.aload_n 0, 1) := dk_42 (dk_at dksX0_lay_0 18 rfl rfl)
theorem dX0_lay_19 : decode cX0_lay 19 = .ok (.instanceof 438, 3) := dk_193 1 182 (dk_at dksX0_lay_0 19 rfl rfl)
theorem dX0_lay_22 : decode cX0_lay 22 = .ok (.ifCond .eq 14, 3) := dk_153 0 14 (dk_at dksX0_lay_1 0 rfl rfl)
theorem dX0_lay_25 : decode cX0_lay 25 = .ok (.aload_n 0, 1) := dk_42 (dk_at dksX0_lay_1 3 rfl rfl)
theorem dX0_lay_26 : decode cX0_lay 26 = .ok (.checkcast 438, 3) := dk_192 1 182 (dk_at dksX0_lay_1 4 rfl rfl)
theorem dX0_lay_29 : decode cX0_lay 29 = .ok (.iload_n 1, 1) := dk_27 (dk_at dksX0_lay_1 7 rfl rfl)
theorem dX0_lay_30 : decode cX0_lay 30 = .ok (.iload_n 2, 1) := dk_28 (dk_at dksX0_lay_1 8 rfl rfl)
theorem dX0_lay_31 : decode cX0_lay 31 = .ok (.i2s, 1) := dk_147 (dk_at dksX0_lay_1 9 rfl rfl)
theorem dX0_lay_32 : decode cX0_lay 32 = .ok (.sastore, 1) := dk_86 (dk_at dksX0_lay_1 10 rfl rfl)
theorem dX0_lay_33 : decode cX0_lay 33 = .ok (.goto 10, 3) := dk_167 0 10 (dk_at dksX0_lay_1 11 rfl rfl)
theorem dX0_lay_36 : decode cX0_lay 36 = .ok (.aload_n 0, 1) := dk_42 (dk_at dksX0_lay_1 14 rfl rfl)
theorem dX0_lay_37 : decode cX0_lay 37 = .ok (.checkcast 440, 3) := dk_192 1 184 (dk_at dksX0_lay_1 15 rfl rfl)
theorem dX0_lay_40 : decode cX0_lay 40 = .ok (.iload_n 1, 1) := dk_27 (dk_at dksX0_lay_1 18 rfl rfl)
theorem dX0_lay_41 : decode cX0_lay 41 = .ok (.iload_n 2, 1) := dk_28 (dk_at dksX0_lay_1 19 rfl rfl)
theorem dX0_lay_42 : decode cX0_lay 42 = .ok (.iastore, 1) := dk_79 (dk_at dksX0_lay_1 20 rfl rfl)
theorem dX0_lay_43 : decode cX0_lay 43 = .ok (.return_, 1) := dk_177 (dk_at dksX0_lay_1 21 rfl rfl)
abbrev cX0_copy : ByteArray := prog_1_method_109_code
def yX0_copy : MethodName := ⟨RX0, "copy", "(IIIII)I"⟩
def dkwX0_copy_5 : List UInt8 := [184, 1, 204, 21, 5, 172, 58, 6, 42, 25, 6, 180, 0, 117, 182, 0, 142, 172]
abbrev dktX0_copy_5 : List UInt8 := dkwX0_copy_5 ++ []
def dkwX0_copy_4 : List UInt8 := [100, 163, 0, 7, 4, 167, 0, 4, 3, 3, 182, 1, 177, 25, 6, 28, 25, 7, 21, 4, 21, 5]
abbrev dktX0_copy_4 : List UInt8 := dkwX0_copy_4 ++ dktX0_copy_5
def dkwX0_copy_3 : List UInt8 := [155, 0, 32, 28, 25, 6, 184, 1, 188, 21, 5, 100, 163, 0, 20, 21, 4, 25, 7, 184, 1, 188, 21, 5]
abbrev dktX0_copy_3 : List UInt8 := dkwX0_copy_3 ++ dktX0_copy_4
def dkwX0_copy_2 : List UInt8 := [160, 0, 7, 4, 167, 0, 4, 3, 5, 182, 1, 177, 42, 21, 5, 155, 0, 41, 28, 155, 0, 37, 21, 4]
abbrev dktX0_copy_2 : List UInt8 := dkwX0_copy_2 ++ dktX0_copy_3
def dkwX0_copy_1 : List UInt8 := [198, 0, 7, 4, 167, 0, 4, 3, 8, 182, 1, 177, 42, 25, 6, 184, 1, 201, 25, 7, 184, 1, 201]
abbrev dktX0_copy_1 : List UInt8 := dkwX0_copy_1 ++ dktX0_copy_2
def dkwX0_copy_0 : List UInt8 := [42, 27, 182, 1, 185, 58, 6, 42, 29, 182, 1, 185, 58, 7, 42, 25, 6, 198, 0, 12, 25, 7]
abbrev dktX0_copy_0 : List UInt8 := dkwX0_copy_0 ++ dktX0_copy_1
theorem dksX0_copy_0 : cX0_copy.data.toList.drop 0 = dktX0_copy_0 := by decide +kernel
theorem dksX0_copy_1 : cX0_copy.data.toList.drop 22 = dktX0_copy_1 := dk_seg dksX0_copy_0 22 rfl rfl
theorem dksX0_copy_2 : cX0_copy.data.toList.drop 45 = dktX0_copy_2 := dk_seg dksX0_copy_1 23 rfl rfl
theorem dksX0_copy_3 : cX0_copy.data.toList.drop 69 = dktX0_copy_3 := dk_seg dksX0_copy_2 24 rfl rfl
theorem dksX0_copy_4 : cX0_copy.data.toList.drop 93 = dktX0_copy_4 := dk_seg dksX0_copy_3 24 rfl rfl
theorem dksX0_copy_5 : cX0_copy.data.toList.drop 115 = dktX0_copy_5 := dk_seg dksX0_copy_4 22 rfl rfl
theorem dX0_copy_0 : decode cX0_copy 0 = .ok (.aload_n 0, 1) := dk_42 (dk_at dksX0_copy_0 0 rfl rfl)
theorem dX0_copy_1 : decode cX0_copy 1 = .ok (.iload_n 1, 1) := dk_27 (dk_at dksX0_copy_0 1 rfl rfl)
theorem dX0_copy_2 : decode cX0_copy 2 = .ok (.invokevirtual 441, 3) := dk_182 1 185 (dk_at dksX0_copy_0 2 rfl rfl)
theorem dX0_copy_5 : decode cX0_copy 5 = .ok (.astore 6, 2) := dk_58 6 (dk_at dksX0_copy_0 5 rfl rfl)
theorem dX0_copy_7 : decode cX0_copy 7 = .ok (.aload_n 0, 1) := dk_42 (dk_at dksX0_copy_0 7 rfl rfl)
theorem dX0_copy_8 : decode cX0_copy 8 = .ok (.iload_n 3, 1) := dk_29 (dk_at dksX0_copy_0 8 rfl rfl)
theorem dX0_copy_9 : decode cX0_copy 9 = .ok (.invokevirtual 441, 3) := dk_182 1 185 (dk_at dksX0_copy_0 9 rfl rfl)
theorem dX0_copy_12 : decode cX0_copy 12 = .ok (.astore 7, 2) := dk_58 7 (dk_at dksX0_copy_0 12 rfl rfl)
theorem dX0_copy_14 : decode cX0_copy 14 = .ok (.aload_n 0, 1) := dk_42 (dk_at dksX0_copy_0 14 rfl rfl)
theorem dX0_copy_15 : decode cX0_copy 15 = .ok (.aload 6, 2) := dk_25 6 (dk_at dksX0_copy_0 15 rfl rfl)
theorem dX0_copy_17 : decode cX0_copy 17 = .ok (.ifnull 12, 3) := dk_198 0 12 (dk_at dksX0_copy_0 17 rfl rfl)
theorem dX0_copy_20 : decode cX0_copy 20 = .ok (.aload 7, 2) := dk_25 7 (dk_at dksX0_copy_0 20 rfl rfl)
theorem dX0_copy_22 : decode cX0_copy 22 = .ok (.ifnull 7, 3) := dk_198 0 7 (dk_at dksX0_copy_1 0 rfl rfl)
theorem dX0_copy_25 : decode cX0_copy 25 = .ok (.iconst 1, 1) := dk_4 (dk_at dksX0_copy_1 3 rfl rfl)
theorem dX0_copy_26 : decode cX0_copy 26 = .ok (.goto 4, 3) := dk_167 0 4 (dk_at dksX0_copy_1 4 rfl rfl)
theorem dX0_copy_29 : decode cX0_copy 29 = .ok (.iconst 0, 1) := dk_3 (dk_at dksX0_copy_1 7 rfl rfl)
theorem dX0_copy_30 : decode cX0_copy 30 = .ok (.iconst 5, 1) := dk_8 (dk_at dksX0_copy_1 8 rfl rfl)
theorem dX0_copy_31 : decode cX0_copy 31 = .ok (.invokevirtual 433, 3) := dk_182 1 177 (dk_at dksX0_copy_1 9 rfl rfl)
theorem dX0_copy_34 : decode cX0_copy 34 = .ok (.aload_n 0, 1) := dk_42 (dk_at dksX0_copy_1 12 rfl rfl)
theorem dX0_copy_35 : decode cX0_copy 35 = .ok (.aload 6, 2) := dk_25 6 (dk_at dksX0_copy_1 13 rfl rfl)
theorem dX0_copy_37 : decode cX0_copy 37 = .ok (.invokestatic 457, 3) := dk_184 1 201 (dk_at dksX0_copy_1 15 rfl rfl)
theorem dX0_copy_40 : decode cX0_copy 40 = .ok (.aload 7, 2) := dk_25 7 (dk_at dksX0_copy_1 18 rfl rfl)
theorem dX0_copy_42 : decode cX0_copy 42 = .ok (.invokestatic 457, 3) := dk_184 1 201 (dk_at dksX0_copy_1 20 rfl rfl)
theorem dX0_copy_45 : decode cX0_copy 45 = .ok (.if_icmp .ne 7, 3) := dk_160 0 7 (dk_at dksX0_copy_2 0 rfl rfl)
theorem dX0_copy_48 : decode cX0_copy 48 = .ok (.iconst 1, 1) := dk_4 (dk_at dksX0_copy_2 3 rfl rfl)
theorem dX0_copy_49 : decode cX0_copy 49 = .ok (.goto 4, 3) := dk_167 0 4 (dk_at dksX0_copy_2 4 rfl rfl)
theorem dX0_copy_52 : decode cX0_copy 52 = .ok (.iconst 0, 1) := dk_3 (dk_at dksX0_copy_2 7 rfl rfl)
theorem dX0_copy_53 : decode cX0_copy 53 = .ok (.iconst 2, 1) := dk_5 (dk_at dksX0_copy_2 8 rfl rfl)
theorem dX0_copy_54 : decode cX0_copy 54 = .ok (.invokevirtual 433, 3) := dk_182 1 177 (dk_at dksX0_copy_2 9 rfl rfl)
theorem dX0_copy_57 : decode cX0_copy 57 = .ok (.aload_n 0, 1) := dk_42 (dk_at dksX0_copy_2 12 rfl rfl)
theorem dX0_copy_58 : decode cX0_copy 58 = .ok (.iload 5, 2) := dk_21 5 (dk_at dksX0_copy_2 13 rfl rfl)
theorem dX0_copy_60 : decode cX0_copy 60 = .ok (.ifCond .lt 41, 3) := dk_155 0 41 (dk_at dksX0_copy_2 15 rfl rfl)
theorem dX0_copy_63 : decode cX0_copy 63 = .ok (.iload_n 2, 1) := dk_28 (dk_at dksX0_copy_2 18 rfl rfl)
theorem dX0_copy_64 : decode cX0_copy 64 = .ok (.ifCond .lt 37, 3) := dk_155 0 37 (dk_at dksX0_copy_2 19 rfl rfl)
theorem dX0_copy_67 : decode cX0_copy 67 = .ok (.iload 4, 2) := dk_21 4 (dk_at dksX0_copy_2 22 rfl rfl)
theorem dX0_copy_69 : decode cX0_copy 69 = .ok (.ifCond .lt 32, 3) := dk_155 0 32 (dk_at dksX0_copy_3 0 rfl rfl)
theorem dX0_copy_72 : decode cX0_copy 72 = .ok (.iload_n 2, 1) := dk_28 (dk_at dksX0_copy_3 3 rfl rfl)
theorem dX0_copy_73 : decode cX0_copy 73 = .ok (.aload 6, 2) := dk_25 6 (dk_at dksX0_copy_3 4 rfl rfl)
theorem dX0_copy_75 : decode cX0_copy 75 = .ok (.invokestatic 444, 3) := dk_184 1 188 (dk_at dksX0_copy_3 6 rfl rfl)
theorem dX0_copy_78 : decode cX0_copy 78 = .ok (.iload 5, 2) := dk_21 5 (dk_at dksX0_copy_3 9 rfl rfl)
theorem dX0_copy_80 : decode cX0_copy 80 = .ok (.isub, 1) := dk_100 (dk_at dksX0_copy_3 11 rfl rfl)
theorem dX0_copy_81 : decode cX0_copy 81 = .ok (.if_icmp .gt 20, 3) := dk_163 0 20 (dk_at dksX0_copy_3 12 rfl rfl)
theorem dX0_copy_84 : decode cX0_copy 84 = .ok (.iload 4, 2) := dk_21 4 (dk_at dksX0_copy_3 15 rfl rfl)
theorem dX0_copy_86 : decode cX0_copy 86 = .ok (.aload 7, 2) := dk_25 7 (dk_at dksX0_copy_3 17 rfl rfl)
theorem dX0_copy_88 : decode cX0_copy 88 = .ok (.invokestatic 444, 3) := dk_184 1 188 (dk_at dksX0_copy_3 19 rfl rfl)
theorem dX0_copy_91 : decode cX0_copy 91 = .ok (.iload 5, 2) := dk_21 5 (dk_at dksX0_copy_3 22 rfl rfl)
theorem dX0_copy_93 : decode cX0_copy 93 = .ok (.isub, 1) := dk_100 (dk_at dksX0_copy_4 0 rfl rfl)
theorem dX0_copy_94 : decode cX0_copy 94 = .ok (.if_icmp .gt 7, 3) := dk_163 0 7 (dk_at dksX0_copy_4 1 rfl rfl)
theorem dX0_copy_97 : decode cX0_copy 97 = .ok (.iconst 1, 1) := dk_4 (dk_at dksX0_copy_4 4 rfl rfl)
theorem dX0_copy_98 : decode cX0_copy 98 = .ok (.goto 4, 3) := dk_167 0 4 (dk_at dksX0_copy_4 5 rfl rfl)
theorem dX0_copy_101 : decode cX0_copy 101 = .ok (.iconst 0, 1) := dk_3 (dk_at dksX0_copy_4 8 rfl rfl)
theorem dX0_copy_102 : decode cX0_copy 102 = .ok (.iconst 0, 1) := dk_3 (dk_at dksX0_copy_4 9 rfl rfl)
theorem dX0_copy_103 : decode cX0_copy 103 = .ok (.invokevirtual 433, 3) := dk_182 1 177 (dk_at dksX0_copy_4 10 rfl rfl)
theorem dX0_copy_106 : decode cX0_copy 106 = .ok (.aload 6, 2) := dk_25 6 (dk_at dksX0_copy_4 13 rfl rfl)
theorem dX0_copy_108 : decode cX0_copy 108 = .ok (.iload_n 2, 1) := dk_28 (dk_at dksX0_copy_4 15 rfl rfl)
theorem dX0_copy_109 : decode cX0_copy 109 = .ok (.aload 7, 2) := dk_25 7 (dk_at dksX0_copy_4 16 rfl rfl)
theorem dX0_copy_111 : decode cX0_copy 111 = .ok (.iload 4, 2) := dk_21 4 (dk_at dksX0_copy_4 18 rfl rfl)
theorem dX0_copy_113 : decode cX0_copy 113 = .ok (.iload 5, 2) := dk_21 5 (dk_at dksX0_copy_4 20 rfl rfl)
theorem dX0_copy_115 : decode cX0_copy 115 = .ok (.invokestatic 460, 3) := dk_184 1 204 (dk_at dksX0_copy_5 0 rfl rfl)
theorem dX0_copy_118 : decode cX0_copy 118 = .ok (.iload 5, 2) := dk_21 5 (dk_at dksX0_copy_5 3 rfl rfl)
theorem dX0_copy_120 : decode cX0_copy 120 = .ok (.ireturn, 1) := dk_172 (dk_at dksX0_copy_5 5 rfl rfl)
theorem dX0_copy_121 : decode cX0_copy 121 = .ok (.astore 6, 2) := dk_58 6 (dk_at dksX0_copy_5 6 rfl rfl)
theorem dX0_copy_123 : decode cX0_copy 123 = .ok (.aload_n 0, 1) := dk_42 (dk_at dksX0_copy_5 8 rfl rfl)
theorem dX0_copy_124 : decode cX0_copy 124 = .ok (.aload 6, 2) := dk_25 6 (dk_at dksX0_copy_5 9 rfl rfl)
theorem dX0_copy_126 : decode cX0_copy 126 = .ok (.getfield 117, 3) := dk_180 0 117 (dk_at dksX0_copy_5 11 rfl rfl)
theorem dX0_copy_129 : decode cX0_copy 129 = .ok (.invokevirtual 142, 3) := dk_182 0 142 (dk_at dksX0_copy_5 14 rfl rfl)
theorem dX0_copy_132 : decode cX0_copy 132 = .ok (.ireturn, 1) := dk_172 (dk_at dksX0_copy_5 17 rfl rfl)
abbrev cX0_widthOf : ByteArray := prog_1_method_105_code
def yX0_widthOf : MethodName := ⟨RX0, "widthOf", "(Ljava/lang/Object;)I"⟩
def dkwX0_widthOf_1 : List UInt8 := [16, 32, 172]
abbrev dktX0_widthOf_1 : List UInt8 := dkwX0_widthOf_1 ++ []
def dkwX0_widthOf_0 : List UInt8 := [42, 193, 1, 181, 153, 0, 8, 16, 8, 167, 0, 17, 42, 193, 1, 182, 153, 0, 8, 16, 16, 167, 0, 5]
abbrev dktX0_widthOf_0 : List UInt8 := dkwX0_widthOf_0 ++ dktX0_widthOf_1
theorem dksX0_widthOf_0 : cX0_widthOf.data.toList.drop 0 = dktX0_widthOf_0 := by decide +kernel
theorem dksX0_widthOf_1 : cX0_widthOf.data.toList.drop 24 = dktX0_widthOf_1 := dk_seg dksX0_widthOf_0 24 rfl rfl
theorem dX0_widthOf_0 : decode cX0_widthOf 0 = .ok (.aload_n 0, 1) := dk_42 (dk_at dksX0_widthOf_0 0 rfl rfl)
theorem dX0_widthOf_1 : decode cX0_widthOf 1 = .ok (.instanceof 437, 3) := dk_193 1 181 (dk_at dksX0_widthOf_0 1 rfl rfl)
theorem dX0_widthOf_4 : decode cX0_widthOf 4 = .ok (.ifCond .eq 8, 3) := dk_153 0 8 (dk_at dksX0_widthOf_0 4 rfl rfl)
theorem dX0_widthOf_7 : decode cX0_widthOf 7 = .ok (.bipush 8, 2) := dk_16 8 (dk_at dksX0_widthOf_0 7 rfl rfl)
theorem dX0_widthOf_9 : decode cX0_widthOf 9 = .ok (.goto 17, 3) := dk_167 0 17 (dk_at dksX0_widthOf_0 9 rfl rfl)
theorem dX0_widthOf_12 : decode cX0_widthOf 12 = .ok (.aload_n 0, 1) := dk_42 (dk_at dksX0_widthOf_0 12 rfl rfl)
theorem dX0_widthOf_13 : decode cX0_widthOf 13 = .ok (.instanceof 438, 3) := dk_193 1 182 (dk_at dksX0_widthOf_0 13 rfl rfl)
theorem dX0_widthOf_16 : decode cX0_widthOf 16 = .ok (.ifCond .eq 8, 3) := dk_153 0 8 (dk_at dksX0_widthOf_0 16 rfl rfl)
theorem dX0_widthOf_19 : decode cX0_widthOf 19 = .ok (.bipush 16, 2) := dk_16 16 (dk_at dksX0_widthOf_0 19 rfl rfl)
theorem dX0_widthOf_21 : decode cX0_widthOf 21 = .ok (.goto 5, 3) := dk_167 0 5 (dk_at dksX0_widthOf_0 21 rfl rfl)
theorem dX0_widthOf_24 : decode cX0_widthOf 24 = .ok (.bipush 32, 2) := dk_16 32 (dk_at dksX0_widthOf_1 0 rfl rfl)
theorem dX0_widthOf_26 : decode cX0_widthOf 26 = .ok (.ireturn, 1) := dk_172 (dk_at dksX0_widthOf_1 2 rfl rfl)
abbrev cX0_slide : ByteArray := prog_1_method_108_code
def yX0_slide : MethodName := ⟨RX0, "slide", "(Ljava/lang/Object;ILjava/lang/Object;II)V"⟩
def dkwX0_slide_2 : List UInt8 := [184, 1, 195, 167, 0, 18, 42, 192, 1, 184, 27, 44, 192, 1, 184, 29, 21, 4, 184, 1, 195, 177]
abbrev dktX0_slide_2 : List UInt8 := dkwX0_slide_2 ++ []
def dkwX0_slide_1 : List UInt8 := [167, 0, 43, 42, 193, 1, 182, 153, 0, 21, 42, 192, 1, 182, 27, 44, 192, 1, 182, 29, 21, 4]
abbrev dktX0_slide_1 : List UInt8 := dkwX0_slide_1 ++ dktX0_slide_2
def dkwX0_slide_0 : List UInt8 := [42, 193, 1, 181, 153, 0, 21, 42, 192, 1, 181, 27, 44, 192, 1, 181, 29, 21, 4, 184, 1, 195]
abbrev dktX0_slide_0 : List UInt8 := dkwX0_slide_0 ++ dktX0_slide_1
theorem dksX0_slide_0 : cX0_slide.data.toList.drop 0 = dktX0_slide_0 := by decide +kernel
theorem dksX0_slide_1 : cX0_slide.data.toList.drop 22 = dktX0_slide_1 := dk_seg dksX0_slide_0 22 rfl rfl
theorem dksX0_slide_2 : cX0_slide.data.toList.drop 44 = dktX0_slide_2 := dk_seg dksX0_slide_1 22 rfl rfl
theorem dX0_slide_0 : decode cX0_slide 0 = .ok (.aload_n 0, 1) := dk_42 (dk_at dksX0_slide_0 0 rfl rfl)
theorem dX0_slide_1 : decode cX0_slide 1 = .ok (.instanceof 437, 3) := dk_193 1 181 (dk_at dksX0_slide_0 1 rfl rfl)
theorem dX0_slide_4 : decode cX0_slide 4 = .ok (.ifCond .eq 21, 3) := dk_153 0 21 (dk_at dksX0_slide_0 4 rfl rfl)
theorem dX0_slide_7 : decode cX0_slide 7 = .ok (.aload_n 0, 1) := dk_42 (dk_at dksX0_slide_0 7 rfl rfl)
theorem dX0_slide_8 : decode cX0_slide 8 = .ok (.checkcast 437, 3) := dk_192 1 181 (dk_at dksX0_slide_0 8 rfl rfl)
theorem dX0_slide_11 : decode cX0_slide 11 = .ok (.iload_n 1, 1) := dk_27 (dk_at dksX0_slide_0 11 rfl rfl)
theorem dX0_slide_12 : decode cX0_slide 12 = .ok (.aload_n 2, 1) := dk_44 (dk_at dksX0_slide_0 12 rfl rfl)
theorem dX0_slide_13 : decode cX0_slide 13 = .ok (.checkcast 437, 3) := dk_192 1 181 (dk_at dksX0_slide_0 13 rfl rfl)
theorem dX0_slide_16 : decode cX0_slide 16 = .ok (.iload_n 3, 1) := dk_29 (dk_at dksX0_slide_0 16 rfl rfl)
theorem dX0_slide_17 : decode cX0_slide 17 = .ok (.iload 4, 2) := dk_21 4 (dk_at dksX0_slide_0 17 rfl rfl)
theorem dX0_slide_19 : decode cX0_slide 19 = .ok (.invokestatic 451, 3) := dk_184 1 195 (dk_at dksX0_slide_0 19 rfl rfl)
theorem dX0_slide_22 : decode cX0_slide 22 = .ok (.goto 43, 3) := dk_167 0 43 (dk_at dksX0_slide_1 0 rfl rfl)
theorem dX0_slide_25 : decode cX0_slide 25 = .ok (.aload_n 0, 1) := dk_42 (dk_at dksX0_slide_1 3 rfl rfl)
theorem dX0_slide_26 : decode cX0_slide 26 = .ok (.instanceof 438, 3) := dk_193 1 182 (dk_at dksX0_slide_1 4 rfl rfl)
theorem dX0_slide_29 : decode cX0_slide 29 = .ok (.ifCond .eq 21, 3) := dk_153 0 21 (dk_at dksX0_slide_1 7 rfl rfl)
theorem dX0_slide_32 : decode cX0_slide 32 = .ok (.aload_n 0, 1) := dk_42 (dk_at dksX0_slide_1 10 rfl rfl)
theorem dX0_slide_33 : decode cX0_slide 33 = .ok (.checkcast 438, 3) := dk_192 1 182 (dk_at dksX0_slide_1 11 rfl rfl)
theorem dX0_slide_36 : decode cX0_slide 36 = .ok (.iload_n 1, 1) := dk_27 (dk_at dksX0_slide_1 14 rfl rfl)
theorem dX0_slide_37 : decode cX0_slide 37 = .ok (.aload_n 2, 1) := dk_44 (dk_at dksX0_slide_1 15 rfl rfl)
theorem dX0_slide_38 : decode cX0_slide 38 = .ok (.checkcast 438, 3) := dk_192 1 182 (dk_at dksX0_slide_1 16 rfl rfl)
theorem dX0_slide_41 : decode cX0_slide 41 = .ok (.iload_n 3, 1) := dk_29 (dk_at dksX0_slide_1 19 rfl rfl)
theorem dX0_slide_42 : decode cX0_slide 42 = .ok (.iload 4, 2) := dk_21 4 (dk_at dksX0_slide_1 20 rfl rfl)
theorem dX0_slide_44 : decode cX0_slide 44 = .ok (.invokestatic 451, 3) := dk_184 1 195 (dk_at dksX0_slide_2 0 rfl rfl)
theorem dX0_slide_47 : decode cX0_slide 47 = .ok (.goto 18, 3) := dk_167 0 18 (dk_at dksX0_slide_2 3 rfl rfl)
theorem dX0_slide_50 : decode cX0_slide 50 = .ok (.aload_n 0, 1) := dk_42 (dk_at dksX0_slide_2 6 rfl rfl)
theorem dX0_slide_51 : decode cX0_slide 51 = .ok (.checkcast 440, 3) := dk_192 1 184 (dk_at dksX0_slide_2 7 rfl rfl)
theorem dX0_slide_54 : decode cX0_slide 54 = .ok (.iload_n 1, 1) := dk_27 (dk_at dksX0_slide_2 10 rfl rfl)
theorem dX0_slide_55 : decode cX0_slide 55 = .ok (.aload_n 2, 1) := dk_44 (dk_at dksX0_slide_2 11 rfl rfl)
theorem dX0_slide_56 : decode cX0_slide 56 = .ok (.checkcast 440, 3) := dk_192 1 184 (dk_at dksX0_slide_2 12 rfl rfl)
theorem dX0_slide_59 : decode cX0_slide 59 = .ok (.iload_n 3, 1) := dk_29 (dk_at dksX0_slide_2 15 rfl rfl)
theorem dX0_slide_60 : decode cX0_slide 60 = .ok (.iload 4, 2) := dk_21 4 (dk_at dksX0_slide_2 16 rfl rfl)
theorem dX0_slide_62 : decode cX0_slide 62 = .ok (.invokestatic 451, 3) := dk_184 1 195 (dk_at dksX0_slide_2 18 rfl rfl)
theorem dX0_slide_65 : decode cX0_slide 65 = .ok (.return_, 1) := dk_177 (dk_at dksX0_slide_2 21 rfl rfl)
abbrev cX0_load_2 : ByteArray := prog_1_method_111_code
def yX0_load_2 : MethodName := ⟨RX0, "load", "(I)I"⟩
def dkwX0_load_2_1 : List UInt8 := [182, 1, 210, 172, 77, 42, 44, 180, 0, 117, 182, 0, 142, 172]
abbrev dktX0_load_2_1 : List UInt8 := dkwX0_load_2_1 ++ []
def dkwX0_load_2_0 : List UInt8 := [42, 27, 182, 1, 185, 77, 42, 44, 198, 0, 7, 4, 167, 0, 4, 3, 8, 182, 1, 177, 42, 44]
abbrev dktX0_load_2_0 : List UInt8 := dkwX0_load_2_0 ++ dktX0_load_2_1
theorem dksX0_load_2_0 : cX0_load_2.data.toList.drop 0 = dktX0_load_2_0 := by decide +kernel
theorem dksX0_load_2_1 : cX0_load_2.data.toList.drop 22 = dktX0_load_2_1 := dk_seg dksX0_load_2_0 22 rfl rfl
theorem dX0_load_2_0 : decode cX0_load_2 0 = .ok (.aload_n 0, 1) := dk_42 (dk_at dksX0_load_2_0 0 rfl rfl)
theorem dX0_load_2_1 : decode cX0_load_2 1 = .ok (.iload_n 1, 1) := dk_27 (dk_at dksX0_load_2_0 1 rfl rfl)
theorem dX0_load_2_2 : decode cX0_load_2 2 = .ok (.invokevirtual 441, 3) := dk_182 1 185 (dk_at dksX0_load_2_0 2 rfl rfl)
theorem dX0_load_2_5 : decode cX0_load_2 5 = .ok (.astore_n 2, 1) := dk_77 (dk_at dksX0_load_2_0 5 rfl rfl)
theorem dX0_load_2_6 : decode cX0_load_2 6 = .ok (.aload_n 0, 1) := dk_42 (dk_at dksX0_load_2_0 6 rfl rfl)
theorem dX0_load_2_7 : decode cX0_load_2 7 = .ok (.aload_n 2, 1) := dk_44 (dk_at dksX0_load_2_0 7 rfl rfl)
theorem dX0_load_2_8 : decode cX0_load_2 8 = .ok (.ifnull 7, 3) := dk_198 0 7 (dk_at dksX0_load_2_0 8 rfl rfl)
theorem dX0_load_2_11 : decode cX0_load_2 11 = .ok (.iconst 1, 1) := dk_4 (dk_at dksX0_load_2_0 11 rfl rfl)
theorem dX0_load_2_12 : decode cX0_load_2 12 = .ok (.goto 4, 3) := dk_167 0 4 (dk_at dksX0_load_2_0 12 rfl rfl)
theorem dX0_load_2_15 : decode cX0_load_2 15 = .ok (.iconst 0, 1) := dk_3 (dk_at dksX0_load_2_0 15 rfl rfl)
theorem dX0_load_2_16 : decode cX0_load_2 16 = .ok (.iconst 5, 1) := dk_8 (dk_at dksX0_load_2_0 16 rfl rfl)
theorem dX0_load_2_17 : decode cX0_load_2 17 = .ok (.invokevirtual 433, 3) := dk_182 1 177 (dk_at dksX0_load_2_0 17 rfl rfl)
theorem dX0_load_2_20 : decode cX0_load_2 20 = .ok (.aload_n 0, 1) := dk_42 (dk_at dksX0_load_2_0 20 rfl rfl)
theorem dX0_load_2_21 : decode cX0_load_2 21 = .ok (.aload_n 2, 1) := dk_44 (dk_at dksX0_load_2_0 21 rfl rfl)
theorem dX0_load_2_22 : decode cX0_load_2 22 = .ok (.invokevirtual 466, 3) := dk_182 1 210 (dk_at dksX0_load_2_1 0 rfl rfl)
theorem dX0_load_2_25 : decode cX0_load_2 25 = .ok (.ireturn, 1) := dk_172 (dk_at dksX0_load_2_1 3 rfl rfl)
theorem dX0_load_2_26 : decode cX0_load_2 26 = .ok (.astore_n 2, 1) := dk_77 (dk_at dksX0_load_2_1 4 rfl rfl)
theorem dX0_load_2_27 : decode cX0_load_2 27 = .ok (.aload_n 0, 1) := dk_42 (dk_at dksX0_load_2_1 5 rfl rfl)
theorem dX0_load_2_28 : decode cX0_load_2 28 = .ok (.aload_n 2, 1) := dk_44 (dk_at dksX0_load_2_1 6 rfl rfl)
theorem dX0_load_2_29 : decode cX0_load_2 29 = .ok (.getfield 117, 3) := dk_180 0 117 (dk_at dksX0_load_2_1 7 rfl rfl)
theorem dX0_load_2_32 : decode cX0_load_2 32 = .ok (.invokevirtual 142, 3) := dk_182 0 142 (dk_at dksX0_load_2_1 10 rfl rfl)
theorem dX0_load_2_35 : decode cX0_load_2 35 = .ok (.ireturn, 1) := dk_172 (dk_at dksX0_load_2_1 13 rfl rfl)
abbrev cX0_loads : ByteArray := prog_1_method_110_code
def yX0_loads : MethodName := ⟨RX0, "loads", "(Ljava/lang/Object;)I"⟩
def dkwX0_loads_2 : List UInt8 := [132, 2, 1, 167, 255, 210, 28, 172]
abbrev dktX0_loads_2 : List UInt8 := dkwX0_loads_2 ++ []
def dkwX0_loads_1 : List UInt8 := [184, 0, 226, 153, 0, 25, 42, 180, 0, 61, 180, 0, 236, 3, 50, 28, 43, 28, 184, 1, 207, 79]
abbrev dktX0_loads_1 : List UInt8 := dkwX0_loads_1 ++ dktX0_loads_2
def dkwX0_loads_0 : List UInt8 := [3, 61, 28, 43, 184, 1, 188, 162, 0, 44, 42, 28, 182, 0, 233, 153, 0, 36, 43, 28, 184, 1, 207]
abbrev dktX0_loads_0 : List UInt8 := dkwX0_loads_0 ++ dktX0_loads_1
theorem dksX0_loads_0 : cX0_loads.data.toList.drop 0 = dktX0_loads_0 := by decide +kernel
theorem dksX0_loads_1 : cX0_loads.data.toList.drop 23 = dktX0_loads_1 := dk_seg dksX0_loads_0 23 rfl rfl
theorem dksX0_loads_2 : cX0_loads.data.toList.drop 45 = dktX0_loads_2 := dk_seg dksX0_loads_1 22 rfl rfl
theorem dX0_loads_0 : decode cX0_loads 0 = .ok (.iconst 0, 1) := dk_3 (dk_at dksX0_loads_0 0 rfl rfl)
theorem dX0_loads_1 : decode cX0_loads 1 = .ok (.istore_n 2, 1) := dk_61 (dk_at dksX0_loads_0 1 rfl rfl)
theorem dX0_loads_2 : decode cX0_loads 2 = .ok (.iload_n 2, 1) := dk_28 (dk_at dksX0_loads_0 2 rfl rfl)
theorem dX0_loads_3 : decode cX0_loads 3 = .ok (.aload_n 1, 1) := dk_43 (dk_at dksX0_loads_0 3 rfl rfl)
theorem dX0_loads_4 : decode cX0_loads 4 = .ok (.invokestatic 444, 3) := dk_184 1 188 (dk_at dksX0_loads_0 4 rfl rfl)
theorem dX0_loads_7 : decode cX0_loads 7 = .ok (.if_icmp .ge 44, 3) := dk_162 0 44 (dk_at dksX0_loads_0 7 rfl rfl)
theorem dX0_loads_10 : decode cX0_loads 10 = .ok (.aload_n 0, 1) := dk_42 (dk_at dksX0_loads_0 10 rfl rfl)
theorem dX0_loads_11 : decode cX0_loads 11 = .ok (.iload_n 2, 1) := dk_28 (dk_at dksX0_loads_0 11 rfl rfl)
theorem dX0_loads_12 : decode cX0_loads 12 = .ok (.invokevirtual 233, 3) := dk_182 0 233 (dk_at dksX0_loads_0 12 rfl rfl)
theorem dX0_loads_15 : decode cX0_loads 15 = .ok (.ifCond .eq 36, 3) := dk_153 0 36 (dk_at dksX0_loads_0 15 rfl rfl)
theorem dX0_loads_18 : decode cX0_loads 18 = .ok (.aload_n 1, 1) := dk_43 (dk_at dksX0_loads_0 18 rfl rfl)
theorem dX0_loads_19 : decode cX0_loads 19 = .ok (.iload_n 2, 1) := dk_28 (dk_at dksX0_loads_0 19 rfl rfl)
theorem dX0_loads_20 : decode cX0_loads 20 = .ok (.invokestatic 463, 3) := dk_184 1 207 (dk_at dksX0_loads_0 20 rfl rfl)
theorem dX0_loads_23 : decode cX0_loads 23 = .ok (.invokestatic 226, 3) := dk_184 0 226 (dk_at dksX0_loads_1 0 rfl rfl)
theorem dX0_loads_26 : decode cX0_loads 26 = .ok (.ifCond .eq 25, 3) := dk_153 0 25 (dk_at dksX0_loads_1 3 rfl rfl)
theorem dX0_loads_29 : decode cX0_loads 29 = .ok (.aload_n 0, 1) := dk_42 (dk_at dksX0_loads_1 6 rfl rfl)
theorem dX0_loads_30 : decode cX0_loads 30 = .ok (.getfield 61, 3) := dk_180 0 61 (dk_at dksX0_loads_1 7 rfl rfl)
theorem dX0_loads_33 : decode cX0_loads 33 = .ok (.getfield 236, 3) := dk_180 0 236 (dk_at dksX0_loads_1 10 rfl rfl)
theorem dX0_loads_36 : decode cX0_loads 36 = .ok (.iconst 0, 1) := dk_3 (dk_at dksX0_loads_1 13 rfl rfl)
theorem dX0_loads_37 : decode cX0_loads 37 = .ok (.aaload, 1) := dk_50 (dk_at dksX0_loads_1 14 rfl rfl)
theorem dX0_loads_38 : decode cX0_loads 38 = .ok (.iload_n 2, 1) := dk_28 (dk_at dksX0_loads_1 15 rfl rfl)
theorem dX0_loads_39 : decode cX0_loads 39 = .ok (.aload_n 1, 1) := dk_43 (dk_at dksX0_loads_1 16 rfl rfl)
theorem dX0_loads_40 : decode cX0_loads 40 = .ok (.iload_n 2, 1) := dk_28 (dk_at dksX0_loads_1 17 rfl rfl)
theorem dX0_loads_41 : decode cX0_loads 41 = .ok (.invokestatic 463, 3) := dk_184 1 207 (dk_at dksX0_loads_1 18 rfl rfl)
theorem dX0_loads_44 : decode cX0_loads 44 = .ok (.iastore, 1) := dk_79 (dk_at dksX0_loads_1 21 rfl rfl)
theorem dX0_loads_45 : decode cX0_loads 45 = .ok (.iinc 2 1, 3) := dk_132 2 1 (dk_at dksX0_loads_2 0 rfl rfl)
theorem dX0_loads_48 : decode cX0_loads 48 = .ok (.goto (-46), 3) := dk_167 255 210 (dk_at dksX0_loads_2 3 rfl rfl)
theorem dX0_loads_51 : decode cX0_loads 51 = .ok (.iload_n 2, 1) := dk_28 (dk_at dksX0_loads_2 6 rfl rfl)
theorem dX0_loads_52 : decode cX0_loads 52 = .ok (.ireturn, 1) := dk_172 (dk_at dksX0_loads_2 7 rfl rfl)
abbrev cX0_number : ByteArray := prog_1_method_104_code
def yX0_number : MethodName := ⟨RX0, "number", "(Ljava/lang/Object;I)I"⟩
def dkwX0_number_1 : List UInt8 := [192, 1, 182, 27, 53, 167, 0, 9, 42, 192, 1, 184, 27, 46, 172]
abbrev dktX0_number_1 : List UInt8 := dkwX0_number_1 ++ []
def dkwX0_number_0 : List UInt8 := [42, 193, 1, 181, 153, 0, 12, 42, 192, 1, 181, 27, 51, 167, 0, 25, 42, 193, 1, 182, 153, 0, 12, 42]
abbrev dktX0_number_0 : List UInt8 := dkwX0_number_0 ++ dktX0_number_1
theorem dksX0_number_0 : cX0_number.data.toList.drop 0 = dktX0_number_0 := by decide +kernel
theorem dksX0_number_1 : cX0_number.data.toList.drop 24 = dktX0_number_1 := dk_seg dksX0_number_0 24 rfl rfl
theorem dX0_number_0 : decode cX0_number 0 = .ok (.aload_n 0, 1) := dk_42 (dk_at dksX0_number_0 0 rfl rfl)
theorem dX0_number_1 : decode cX0_number 1 = .ok (.instanceof 437, 3) := dk_193 1 181 (dk_at dksX0_number_0 1 rfl rfl)
theorem dX0_number_4 : decode cX0_number 4 = .ok (.ifCond .eq 12, 3) := dk_153 0 12 (dk_at dksX0_number_0 4 rfl rfl)
theorem dX0_number_7 : decode cX0_number 7 = .ok (.aload_n 0, 1) := dk_42 (dk_at dksX0_number_0 7 rfl rfl)
theorem dX0_number_8 : decode cX0_number 8 = .ok (.checkcast 437, 3) := dk_192 1 181 (dk_at dksX0_number_0 8 rfl rfl)
theorem dX0_number_11 : decode cX0_number 11 = .ok (.iload_n 1, 1) := dk_27 (dk_at dksX0_number_0 11 rfl rfl)
theorem dX0_number_12 : decode cX0_number 12 = .ok (.baload, 1) := dk_51 (dk_at dksX0_number_0 12 rfl rfl)
theorem dX0_number_13 : decode cX0_number 13 = .ok (.goto 25, 3) := dk_167 0 25 (dk_at dksX0_number_0 13 rfl rfl)
theorem dX0_number_16 : decode cX0_number 16 = .ok (.aload_n 0, 1) := dk_42 (dk_at dksX0_number_0 16 rfl rfl)
theorem dX0_number_17 : decode cX0_number 17 = .ok (.instanceof 438, 3) := dk_193 1 182 (dk_at dksX0_number_0 17 rfl rfl)
theorem dX0_number_20 : decode cX0_number 20 = .ok (.ifCond .eq 12, 3) := dk_153 0 12 (dk_at dksX0_number_0 20 rfl rfl)
theorem dX0_number_23 : decode cX0_number 23 = .ok (.aload_n 0, 1) := dk_42 (dk_at dksX0_number_0 23 rfl rfl)
theorem dX0_number_24 : decode cX0_number 24 = .ok (.checkcast 438, 3) := dk_192 1 182 (dk_at dksX0_number_1 0 rfl rfl)
theorem dX0_number_27 : decode cX0_number 27 = .ok (.iload_n 1, 1) := dk_27 (dk_at dksX0_number_1 3 rfl rfl)
theorem dX0_number_28 : decode cX0_number 28 = .ok (.saload, 1) := dk_53 (dk_at dksX0_number_1 4 rfl rfl)
theorem dX0_number_29 : decode cX0_number 29 = .ok (.goto 9, 3) := dk_167 0 9 (dk_at dksX0_number_1 5 rfl rfl)
theorem dX0_number_32 : decode cX0_number 32 = .ok (.aload_n 0, 1) := dk_42 (dk_at dksX0_number_1 8 rfl rfl)
theorem dX0_number_33 : decode cX0_number 33 = .ok (.checkcast 440, 3) := dk_192 1 184 (dk_at dksX0_number_1 9 rfl rfl)
theorem dX0_number_36 : decode cX0_number 36 = .ok (.iload_n 1, 1) := dk_27 (dk_at dksX0_number_1 12 rfl rfl)
theorem dX0_number_37 : decode cX0_number 37 = .ok (.iaload, 1) := dk_46 (dk_at dksX0_number_1 13 rfl rfl)
theorem dX0_number_38 : decode cX0_number 38 = .ok (.ireturn, 1) := dk_172 (dk_at dksX0_number_1 14 rfl rfl)
abbrev cX0_judge : ByteArray := prog_1_method_113_code
def yX0_judge : MethodName := ⟨RX0, "judge", "(II)I"⟩
def dkwX0_judge_1 : List UInt8 := [182, 0, 161, 3, 182, 1, 177, 42, 45, 28, 182, 1, 213, 172, 78, 42, 45, 180, 0, 117, 182, 0, 142, 172]
abbrev dktX0_judge_1 : List UInt8 := dkwX0_judge_1 ++ []
def dkwX0_judge_0 : List UInt8 := [42, 27, 182, 1, 185, 78, 42, 45, 198, 0, 7, 4, 167, 0, 4, 3, 8, 182, 1, 177, 42, 42, 28]
abbrev dktX0_judge_0 : List UInt8 := dkwX0_judge_0 ++ dktX0_judge_1
theorem dksX0_judge_0 : cX0_judge.data.toList.drop 0 = dktX0_judge_0 := by decide +kernel
theorem dksX0_judge_1 : cX0_judge.data.toList.drop 23 = dktX0_judge_1 := dk_seg dksX0_judge_0 23 rfl rfl
theorem dX0_judge_0 : decode cX0_judge 0 = .ok (.aload_n 0, 1) := dk_42 (dk_at dksX0_judge_0 0 rfl rfl)
theorem dX0_judge_1 : decode cX0_judge 1 = .ok (.iload_n 1, 1) := dk_27 (dk_at dksX0_judge_0 1 rfl rfl)
theorem dX0_judge_2 : decode cX0_judge 2 = .ok (.invokevirtual 441, 3) := dk_182 1 185 (dk_at dksX0_judge_0 2 rfl rfl)
theorem dX0_judge_5 : decode cX0_judge 5 = .ok (.astore_n 3, 1) := dk_78 (dk_at dksX0_judge_0 5 rfl rfl)
theorem dX0_judge_6 : decode cX0_judge 6 = .ok (.aload_n 0, 1) := dk_42 (dk_at dksX0_judge_0 6 rfl rfl)
theorem dX0_judge_7 : decode cX0_judge 7 = .ok (.aload_n 3, 1) := dk_45 (dk_at dksX0_judge_0 7 rfl rfl)
theorem dX0_judge_8 : decode cX0_judge 8 = .ok (.ifnull 7, 3) := dk_198 0 7 (dk_at dksX0_judge_0 8 rfl rfl)
theorem dX0_judge_11 : decode cX0_judge 11 = .ok (.iconst 1, 1) := dk_4 (dk_at dksX0_judge_0 11 rfl rfl)
theorem dX0_judge_12 : decode cX0_judge 12 = .ok (.goto 4, 3) := dk_167 0 4 (dk_at dksX0_judge_0 12 rfl rfl)
theorem dX0_judge_15 : decode cX0_judge 15 = .ok (.iconst 0, 1) := dk_3 (dk_at dksX0_judge_0 15 rfl rfl)
theorem dX0_judge_16 : decode cX0_judge 16 = .ok (.iconst 5, 1) := dk_8 (dk_at dksX0_judge_0 16 rfl rfl)
theorem dX0_judge_17 : decode cX0_judge 17 = .ok (.invokevirtual 433, 3) := dk_182 1 177 (dk_at dksX0_judge_0 17 rfl rfl)
theorem dX0_judge_20 : decode cX0_judge 20 = .ok (.aload_n 0, 1) := dk_42 (dk_at dksX0_judge_0 20 rfl rfl)
theorem dX0_judge_21 : decode cX0_judge 21 = .ok (.aload_n 0, 1) := dk_42 (dk_at dksX0_judge_0 21 rfl rfl)
theorem dX0_judge_22 : decode cX0_judge 22 = .ok (.iload_n 2, 1) := dk_28 (dk_at dksX0_judge_0 22 rfl rfl)
theorem dX0_judge_23 : decode cX0_judge 23 = .ok (.invokevirtual 161, 3) := dk_182 0 161 (dk_at dksX0_judge_1 0 rfl rfl)
theorem dX0_judge_26 : decode cX0_judge 26 = .ok (.iconst 0, 1) := dk_3 (dk_at dksX0_judge_1 3 rfl rfl)
theorem dX0_judge_27 : decode cX0_judge 27 = .ok (.invokevirtual 433, 3) := dk_182 1 177 (dk_at dksX0_judge_1 4 rfl rfl)
theorem dX0_judge_30 : decode cX0_judge 30 = .ok (.aload_n 0, 1) := dk_42 (dk_at dksX0_judge_1 7 rfl rfl)
theorem dX0_judge_31 : decode cX0_judge 31 = .ok (.aload_n 3, 1) := dk_45 (dk_at dksX0_judge_1 8 rfl rfl)
theorem dX0_judge_32 : decode cX0_judge 32 = .ok (.iload_n 2, 1) := dk_28 (dk_at dksX0_judge_1 9 rfl rfl)
theorem dX0_judge_33 : decode cX0_judge 33 = .ok (.invokevirtual 469, 3) := dk_182 1 213 (dk_at dksX0_judge_1 10 rfl rfl)
theorem dX0_judge_36 : decode cX0_judge 36 = .ok (.ireturn, 1) := dk_172 (dk_at dksX0_judge_1 13 rfl rfl)
theorem dX0_judge_37 : decode cX0_judge 37 = .ok (.astore_n 3, 1) := dk_78 (dk_at dksX0_judge_1 14 rfl rfl)
theorem dX0_judge_38 : decode cX0_judge 38 = .ok (.aload_n 0, 1) := dk_42 (dk_at dksX0_judge_1 15 rfl rfl)
theorem dX0_judge_39 : decode cX0_judge 39 = .ok (.aload_n 3, 1) := dk_45 (dk_at dksX0_judge_1 16 rfl rfl)
theorem dX0_judge_40 : decode cX0_judge 40 = .ok (.getfield 117, 3) := dk_180 0 117 (dk_at dksX0_judge_1 17 rfl rfl)
theorem dX0_judge_43 : decode cX0_judge 43 = .ok (.invokevirtual 142, 3) := dk_182 0 142 (dk_at dksX0_judge_1 20 rfl rfl)
theorem dX0_judge_46 : decode cX0_judge 46 = .ok (.ireturn, 1) := dk_172 (dk_at dksX0_judge_1 23 rfl rfl)
abbrev cX0_gotOn : ByteArray := prog_1_method_112_code
def yX0_gotOn : MethodName := ⟨RX0, "gotOn", "(Ljava/lang/Object;I)I"⟩
def dkwX0_gotOn_5 : List UInt8 := [182, 1, 126, 21, 4, 172, 58, 7, 42, 180, 0, 61, 42, 180, 0, 68, 182, 1, 126, 25, 7, 191]
abbrev dktX0_gotOn_5 : List UInt8 := dkwX0_gotOn_5 ++ []
def dkwX0_gotOn_4 : List UInt8 := [42, 28, 182, 1, 117, 132, 4, 1, 167, 255, 173, 29, 54, 4, 42, 180, 0, 61, 42, 180, 0, 68]
abbrev dktX0_gotOn_4 : List UInt8 := dkwX0_gotOn_4 ++ dktX0_gotOn_5
def dkwX0_gotOn_3 : List UInt8 := [159, 0, 7, 4, 167, 0, 4, 3, 6, 182, 1, 177, 29, 42, 28, 21, 5, 21, 6, 182, 1, 11, 96, 62]
abbrev dktX0_gotOn_3 : List UInt8 := dkwX0_gotOn_3 ++ dktX0_gotOn_4
def dkwX0_gotOn_2 : List UInt8 := [42, 28, 42, 180, 0, 61, 180, 0, 113, 4, 50, 28, 46, 21, 5, 182, 0, 242, 54, 6, 42, 21, 6, 2]
abbrev dktX0_gotOn_2 : List UInt8 := dkwX0_gotOn_2 ++ dktX0_gotOn_3
def dkwX0_gotOn_1 : List UInt8 := [184, 1, 188, 162, 0, 80, 43, 21, 4, 184, 1, 207, 54, 5, 42, 21, 5, 184, 0, 7, 6, 182, 1, 177]
abbrev dktX0_gotOn_1 : List UInt8 := dkwX0_gotOn_1 ++ dktX0_gotOn_2
def dkwX0_gotOn_0 : List UInt8 := [42, 180, 0, 68, 42, 180, 0, 61, 182, 1, 126, 3, 62, 42, 28, 182, 1, 117, 3, 54, 4, 21, 4, 43]
abbrev dktX0_gotOn_0 : List UInt8 := dkwX0_gotOn_0 ++ dktX0_gotOn_1
theorem dksX0_gotOn_0 : cX0_gotOn.data.toList.drop 0 = dktX0_gotOn_0 := by decide +kernel
theorem dksX0_gotOn_1 : cX0_gotOn.data.toList.drop 24 = dktX0_gotOn_1 := dk_seg dksX0_gotOn_0 24 rfl rfl
theorem dksX0_gotOn_2 : cX0_gotOn.data.toList.drop 48 = dktX0_gotOn_2 := dk_seg dksX0_gotOn_1 24 rfl rfl
theorem dksX0_gotOn_3 : cX0_gotOn.data.toList.drop 72 = dktX0_gotOn_3 := dk_seg dksX0_gotOn_2 24 rfl rfl
theorem dksX0_gotOn_4 : cX0_gotOn.data.toList.drop 96 = dktX0_gotOn_4 := dk_seg dksX0_gotOn_3 24 rfl rfl
theorem dksX0_gotOn_5 : cX0_gotOn.data.toList.drop 118 = dktX0_gotOn_5 := dk_seg dksX0_gotOn_4 22 rfl rfl
theorem dX0_gotOn_0 : decode cX0_gotOn 0 = .ok (.aload_n 0, 1) := dk_42 (dk_at dksX0_gotOn_0 0 rfl rfl)
theorem dX0_gotOn_1 : decode cX0_gotOn 1 = .ok (.getfield 68, 3) := dk_180 0 68 (dk_at dksX0_gotOn_0 1 rfl rfl)
theorem dX0_gotOn_4 : decode cX0_gotOn 4 = .ok (.aload_n 0, 1) := dk_42 (dk_at dksX0_gotOn_0 4 rfl rfl)
theorem dX0_gotOn_5 : decode cX0_gotOn 5 = .ok (.getfield 61, 3) := dk_180 0 61 (dk_at dksX0_gotOn_0 5 rfl rfl)
theorem dX0_gotOn_8 : decode cX0_gotOn 8 = .ok (.invokevirtual 382, 3) := dk_182 1 126 (dk_at dksX0_gotOn_0 8 rfl rfl)
theorem dX0_gotOn_11 : decode cX0_gotOn 11 = .ok (.iconst 0, 1) := dk_3 (dk_at dksX0_gotOn_0 11 rfl rfl)
theorem dX0_gotOn_12 : decode cX0_gotOn 12 = .ok (.istore_n 3, 1) := dk_62 (dk_at dksX0_gotOn_0 12 rfl rfl)
theorem dX0_gotOn_13 : decode cX0_gotOn 13 = .ok (.aload_n 0, 1) := dk_42 (dk_at dksX0_gotOn_0 13 rfl rfl)
theorem dX0_gotOn_14 : decode cX0_gotOn 14 = .ok (.iload_n 2, 1) := dk_28 (dk_at dksX0_gotOn_0 14 rfl rfl)
theorem dX0_gotOn_15 : decode cX0_gotOn 15 = .ok (.invokevirtual 373, 3) := dk_182 1 117 (dk_at dksX0_gotOn_0 15 rfl rfl)
theorem dX0_gotOn_18 : decode cX0_gotOn 18 = .ok (.iconst 0, 1) := dk_3 (dk_at dksX0_gotOn_0 18 rfl rfl)
theorem dX0_gotOn_19 : decode cX0_gotOn 19 = .ok (.istore 4, 2) := dk_54 4 (dk_at dksX0_gotOn_0 19 rfl rfl)
theorem dX0_gotOn_21 : decode cX0_gotOn 21 = .ok (.iload 4, 2) := dk_21 4 (dk_at dksX0_gotOn_0 21 rfl rfl)
theorem dX0_gotOn_23 : decode cX0_gotOn 23 = .ok (.aload_n 1, 1) := dk_43 (dk_at dksX0_gotOn_0 23 rfl rfl)
theorem dX0_gotOn_24 : decode cX0_gotOn 24 = .ok (.invokestatic 444, 3) := dk_184 1 188 (dk_at dksX0_gotOn_1 0 rfl rfl)
theorem dX0_gotOn_27 : decode cX0_gotOn 27 = .ok (.if_icmp .ge 80, 3) := dk_162 0 80 (dk_at dksX0_gotOn_1 3 rfl rfl)
theorem dX0_gotOn_30 : decode cX0_gotOn 30 = .ok (.aload_n 1, 1) := dk_43 (dk_at dksX0_gotOn_1 6 rfl rfl)
theorem dX0_gotOn_31 : decode cX0_gotOn 31 = .ok (.iload 4, 2) := dk_21 4 (dk_at dksX0_gotOn_1 7 rfl rfl)
theorem dX0_gotOn_33 : decode cX0_gotOn 33 = .ok (.invokestatic 463, 3) := dk_184 1 207 (dk_at dksX0_gotOn_1 9 rfl rfl)
theorem dX0_gotOn_36 : decode cX0_gotOn 36 = .ok (.istore 5, 2) := dk_54 5 (dk_at dksX0_gotOn_1 12 rfl rfl)
theorem dX0_gotOn_38 : decode cX0_gotOn 38 = .ok (.aload_n 0, 1) := dk_42 (dk_at dksX0_gotOn_1 14 rfl rfl)
theorem dX0_gotOn_39 : decode cX0_gotOn 39 = .ok (.iload 5, 2) := dk_21 5 (dk_at dksX0_gotOn_1 15 rfl rfl)
theorem dX0_gotOn_41 : decode cX0_gotOn 41 = .ok (.invokestatic 7, 3) := dk_184 0 7 (dk_at dksX0_gotOn_1 17 rfl rfl)
theorem dX0_gotOn_44 : decode cX0_gotOn 44 = .ok (.iconst 3, 1) := dk_6 (dk_at dksX0_gotOn_1 20 rfl rfl)
theorem dX0_gotOn_45 : decode cX0_gotOn 45 = .ok (.invokevirtual 433, 3) := dk_182 1 177 (dk_at dksX0_gotOn_1 21 rfl rfl)
theorem dX0_gotOn_48 : decode cX0_gotOn 48 = .ok (.aload_n 0, 1) := dk_42 (dk_at dksX0_gotOn_2 0 rfl rfl)
theorem dX0_gotOn_49 : decode cX0_gotOn 49 = .ok (.iload_n 2, 1) := dk_28 (dk_at dksX0_gotOn_2 1 rfl rfl)
theorem dX0_gotOn_50 : decode cX0_gotOn 50 = .ok (.aload_n 0, 1) := dk_42 (dk_at dksX0_gotOn_2 2 rfl rfl)
theorem dX0_gotOn_51 : decode cX0_gotOn 51 = .ok (.getfield 61, 3) := dk_180 0 61 (dk_at dksX0_gotOn_2 3 rfl rfl)
theorem dX0_gotOn_54 : decode cX0_gotOn 54 = .ok (.getfield 113, 3) := dk_180 0 113 (dk_at dksX0_gotOn_2 6 rfl rfl)
theorem dX0_gotOn_57 : decode cX0_gotOn 57 = .ok (.iconst 1, 1) := dk_4 (dk_at dksX0_gotOn_2 9 rfl rfl)
theorem dX0_gotOn_58 : decode cX0_gotOn 58 = .ok (.aaload, 1) := dk_50 (dk_at dksX0_gotOn_2 10 rfl rfl)
theorem dX0_gotOn_59 : decode cX0_gotOn 59 = .ok (.iload_n 2, 1) := dk_28 (dk_at dksX0_gotOn_2 11 rfl rfl)
theorem dX0_gotOn_60 : decode cX0_gotOn 60 = .ok (.iaload, 1) := dk_46 (dk_at dksX0_gotOn_2 12 rfl rfl)
theorem dX0_gotOn_61 : decode cX0_gotOn 61 = .ok (.iload 5, 2) := dk_21 5 (dk_at dksX0_gotOn_2 13 rfl rfl)
theorem dX0_gotOn_63 : decode cX0_gotOn 63 = .ok (.invokevirtual 242, 3) := dk_182 0 242 (dk_at dksX0_gotOn_2 15 rfl rfl)
theorem dX0_gotOn_66 : decode cX0_gotOn 66 = .ok (.istore 6, 2) := dk_54 6 (dk_at dksX0_gotOn_2 18 rfl rfl)
theorem dX0_gotOn_68 : decode cX0_gotOn 68 = .ok (.aload_n 0, 1) := dk_42 (dk_at dksX0_gotOn_2 20 rfl rfl)
theorem dX0_gotOn_69 : decode cX0_gotOn 69 = .ok (.iload 6, 2) := dk_21 6 (dk_at dksX0_gotOn_2 21 rfl rfl)
theorem dX0_gotOn_71 : decode cX0_gotOn 71 = .ok (.iconst (-1), 1) := dk_2 (dk_at dksX0_gotOn_2 23 rfl rfl)
theorem dX0_gotOn_72 : decode cX0_gotOn 72 = .ok (.if_icmp .eq 7, 3) := dk_159 0 7 (dk_at dksX0_gotOn_3 0 rfl rfl)
theorem dX0_gotOn_75 : decode cX0_gotOn 75 = .ok (.iconst 1, 1) := dk_4 (dk_at dksX0_gotOn_3 3 rfl rfl)
theorem dX0_gotOn_76 : decode cX0_gotOn 76 = .ok (.goto 4, 3) := dk_167 0 4 (dk_at dksX0_gotOn_3 4 rfl rfl)
theorem dX0_gotOn_79 : decode cX0_gotOn 79 = .ok (.iconst 0, 1) := dk_3 (dk_at dksX0_gotOn_3 7 rfl rfl)
theorem dX0_gotOn_80 : decode cX0_gotOn 80 = .ok (.iconst 3, 1) := dk_6 (dk_at dksX0_gotOn_3 8 rfl rfl)
theorem dX0_gotOn_81 : decode cX0_gotOn 81 = .ok (.invokevirtual 433, 3) := dk_182 1 177 (dk_at dksX0_gotOn_3 9 rfl rfl)
theorem dX0_gotOn_84 : decode cX0_gotOn 84 = .ok (.iload_n 3, 1) := dk_29 (dk_at dksX0_gotOn_3 12 rfl rfl)
theorem dX0_gotOn_85 : decode cX0_gotOn 85 = .ok (.aload_n 0, 1) := dk_42 (dk_at dksX0_gotOn_3 13 rfl rfl)
theorem dX0_gotOn_86 : decode cX0_gotOn 86 = .ok (.iload_n 2, 1) := dk_28 (dk_at dksX0_gotOn_3 14 rfl rfl)
theorem dX0_gotOn_87 : decode cX0_gotOn 87 = .ok (.iload 5, 2) := dk_21 5 (dk_at dksX0_gotOn_3 15 rfl rfl)
theorem dX0_gotOn_89 : decode cX0_gotOn 89 = .ok (.iload 6, 2) := dk_21 6 (dk_at dksX0_gotOn_3 17 rfl rfl)
theorem dX0_gotOn_91 : decode cX0_gotOn 91 = .ok (.invokevirtual 267, 3) := dk_182 1 11 (dk_at dksX0_gotOn_3 19 rfl rfl)
theorem dX0_gotOn_94 : decode cX0_gotOn 94 = .ok (.iadd, 1) := dk_96 (dk_at dksX0_gotOn_3 22 rfl rfl)
theorem dX0_gotOn_95 : decode cX0_gotOn 95 = .ok (.istore_n 3, 1) := dk_62 (dk_at dksX0_gotOn_3 23 rfl rfl)
theorem dX0_gotOn_96 : decode cX0_gotOn 96 = .ok (.aload_n 0, 1) := dk_42 (dk_at dksX0_gotOn_4 0 rfl rfl)
theorem dX0_gotOn_97 : decode cX0_gotOn 97 = .ok (.iload_n 2, 1) := dk_28 (dk_at dksX0_gotOn_4 1 rfl rfl)
theorem dX0_gotOn_98 : decode cX0_gotOn 98 = .ok (.invokevirtual 373, 3) := dk_182 1 117 (dk_at dksX0_gotOn_4 2 rfl rfl)
theorem dX0_gotOn_101 : decode cX0_gotOn 101 = .ok (.iinc 4 1, 3) := dk_132 4 1 (dk_at dksX0_gotOn_4 5 rfl rfl)
theorem dX0_gotOn_104 : decode cX0_gotOn 104 = .ok (.goto (-83), 3) := dk_167 255 173 (dk_at dksX0_gotOn_4 8 rfl rfl)
theorem dX0_gotOn_107 : decode cX0_gotOn 107 = .ok (.iload_n 3, 1) := dk_29 (dk_at dksX0_gotOn_4 11 rfl rfl)
theorem dX0_gotOn_108 : decode cX0_gotOn 108 = .ok (.istore 4, 2) := dk_54 4 (dk_at dksX0_gotOn_4 12 rfl rfl)
theorem dX0_gotOn_110 : decode cX0_gotOn 110 = .ok (.aload_n 0, 1) := dk_42 (dk_at dksX0_gotOn_4 14 rfl rfl)
theorem dX0_gotOn_111 : decode cX0_gotOn 111 = .ok (.getfield 61, 3) := dk_180 0 61 (dk_at dksX0_gotOn_4 15 rfl rfl)
theorem dX0_gotOn_114 : decode cX0_gotOn 114 = .ok (.aload_n 0, 1) := dk_42 (dk_at dksX0_gotOn_4 18 rfl rfl)
theorem dX0_gotOn_115 : decode cX0_gotOn 115 = .ok (.getfield 68, 3) := dk_180 0 68 (dk_at dksX0_gotOn_4 19 rfl rfl)
theorem dX0_gotOn_118 : decode cX0_gotOn 118 = .ok (.invokevirtual 382, 3) := dk_182 1 126 (dk_at dksX0_gotOn_5 0 rfl rfl)
theorem dX0_gotOn_121 : decode cX0_gotOn 121 = .ok (.iload 4, 2) := dk_21 4 (dk_at dksX0_gotOn_5 3 rfl rfl)
theorem dX0_gotOn_123 : decode cX0_gotOn 123 = .ok (.ireturn, 1) := dk_172 (dk_at dksX0_gotOn_5 5 rfl rfl)
theorem dX0_gotOn_124 : decode cX0_gotOn 124 = .ok (.astore 7, 2) := dk_58 7 (dk_at dksX0_gotOn_5 6 rfl rfl)
theorem dX0_gotOn_126 : decode cX0_gotOn 126 = .ok (.aload_n 0, 1) := dk_42 (dk_at dksX0_gotOn_5 8 rfl rfl)
theorem dX0_gotOn_127 : decode cX0_gotOn 127 = .ok (.getfield 61, 3) := dk_180 0 61 (dk_at dksX0_gotOn_5 9 rfl rfl)
theorem dX0_gotOn_130 : decode cX0_gotOn 130 = .ok (.aload_n 0, 1) := dk_42 (dk_at dksX0_gotOn_5 12 rfl rfl)
theorem dX0_gotOn_131 : decode cX0_gotOn 131 = .ok (.getfield 68, 3) := dk_180 0 68 (dk_at dksX0_gotOn_5 13 rfl rfl)
theorem dX0_gotOn_134 : decode cX0_gotOn 134 = .ok (.invokevirtual 382, 3) := dk_182 1 126 (dk_at dksX0_gotOn_5 16 rfl rfl)
theorem dX0_gotOn_137 : decode cX0_gotOn 137 = .ok (.aload 7, 2) := dk_25 7 (dk_at dksX0_gotOn_5 19 rfl rfl)
theorem dX0_gotOn_139 : decode cX0_gotOn 139 = .ok (.athrow, 1) := dk_191 (dk_at dksX0_gotOn_5 21 rfl rfl)
abbrev cX0_image : ByteArray := prog_1_method_114_code
def yX0_image : MethodName := ⟨RX0, "image", "()I"⟩
def dkwX0_image_0 : List UInt8 := [42, 180, 0, 65, 42, 180, 0, 61, 182, 1, 126, 42, 4, 181, 1, 216, 4, 172]
abbrev dktX0_image_0 : List UInt8 := dkwX0_image_0 ++ []
theorem dksX0_image_0 : cX0_image.data.toList.drop 0 = dktX0_image_0 := by decide +kernel
theorem dX0_image_0 : decode cX0_image 0 = .ok (.aload_n 0, 1) := dk_42 (dk_at dksX0_image_0 0 rfl rfl)
theorem dX0_image_1 : decode cX0_image 1 = .ok (.getfield 65, 3) := dk_180 0 65 (dk_at dksX0_image_0 1 rfl rfl)
theorem dX0_image_4 : decode cX0_image 4 = .ok (.aload_n 0, 1) := dk_42 (dk_at dksX0_image_0 4 rfl rfl)
theorem dX0_image_5 : decode cX0_image 5 = .ok (.getfield 61, 3) := dk_180 0 61 (dk_at dksX0_image_0 5 rfl rfl)
theorem dX0_image_8 : decode cX0_image 8 = .ok (.invokevirtual 382, 3) := dk_182 1 126 (dk_at dksX0_image_0 8 rfl rfl)
theorem dX0_image_11 : decode cX0_image 11 = .ok (.aload_n 0, 1) := dk_42 (dk_at dksX0_image_0 11 rfl rfl)
theorem dX0_image_12 : decode cX0_image 12 = .ok (.iconst 1, 1) := dk_4 (dk_at dksX0_image_0 12 rfl rfl)
theorem dX0_image_13 : decode cX0_image 13 = .ok (.putfield 472, 3) := dk_181 1 216 (dk_at dksX0_image_0 13 rfl rfl)
theorem dX0_image_16 : decode cX0_image 16 = .ok (.iconst 1, 1) := dk_4 (dk_at dksX0_image_0 16 rfl rfl)
theorem dX0_image_17 : decode cX0_image 17 = .ok (.ireturn, 1) := dk_172 (dk_at dksX0_image_0 17 rfl rfl)
abbrev cX0_undo : ByteArray := prog_1_method_115_code
def yX0_undo : MethodName := ⟨RX0, "undo", "()I"⟩
def dkwX0_undo_1 : List UInt8 := [42, 180, 0, 61, 180, 0, 127, 172]
abbrev dktX0_undo_1 : List UInt8 := dkwX0_undo_1 ++ []
def dkwX0_undo_0 : List UInt8 := [42, 180, 1, 216, 154, 0, 9, 42, 6, 182, 0, 142, 172, 42, 180, 0, 61, 42, 180, 0, 65, 182, 1, 126]
abbrev dktX0_undo_0 : List UInt8 := dkwX0_undo_0 ++ dktX0_undo_1
theorem dksX0_undo_0 : cX0_undo.data.toList.drop 0 = dktX0_undo_0 := by decide +kernel
theorem dksX0_undo_1 : cX0_undo.data.toList.drop 24 = dktX0_undo_1 := dk_seg dksX0_undo_0 24 rfl rfl
theorem dX0_undo_0 : decode cX0_undo 0 = .ok (.aload_n 0, 1) := dk_42 (dk_at dksX0_undo_0 0 rfl rfl)
theorem dX0_undo_1 : decode cX0_undo 1 = .ok (.getfield 472, 3) := dk_180 1 216 (dk_at dksX0_undo_0 1 rfl rfl)
theorem dX0_undo_4 : decode cX0_undo 4 = .ok (.ifCond .ne 9, 3) := dk_154 0 9 (dk_at dksX0_undo_0 4 rfl rfl)
theorem dX0_undo_7 : decode cX0_undo 7 = .ok (.aload_n 0, 1) := dk_42 (dk_at dksX0_undo_0 7 rfl rfl)
theorem dX0_undo_8 : decode cX0_undo 8 = .ok (.iconst 3, 1) := dk_6 (dk_at dksX0_undo_0 8 rfl rfl)
theorem dX0_undo_9 : decode cX0_undo 9 = .ok (.invokevirtual 142, 3) := dk_182 0 142 (dk_at dksX0_undo_0 9 rfl rfl)
theorem dX0_undo_12 : decode cX0_undo 12 = .ok (.ireturn, 1) := dk_172 (dk_at dksX0_undo_0 12 rfl rfl)
theorem dX0_undo_13 : decode cX0_undo 13 = .ok (.aload_n 0, 1) := dk_42 (dk_at dksX0_undo_0 13 rfl rfl)
theorem dX0_undo_14 : decode cX0_undo 14 = .ok (.getfield 61, 3) := dk_180 0 61 (dk_at dksX0_undo_0 14 rfl rfl)
theorem dX0_undo_17 : decode cX0_undo 17 = .ok (.aload_n 0, 1) := dk_42 (dk_at dksX0_undo_0 17 rfl rfl)
theorem dX0_undo_18 : decode cX0_undo 18 = .ok (.getfield 65, 3) := dk_180 0 65 (dk_at dksX0_undo_0 18 rfl rfl)
theorem dX0_undo_21 : decode cX0_undo 21 = .ok (.invokevirtual 382, 3) := dk_182 1 126 (dk_at dksX0_undo_0 21 rfl rfl)
theorem dX0_undo_24 : decode cX0_undo 24 = .ok (.aload_n 0, 1) := dk_42 (dk_at dksX0_undo_1 0 rfl rfl)
theorem dX0_undo_25 : decode cX0_undo 25 = .ok (.getfield 61, 3) := dk_180 0 61 (dk_at dksX0_undo_1 1 rfl rfl)
theorem dX0_undo_28 : decode cX0_undo 28 = .ok (.getfield 127, 3) := dk_180 0 127 (dk_at dksX0_undo_1 4 rfl rfl)
theorem dX0_undo_31 : decode cX0_undo 31 = .ok (.ireturn, 1) := dk_172 (dk_at dksX0_undo_1 7 rfl rfl)
abbrev cX0_tear : ByteArray := prog_1_method_116_code
def yX0_tear : MethodName := ⟨RX0, "tear", "()I"⟩
def dkwX0_tear_0 : List UInt8 := [42, 180, 1, 216, 153, 0, 7, 4, 167, 0, 4, 3, 60, 42, 3, 181, 1, 216, 27, 172]
abbrev dktX0_tear_0 : List UInt8 := dkwX0_tear_0 ++ []
theorem dksX0_tear_0 : cX0_tear.data.toList.drop 0 = dktX0_tear_0 := by decide +kernel
theorem dX0_tear_0 : decode cX0_tear 0 = .ok (.aload_n 0, 1) := dk_42 (dk_at dksX0_tear_0 0 rfl rfl)
theorem dX0_tear_1 : decode cX0_tear 1 = .ok (.getfield 472, 3) := dk_180 1 216 (dk_at dksX0_tear_0 1 rfl rfl)
theorem dX0_tear_4 : decode cX0_tear 4 = .ok (.ifCond .eq 7, 3) := dk_153 0 7 (dk_at dksX0_tear_0 4 rfl rfl)
theorem dX0_tear_7 : decode cX0_tear 7 = .ok (.iconst 1, 1) := dk_4 (dk_at dksX0_tear_0 7 rfl rfl)
theorem dX0_tear_8 : decode cX0_tear 8 = .ok (.goto 4, 3) := dk_167 0 4 (dk_at dksX0_tear_0 8 rfl rfl)
theorem dX0_tear_11 : decode cX0_tear 11 = .ok (.iconst 0, 1) := dk_3 (dk_at dksX0_tear_0 11 rfl rfl)
theorem dX0_tear_12 : decode cX0_tear 12 = .ok (.istore_n 1, 1) := dk_60 (dk_at dksX0_tear_0 12 rfl rfl)
theorem dX0_tear_13 : decode cX0_tear 13 = .ok (.aload_n 0, 1) := dk_42 (dk_at dksX0_tear_0 13 rfl rfl)
theorem dX0_tear_14 : decode cX0_tear 14 = .ok (.iconst 0, 1) := dk_3 (dk_at dksX0_tear_0 14 rfl rfl)
theorem dX0_tear_15 : decode cX0_tear 15 = .ok (.putfield 472, 3) := dk_181 1 216 (dk_at dksX0_tear_0 15 rfl rfl)
theorem dX0_tear_18 : decode cX0_tear 18 = .ok (.iload_n 1, 1) := dk_27 (dk_at dksX0_tear_0 18 rfl rfl)
theorem dX0_tear_19 : decode cX0_tear 19 = .ok (.ireturn, 1) := dk_172 (dk_at dksX0_tear_0 19 rfl rfl)
abbrev cX0_count : ByteArray := prog_1_method_117_code
def yX0_count : MethodName := ⟨RX0, "count", "(I)I"⟩
def dkwX0_count_4 : List UInt8 := [180, 0, 61, 180, 1, 130, 172, 42, 182, 1, 220, 172, 42, 3, 182, 0, 142, 172]
abbrev dktX0_count_4 : List UInt8 := dkwX0_count_4 ++ []
def dkwX0_count_3 : List UInt8 := [42, 180, 0, 61, 6, 182, 1, 20, 172, 42, 180, 0, 61, 7, 182, 1, 20, 172, 42, 180, 1, 133, 172, 42]
abbrev dktX0_count_3 : List UInt8 := dkwX0_count_3 ++ dktX0_count_4
def dkwX0_count_2 : List UInt8 := [42, 180, 0, 61, 180, 0, 125, 172, 42, 180, 0, 61, 180, 0, 127, 172, 42, 180, 0, 61, 180, 0, 130, 172]
abbrev dktX0_count_2 : List UInt8 := dkwX0_count_2 ++ dktX0_count_3
def dkwX0_count_1 : List UInt8 := [170, 0, 0, 0, 0, 0, 107, 0, 0, 0, 0, 0, 0, 0, 7, 0, 0, 0, 47, 0, 0, 0, 55, 0, 0, 0, 63, 0, 0, 0, 71, 0, 0, 0, 80, 0, 0, 0, 89, 0, 0, 0, 94, 0, 0, 0, 102]
abbrev dktX0_count_1 : List UInt8 := dkwX0_count_1 ++ dktX0_count_2
def dkwX0_count_0 : List UInt8 := [27]
abbrev dktX0_count_0 : List UInt8 := dkwX0_count_0 ++ dktX0_count_1
theorem dksX0_count_0 : cX0_count.data.toList.drop 0 = dktX0_count_0 := by decide +kernel
theorem dksX0_count_1 : cX0_count.data.toList.drop 1 = dktX0_count_1 := dk_seg dksX0_count_0 1 rfl rfl
theorem dksX0_count_2 : cX0_count.data.toList.drop 48 = dktX0_count_2 := dk_seg dksX0_count_1 47 rfl rfl
theorem dksX0_count_3 : cX0_count.data.toList.drop 72 = dktX0_count_3 := dk_seg dksX0_count_2 24 rfl rfl
theorem dksX0_count_4 : cX0_count.data.toList.drop 96 = dktX0_count_4 := dk_seg dksX0_count_3 24 rfl rfl
theorem dX0_count_0 : decode cX0_count 0 = .ok (.iload_n 1, 1) := dk_27 (dk_at dksX0_count_0 0 rfl rfl)
theorem dX0_count_1 : decode cX0_count 1 = .ok (.tableswitch 107 0 7 #[47, 55, 63, 71, 80, 89, 94, 102], 47) := by decide +kernel
theorem dX0_count_48 : decode cX0_count 48 = .ok (.aload_n 0, 1) := dk_42 (dk_at dksX0_count_2 0 rfl rfl)
theorem dX0_count_49 : decode cX0_count 49 = .ok (.getfield 61, 3) := dk_180 0 61 (dk_at dksX0_count_2 1 rfl rfl)
theorem dX0_count_52 : decode cX0_count 52 = .ok (.getfield 125, 3) := dk_180 0 125 (dk_at dksX0_count_2 4 rfl rfl)
theorem dX0_count_55 : decode cX0_count 55 = .ok (.ireturn, 1) := dk_172 (dk_at dksX0_count_2 7 rfl rfl)
theorem dX0_count_56 : decode cX0_count 56 = .ok (.aload_n 0, 1) := dk_42 (dk_at dksX0_count_2 8 rfl rfl)
theorem dX0_count_57 : decode cX0_count 57 = .ok (.getfield 61, 3) := dk_180 0 61 (dk_at dksX0_count_2 9 rfl rfl)
theorem dX0_count_60 : decode cX0_count 60 = .ok (.getfield 127, 3) := dk_180 0 127 (dk_at dksX0_count_2 12 rfl rfl)
theorem dX0_count_63 : decode cX0_count 63 = .ok (.ireturn, 1) := dk_172 (dk_at dksX0_count_2 15 rfl rfl)
theorem dX0_count_64 : decode cX0_count 64 = .ok (.aload_n 0, 1) := dk_42 (dk_at dksX0_count_2 16 rfl rfl)
theorem dX0_count_65 : decode cX0_count 65 = .ok (.getfield 61, 3) := dk_180 0 61 (dk_at dksX0_count_2 17 rfl rfl)
theorem dX0_count_68 : decode cX0_count 68 = .ok (.getfield 130, 3) := dk_180 0 130 (dk_at dksX0_count_2 20 rfl rfl)
theorem dX0_count_71 : decode cX0_count 71 = .ok (.ireturn, 1) := dk_172 (dk_at dksX0_count_2 23 rfl rfl)
theorem dX0_count_72 : decode cX0_count 72 = .ok (.aload_n 0, 1) := dk_42 (dk_at dksX0_count_3 0 rfl rfl)
theorem dX0_count_73 : decode cX0_count 73 = .ok (.getfield 61, 3) := dk_180 0 61 (dk_at dksX0_count_3 1 rfl rfl)
theorem dX0_count_76 : decode cX0_count 76 = .ok (.iconst 3, 1) := dk_6 (dk_at dksX0_count_3 4 rfl rfl)
theorem dX0_count_77 : decode cX0_count 77 = .ok (.invokevirtual 276, 3) := dk_182 1 20 (dk_at dksX0_count_3 5 rfl rfl)
theorem dX0_count_80 : decode cX0_count 80 = .ok (.ireturn, 1) := dk_172 (dk_at dksX0_count_3 8 rfl rfl)
theorem dX0_count_81 : decode cX0_count 81 = .ok (.aload_n 0, 1) := dk_42 (dk_at dksX0_count_3 9 rfl rfl)
theorem dX0_count_82 : decode cX0_count 82 = .ok (.getfield 61, 3) := dk_180 0 61 (dk_at dksX0_count_3 10 rfl rfl)
theorem dX0_count_85 : decode cX0_count 85 = .ok (.iconst 4, 1) := dk_7 (dk_at dksX0_count_3 13 rfl rfl)
theorem dX0_count_86 : decode cX0_count 86 = .ok (.invokevirtual 276, 3) := dk_182 1 20 (dk_at dksX0_count_3 14 rfl rfl)
theorem dX0_count_89 : decode cX0_count 89 = .ok (.ireturn, 1) := dk_172 (dk_at dksX0_count_3 17 rfl rfl)
theorem dX0_count_90 : decode cX0_count 90 = .ok (.aload_n 0, 1) := dk_42 (dk_at dksX0_count_3 18 rfl rfl)
theorem dX0_count_91 : decode cX0_count 91 = .ok (.getfield 389, 3) := dk_180 1 133 (dk_at dksX0_count_3 19 rfl rfl)
theorem dX0_count_94 : decode cX0_count 94 = .ok (.ireturn, 1) := dk_172 (dk_at dksX0_count_3 22 rfl rfl)
theorem dX0_count_95 : decode cX0_count 95 = .ok (.aload_n 0, 1) := dk_42 (dk_at dksX0_count_3 23 rfl rfl)
theorem dX0_count_96 : decode cX0_count 96 = .ok (.getfield 61, 3) := dk_180 0 61 (dk_at dksX0_count_4 0 rfl rfl)
theorem dX0_count_99 : decode cX0_count 99 = .ok (.getfield 386, 3) := dk_180 1 130 (dk_at dksX0_count_4 3 rfl rfl)
theorem dX0_count_102 : decode cX0_count 102 = .ok (.ireturn, 1) := dk_172 (dk_at dksX0_count_4 6 rfl rfl)
theorem dX0_count_103 : decode cX0_count 103 = .ok (.aload_n 0, 1) := dk_42 (dk_at dksX0_count_4 7 rfl rfl)
theorem dX0_count_104 : decode cX0_count 104 = .ok (.invokevirtual 476, 3) := dk_182 1 220 (dk_at dksX0_count_4 8 rfl rfl)
theorem dX0_count_107 : decode cX0_count 107 = .ok (.ireturn, 1) := dk_172 (dk_at dksX0_count_4 11 rfl rfl)
theorem dX0_count_108 : decode cX0_count 108 = .ok (.aload_n 0, 1) := dk_42 (dk_at dksX0_count_4 12 rfl rfl)
theorem dX0_count_109 : decode cX0_count 109 = .ok (.iconst 0, 1) := dk_3 (dk_at dksX0_count_4 13 rfl rfl)
theorem dX0_count_110 : decode cX0_count 110 = .ok (.invokevirtual 142, 3) := dk_182 0 142 (dk_at dksX0_count_4 14 rfl rfl)
theorem dX0_count_113 : decode cX0_count 113 = .ok (.ireturn, 1) := dk_172 (dk_at dksX0_count_4 17 rfl rfl)
abbrev cX0_holding : ByteArray := prog_1_method_97_code
def yX0_holding : MethodName := ⟨RX0, "holding", "()I"⟩
def dkwX0_holding_2 : List UInt8 := [167, 255, 227, 27, 172]
abbrev dktX0_holding_2 : List UInt8 := dkwX0_holding_2 ++ []
def dkwX0_holding_1 : List UInt8 := [21, 4, 46, 54, 5, 27, 21, 5, 2, 160, 0, 7, 3, 167, 0, 4, 4, 96, 60, 132, 4, 1]
abbrev dktX0_holding_1 : List UInt8 := dkwX0_holding_1 ++ dktX0_holding_2
def dkwX0_holding_0 : List UInt8 := [3, 60, 42, 180, 0, 61, 180, 1, 154, 77, 44, 190, 62, 3, 54, 4, 21, 4, 29, 162, 0, 29, 44]
abbrev dktX0_holding_0 : List UInt8 := dkwX0_holding_0 ++ dktX0_holding_1
theorem dksX0_holding_0 : cX0_holding.data.toList.drop 0 = dktX0_holding_0 := by decide +kernel
theorem dksX0_holding_1 : cX0_holding.data.toList.drop 23 = dktX0_holding_1 := dk_seg dksX0_holding_0 23 rfl rfl
theorem dksX0_holding_2 : cX0_holding.data.toList.drop 45 = dktX0_holding_2 := dk_seg dksX0_holding_1 22 rfl rfl
theorem dX0_holding_0 : decode cX0_holding 0 = .ok (.iconst 0, 1) := dk_3 (dk_at dksX0_holding_0 0 rfl rfl)
theorem dX0_holding_1 : decode cX0_holding 1 = .ok (.istore_n 1, 1) := dk_60 (dk_at dksX0_holding_0 1 rfl rfl)
theorem dX0_holding_2 : decode cX0_holding 2 = .ok (.aload_n 0, 1) := dk_42 (dk_at dksX0_holding_0 2 rfl rfl)
theorem dX0_holding_3 : decode cX0_holding 3 = .ok (.getfield 61, 3) := dk_180 0 61 (dk_at dksX0_holding_0 3 rfl rfl)
theorem dX0_holding_6 : decode cX0_holding 6 = .ok (.getfield 410, 3) := dk_180 1 154 (dk_at dksX0_holding_0 6 rfl rfl)
theorem dX0_holding_9 : decode cX0_holding 9 = .ok (.astore_n 2, 1) := dk_77 (dk_at dksX0_holding_0 9 rfl rfl)
theorem dX0_holding_10 : decode cX0_holding 10 = .ok (.aload_n 2, 1) := dk_44 (dk_at dksX0_holding_0 10 rfl rfl)
theorem dX0_holding_11 : decode cX0_holding 11 = .ok (.arraylength, 1) := dk_190 (dk_at dksX0_holding_0 11 rfl rfl)
theorem dX0_holding_12 : decode cX0_holding 12 = .ok (.istore_n 3, 1) := dk_62 (dk_at dksX0_holding_0 12 rfl rfl)
theorem dX0_holding_13 : decode cX0_holding 13 = .ok (.iconst 0, 1) := dk_3 (dk_at dksX0_holding_0 13 rfl rfl)
theorem dX0_holding_14 : decode cX0_holding 14 = .ok (.istore 4, 2) := dk_54 4 (dk_at dksX0_holding_0 14 rfl rfl)
theorem dX0_holding_16 : decode cX0_holding 16 = .ok (.iload 4, 2) := dk_21 4 (dk_at dksX0_holding_0 16 rfl rfl)
theorem dX0_holding_18 : decode cX0_holding 18 = .ok (.iload_n 3, 1) := dk_29 (dk_at dksX0_holding_0 18 rfl rfl)
theorem dX0_holding_19 : decode cX0_holding 19 = .ok (.if_icmp .ge 29, 3) := dk_162 0 29 (dk_at dksX0_holding_0 19 rfl rfl)
theorem dX0_holding_22 : decode cX0_holding 22 = .ok (.aload_n 2, 1) := dk_44 (dk_at dksX0_holding_0 22 rfl rfl)
theorem dX0_holding_23 : decode cX0_holding 23 = .ok (.iload 4, 2) := dk_21 4 (dk_at dksX0_holding_1 0 rfl rfl)
theorem dX0_holding_25 : decode cX0_holding 25 = .ok (.iaload, 1) := dk_46 (dk_at dksX0_holding_1 2 rfl rfl)
theorem dX0_holding_26 : decode cX0_holding 26 = .ok (.istore 5, 2) := dk_54 5 (dk_at dksX0_holding_1 3 rfl rfl)
theorem dX0_holding_28 : decode cX0_holding 28 = .ok (.iload_n 1, 1) := dk_27 (dk_at dksX0_holding_1 5 rfl rfl)
theorem dX0_holding_29 : decode cX0_holding 29 = .ok (.iload 5, 2) := dk_21 5 (dk_at dksX0_holding_1 6 rfl rfl)
theorem dX0_holding_31 : decode cX0_holding 31 = .ok (.iconst (-1), 1) := dk_2 (dk_at dksX0_holding_1 8 rfl rfl)
theorem dX0_holding_32 : decode cX0_holding 32 = .ok (.if_icmp .ne 7, 3) := dk_160 0 7 (dk_at dksX0_holding_1 9 rfl rfl)
theorem dX0_holding_35 : decode cX0_holding 35 = .ok (.iconst 0, 1) := dk_3 (dk_at dksX0_holding_1 12 rfl rfl)
theorem dX0_holding_36 : decode cX0_holding 36 = .ok (.goto 4, 3) := dk_167 0 4 (dk_at dksX0_holding_1 13 rfl rfl)
theorem dX0_holding_39 : decode cX0_holding 39 = .ok (.iconst 1, 1) := dk_4 (dk_at dksX0_holding_1 16 rfl rfl)
theorem dX0_holding_40 : decode cX0_holding 40 = .ok (.iadd, 1) := dk_96 (dk_at dksX0_holding_1 17 rfl rfl)
theorem dX0_holding_41 : decode cX0_holding 41 = .ok (.istore_n 1, 1) := dk_60 (dk_at dksX0_holding_1 18 rfl rfl)
theorem dX0_holding_42 : decode cX0_holding 42 = .ok (.iinc 4 1, 3) := dk_132 4 1 (dk_at dksX0_holding_1 19 rfl rfl)
theorem dX0_holding_45 : decode cX0_holding 45 = .ok (.goto (-29), 3) := dk_167 255 227 (dk_at dksX0_holding_2 0 rfl rfl)
theorem dX0_holding_48 : decode cX0_holding 48 = .ok (.iload_n 1, 1) := dk_27 (dk_at dksX0_holding_2 3 rfl rfl)
theorem dX0_holding_49 : decode cX0_holding 49 = .ok (.ireturn, 1) := dk_172 (dk_at dksX0_holding_2 4 rfl rfl)
abbrev cX0_status : ByteArray := prog_1_method_118_code
def yX0_status : MethodName := ⟨RX0, "status", "(I)I"⟩
def dkwX0_status_2 : List UInt8 := [167, 0, 4, 3, 96, 61, 132, 3, 1, 167, 255, 221, 28, 172]
abbrev dktX0_status_2 : List UInt8 := dkwX0_status_2 ++ []
def dkwX0_status_1 : List UInt8 := [180, 0, 83, 190, 162, 0, 32, 28, 27, 2, 159, 0, 8, 27, 29, 160, 0, 12, 42, 180, 0, 83, 29, 46]
abbrev dktX0_status_1 : List UInt8 := dkwX0_status_1 ++ dktX0_status_2
def dkwX0_status_0 : List UInt8 := [27, 2, 16, 6, 184, 0, 3, 154, 0, 9, 42, 3, 182, 0, 142, 172, 3, 61, 3, 62, 29, 42]
abbrev dktX0_status_0 : List UInt8 := dkwX0_status_0 ++ dktX0_status_1
theorem dksX0_status_0 : cX0_status.data.toList.drop 0 = dktX0_status_0 := by decide +kernel
theorem dksX0_status_1 : cX0_status.data.toList.drop 22 = dktX0_status_1 := dk_seg dksX0_status_0 22 rfl rfl
theorem dksX0_status_2 : cX0_status.data.toList.drop 46 = dktX0_status_2 := dk_seg dksX0_status_1 24 rfl rfl
theorem dX0_status_0 : decode cX0_status 0 = .ok (.iload_n 1, 1) := dk_27 (dk_at dksX0_status_0 0 rfl rfl)
theorem dX0_status_1 : decode cX0_status 1 = .ok (.iconst (-1), 1) := dk_2 (dk_at dksX0_status_0 1 rfl rfl)
theorem dX0_status_2 : decode cX0_status 2 = .ok (.bipush 6, 2) := dk_16 6 (dk_at dksX0_status_0 2 rfl rfl)
theorem dX0_status_4 : decode cX0_status 4 = .ok (.invokestatic 3, 3) := dk_184 0 3 (dk_at dksX0_status_0 4 rfl rfl)
theorem dX0_status_7 : decode cX0_status 7 = .ok (.ifCond .ne 9, 3) := dk_154 0 9 (dk_at dksX0_status_0 7 rfl rfl)
theorem dX0_status_10 : decode cX0_status 10 = .ok (.aload_n 0, 1) := dk_42 (dk_at dksX0_status_0 10 rfl rfl)
theorem dX0_status_11 : decode cX0_status 11 = .ok (.iconst 0, 1) := dk_3 (dk_at dksX0_status_0 11 rfl rfl)
theorem dX0_status_12 : decode cX0_status 12 = .ok (.invokevirtual 142, 3) := dk_182 0 142 (dk_at dksX0_status_0 12 rfl rfl)
theorem dX0_status_15 : decode cX0_status 15 = .ok (.ireturn, 1) := dk_172 (dk_at dksX0_status_0 15 rfl rfl)
theorem dX0_status_16 : decode cX0_status 16 = .ok (.iconst 0, 1) := dk_3 (dk_at dksX0_status_0 16 rfl rfl)
theorem dX0_status_17 : decode cX0_status 17 = .ok (.istore_n 2, 1) := dk_61 (dk_at dksX0_status_0 17 rfl rfl)
theorem dX0_status_18 : decode cX0_status 18 = .ok (.iconst 0, 1) := dk_3 (dk_at dksX0_status_0 18 rfl rfl)
theorem dX0_status_19 : decode cX0_status 19 = .ok (.istore_n 3, 1) := dk_62 (dk_at dksX0_status_0 19 rfl rfl)
theorem dX0_status_20 : decode cX0_status 20 = .ok (.iload_n 3, 1) := dk_29 (dk_at dksX0_status_0 20 rfl rfl)
theorem dX0_status_21 : decode cX0_status 21 = .ok (.aload_n 0, 1) := dk_42 (dk_at dksX0_status_0 21 rfl rfl)
theorem dX0_status_22 : decode cX0_status 22 = .ok (.getfield 83, 3) := dk_180 0 83 (dk_at dksX0_status_1 0 rfl rfl)
theorem dX0_status_25 : decode cX0_status 25 = .ok (.arraylength, 1) := dk_190 (dk_at dksX0_status_1 3 rfl rfl)
theorem dX0_status_26 : decode cX0_status 26 = .ok (.if_icmp .ge 32, 3) := dk_162 0 32 (dk_at dksX0_status_1 4 rfl rfl)
theorem dX0_status_29 : decode cX0_status 29 = .ok (.iload_n 2, 1) := dk_28 (dk_at dksX0_status_1 7 rfl rfl)
theorem dX0_status_30 : decode cX0_status 30 = .ok (.iload_n 1, 1) := dk_27 (dk_at dksX0_status_1 8 rfl rfl)
theorem dX0_status_31 : decode cX0_status 31 = .ok (.iconst (-1), 1) := dk_2 (dk_at dksX0_status_1 9 rfl rfl)
theorem dX0_status_32 : decode cX0_status 32 = .ok (.if_icmp .eq 8, 3) := dk_159 0 8 (dk_at dksX0_status_1 10 rfl rfl)
theorem dX0_status_35 : decode cX0_status 35 = .ok (.iload_n 1, 1) := dk_27 (dk_at dksX0_status_1 13 rfl rfl)
theorem dX0_status_36 : decode cX0_status 36 = .ok (.iload_n 3, 1) := dk_29 (dk_at dksX0_status_1 14 rfl rfl)
theorem dX0_status_37 : decode cX0_status 37 = .ok (.if_icmp .ne 12, 3) := dk_160 0 12 (dk_at dksX0_status_1 15 rfl rfl)
theorem dX0_status_40 : decode cX0_status 40 = .ok (.aload_n 0, 1) := dk_42 (dk_at dksX0_status_1 18 rfl rfl)
theorem dX0_status_41 : decode cX0_status 41 = .ok (.getfield 83, 3) := dk_180 0 83 (dk_at dksX0_status_1 19 rfl rfl)
theorem dX0_status_44 : decode cX0_status 44 = .ok (.iload_n 3, 1) := dk_29 (dk_at dksX0_status_1 22 rfl rfl)
theorem dX0_status_45 : decode cX0_status 45 = .ok (.iaload, 1) := dk_46 (dk_at dksX0_status_1 23 rfl rfl)
theorem dX0_status_46 : decode cX0_status 46 = .ok (.goto 4, 3) := dk_167 0 4 (dk_at dksX0_status_2 0 rfl rfl)
theorem dX0_status_49 : decode cX0_status 49 = .ok (.iconst 0, 1) := dk_3 (dk_at dksX0_status_2 3 rfl rfl)
theorem dX0_status_50 : decode cX0_status 50 = .ok (.iadd, 1) := dk_96 (dk_at dksX0_status_2 4 rfl rfl)
theorem dX0_status_51 : decode cX0_status 51 = .ok (.istore_n 2, 1) := dk_61 (dk_at dksX0_status_2 5 rfl rfl)
theorem dX0_status_52 : decode cX0_status 52 = .ok (.iinc 3 1, 3) := dk_132 3 1 (dk_at dksX0_status_2 6 rfl rfl)
theorem dX0_status_55 : decode cX0_status 55 = .ok (.goto (-35), 3) := dk_167 255 221 (dk_at dksX0_status_2 9 rfl rfl)
theorem dX0_status_58 : decode cX0_status 58 = .ok (.iload_n 2, 1) := dk_28 (dk_at dksX0_status_2 12 rfl rfl)
theorem dX0_status_59 : decode cX0_status 59 = .ok (.ireturn, 1) := dk_172 (dk_at dksX0_status_2 13 rfl rfl)
theorem q126 : (Jvm.Cond.initialized "CarryFair") ∈ lw_all := lw_g (lw_at lw_m1 1 rfl) rfl
theorem q151 : (Jvm.Cond.instantiable "CarryFair" (20 : Nat)) ∈ lw_all := lw_g (lw_at lw_m1 26 rfl) rfl
theorem q153 : (Jvm.Cond.instanceMethod ({ cls := "CarryFair", name := "<init>", desc := "()V" } : Jvm.MethodName)) ∈ lw_all := lw_g (lw_at lw_m1 28 rfl) rfl
theorem q154 : (Jvm.Cond.code ({ cls := "CarryFair", name := "<init>", desc := "()V" } : Jvm.MethodName) prog_1_method_11_code (2 : Nat) (Option.none : Option Jvm.ClassFile.FieldType)) ∈ lw_all := lw_g (lw_at lw_m1 29 rfl) rfl
theorem q155 : (Jvm.Cond.methodLink "CarryFair" (39 : Nat) ({ cls := "java/lang/Object", name := "<init>", desc := "()V" } : Jvm.MethodName)) ∈ lw_all := lw_g (lw_at lw_m1 30 rfl) rfl
theorem q158 : (Jvm.Cond.classLink "CarryFair" (44 : Nat) "CarryFair$Refusal") ∈ lw_all := lw_g (lw_at lw_m1 33 rfl) rfl
theorem q198 : (Jvm.Cond.methodLink "CarryFair" (46 : Nat) ({ cls := "CarryFair$Refusal", name := "<init>", desc := "()V" } : Jvm.MethodName)) ∈ lw_all := lw_g (lw_at lw_m1 73 rfl) rfl
theorem q210 : (Jvm.Cond.fieldLinkNest "CarryFair" (117 : Nat) "CarryFair$Refusal" "finding" "I" "CarryFair") ∈ lw_tbl := lw_at lw_m1 85 rfl
theorem q226 : (Jvm.Cond.classLink "CarryFair" (51 : Nat) "CarryFair$Reader") ∈ lw_all := lw_g (lw_at lw_m1 101 rfl) rfl
theorem q228 : (Jvm.Cond.methodLinkNest "CarryFair" (53 : Nat) ({ cls := "CarryFair$Reader", name := "<init>", desc := "()V" } : Jvm.MethodName) "CarryFair") ∈ lw_tbl := lw_at lw_m1 103 rfl
theorem q257 : (Jvm.Cond.fieldLinkNest "CarryFair" (125 : Nat) "CarryFair$World" "carriers" "I" "CarryFair") ∈ lw_tbl := lw_at lw_m1 132 rfl
theorem q260 : (Jvm.Cond.fieldLinkNest "CarryFair" (113 : Nat) "CarryFair$World" "carrier" "[[I" "CarryFair") ∈ lw_tbl := lw_at lw_m1 135 rfl
theorem q262 : (Jvm.Cond.fieldLinkNest "CarryFair" (127 : Nat) "CarryFair$World" "errands" "I" "CarryFair") ∈ lw_tbl := lw_at lw_m1 137 rfl
theorem q265 : (Jvm.Cond.fieldLinkNest "CarryFair" (214 : Nat) "CarryFair$World" "errand" "[[I" "CarryFair") ∈ lw_tbl := lw_at lw_m1 140 rfl
theorem q267 : (Jvm.Cond.fieldLinkNest "CarryFair" (130 : Nat) "CarryFair$World" "wares" "I" "CarryFair") ∈ lw_tbl := lw_at lw_m1 142 rfl
theorem q270 : (Jvm.Cond.fieldLinkNest "CarryFair" (236 : Nat) "CarryFair$World" "ware" "[[I" "CarryFair") ∈ lw_tbl := lw_at lw_m1 145 rfl
theorem q272 : (Jvm.Cond.fieldLinkNest "CarryFair" (183 : Nat) "CarryFair$World" "yards" "[[I" "CarryFair") ∈ lw_tbl := lw_at lw_m1 147 rfl
theorem q274 : (Jvm.Cond.fieldLinkNest "CarryFair" (190 : Nat) "CarryFair$World" "river" "[[I" "CarryFair") ∈ lw_tbl := lw_at lw_m1 149 rfl
theorem q276 : (Jvm.Cond.fieldLinkNest "CarryFair" (386 : Nat) "CarryFair$World" "z" "I" "CarryFair") ∈ lw_tbl := lw_at lw_m1 151 rfl
theorem q278 : (Jvm.Cond.fieldLinkNest "CarryFair" (410 : Nat) "CarryFair$World" "holds" "[I" "CarryFair") ∈ lw_tbl := lw_at lw_m1 153 rfl
theorem q304 : (Jvm.Cond.fieldLinkNest "CarryFair" (392 : Nat) "CarryFair$Reader" "tape" "[B" "CarryFair") ∈ lw_tbl := lw_at lw_m1 179 rfl
theorem q306 : (Jvm.Cond.fieldLinkNest "CarryFair" (399 : Nat) "CarryFair$Reader" "told" "LCarryFair$World;" "CarryFair") ∈ lw_tbl := lw_at lw_m1 181 rfl
theorem q308 : (Jvm.Cond.fieldLinkNest "CarryFair" (396 : Nat) "CarryFair$Reader" "length" "I" "CarryFair") ∈ lw_tbl := lw_at lw_m1 183 rfl
theorem q311 : (Jvm.Cond.fieldLinkNest "CarryFair" (407 : Nat) "CarryFair$Reader" "begin" "I" "CarryFair") ∈ lw_tbl := lw_at lw_m1 186 rfl
theorem q331 : (Jvm.Cond.classLink "CarryFair" (58 : Nat) "CarryFair$World") ∈ lw_all := lw_g (lw_at lw_m1 206 rfl) rfl
theorem q332 : (Jvm.Cond.methodLink "CarryFair" (60 : Nat) ({ cls := "CarryFair$World", name := "<init>", desc := "()V" } : Jvm.MethodName)) ∈ lw_all := lw_g (lw_at lw_m1 207 rfl) rfl
theorem q333 : (Jvm.Cond.classLink "CarryFair" (71 : Nat) "CarryFair$Slot") ∈ lw_all := lw_g (lw_at lw_m1 208 rfl) rfl
theorem q335 : (Jvm.Cond.classLink "CarryFair" (87 : Nat) "[[I") ∈ lw_all := lw_g (lw_at lw_m1 210 rfl) rfl
theorem q337 : (Jvm.Cond.methodLinkNest "CarryFair" (104 : Nat) ({ cls := "CarryFair$Slot", name := "<init>", desc := "()V" } : Jvm.MethodName) "CarryFair") ∈ lw_tbl := lw_at lw_m1 212 rfl
theorem q341 : (Jvm.Cond.fieldLinkNest "CarryFair" (109 : Nat) "CarryFair$Slot" "thing" "Ljava/lang/Object;" "CarryFair") ∈ lw_tbl := lw_at lw_m1 216 rfl
theorem q345 : (Jvm.Cond.methodLink "CarryFair" (105 : Nat) ({ cls := "CarryFair", name := "made", desc := "(II)LCarryFair$Carrier;" } : Jvm.MethodName)) ∈ lw_all := lw_g (lw_at lw_m1 220 rfl) rfl
theorem q346 : (Jvm.Cond.privateMethod ({ cls := "CarryFair", name := "made", desc := "(II)LCarryFair$Carrier;" } : Jvm.MethodName)) ∈ lw_tbl := lw_at lw_m1 221 rfl
theorem q347 : (Jvm.Cond.instanceMethod ({ cls := "CarryFair", name := "made", desc := "(II)LCarryFair$Carrier;" } : Jvm.MethodName)) ∈ lw_all := lw_g (lw_at lw_m1 222 rfl) rfl
theorem q348 : (Jvm.Cond.code ({ cls := "CarryFair", name := "made", desc := "(II)LCarryFair$Carrier;" } : Jvm.MethodName) prog_1_method_10_code (3 : Nat) (Option.some (Jvm.ClassFile.FieldType.object "CarryFair$Carrier"))) ∈ lw_all := lw_g (lw_at lw_m1 223 rfl) rfl
theorem q349 : (Jvm.Cond.classLink "CarryFair" (15 : Nat) "CarryFair$Old") ∈ lw_all := lw_g (lw_at lw_m1 224 rfl) rfl
theorem q351 : (Jvm.Cond.methodLink "CarryFair" (17 : Nat) ({ cls := "CarryFair$Old", name := "<init>", desc := "(LCarryFair;I)V" } : Jvm.MethodName)) ∈ lw_all := lw_g (lw_at lw_m1 226 rfl) rfl
theorem q360 : (Jvm.Cond.fieldLink "CarryFair" (427 : Nat) "CarryFair$Carrier" "number" "I") ∈ lw_all := lw_g (lw_at lw_m1 235 rfl) rfl
theorem q369 : (Jvm.Cond.classLink "CarryFair" (21 : Nat) "CarryFair$Paired") ∈ lw_all := lw_g (lw_at lw_m2 4 rfl) rfl
theorem q371 : (Jvm.Cond.methodLink "CarryFair" (23 : Nat) ({ cls := "CarryFair$Paired", name := "<init>", desc := "(LCarryFair;I)V" } : Jvm.MethodName)) ∈ lw_all := lw_g (lw_at lw_m2 6 rfl) rfl
theorem q381 : (Jvm.Cond.classLink "CarryFair" (24 : Nat) "CarryFair$Cheating") ∈ lw_all := lw_g (lw_at lw_m2 16 rfl) rfl
theorem q383 : (Jvm.Cond.methodLink "CarryFair" (26 : Nat) ({ cls := "CarryFair$Cheating", name := "<init>", desc := "(LCarryFair;I)V" } : Jvm.MethodName)) ∈ lw_all := lw_g (lw_at lw_m2 18 rfl) rfl
theorem q394 : (Jvm.Cond.classLink "CarryFair" (27 : Nat) "CarryFair$Handed") ∈ lw_all := lw_g (lw_at lw_m2 29 rfl) rfl
theorem q396 : (Jvm.Cond.methodLink "CarryFair" (29 : Nat) ({ cls := "CarryFair$Handed", name := "<init>", desc := "(LCarryFair;I)V" } : Jvm.MethodName)) ∈ lw_all := lw_g (lw_at lw_m2 31 rfl) rfl
theorem q407 : (Jvm.Cond.classLink "CarryFair" (30 : Nat) "CarryFair$Watery") ∈ lw_all := lw_g (lw_at lw_m2 42 rfl) rfl
theorem q409 : (Jvm.Cond.methodLink "CarryFair" (32 : Nat) ({ cls := "CarryFair$Watery", name := "<init>", desc := "(LCarryFair;I)V" } : Jvm.MethodName)) ∈ lw_all := lw_g (lw_at lw_m2 44 rfl) rfl
theorem q419 : (Jvm.Cond.classLink "CarryFair" (33 : Nat) "CarryFair$Boated") ∈ lw_all := lw_g (lw_at lw_m2 54 rfl) rfl
theorem q421 : (Jvm.Cond.methodLink "CarryFair" (35 : Nat) ({ cls := "CarryFair$Boated", name := "<init>", desc := "(LCarryFair;I)V" } : Jvm.MethodName)) ∈ lw_all := lw_g (lw_at lw_m2 56 rfl) rfl
theorem q432 : (Jvm.Cond.classLink "CarryFair" (36 : Nat) "CarryFair$Carrier") ∈ lw_all := lw_g (lw_at lw_m2 67 rfl) rfl
theorem q434 : (Jvm.Cond.methodLink "CarryFair" (38 : Nat) ({ cls := "CarryFair$Carrier", name := "<init>", desc := "(LCarryFair;I)V" } : Jvm.MethodName)) ∈ lw_all := lw_g (lw_at lw_m2 69 rfl) rfl
theorem q438 : (Jvm.Cond.fieldLink "CarryFair" (47 : Nat) "CarryFair" "refusal" "LCarryFair$Refusal;") ∈ lw_all := lw_g (lw_at lw_m2 73 rfl) rfl
theorem q439 : (Jvm.Cond.fieldLink "CarryFair" (54 : Nat) "CarryFair" "reader" "LCarryFair$Reader;") ∈ lw_all := lw_g (lw_at lw_m2 74 rfl) rfl
theorem q440 : (Jvm.Cond.fieldLink "CarryFair" (389 : Nat) "CarryFair" "taped" "I") ∈ lw_all := lw_g (lw_at lw_m2 75 rfl) rfl
theorem q442 : (Jvm.Cond.fieldLink "CarryFair" (61 : Nat) "CarryFair" "d" "LCarryFair$World;") ∈ lw_all := lw_g (lw_at lw_m2 77 rfl) rfl
theorem q443 : (Jvm.Cond.fieldLink "CarryFair" (65 : Nat) "CarryFair" "kept" "LCarryFair$World;") ∈ lw_all := lw_g (lw_at lw_m2 78 rfl) rfl
theorem q444 : (Jvm.Cond.fieldLink "CarryFair" (68 : Nat) "CarryFair" "aside" "LCarryFair$World;") ∈ lw_all := lw_g (lw_at lw_m2 79 rfl) rfl
theorem q445 : (Jvm.Cond.fieldLink "CarryFair" (472 : Nat) "CarryFair" "isKept" "Z") ∈ lw_all := lw_g (lw_at lw_m2 80 rfl) rfl
theorem q446 : (Jvm.Cond.fieldLink "CarryFair" (73 : Nat) "CarryFair" "carriers" "[LCarryFair$Slot;") ∈ lw_all := lw_g (lw_at lw_m2 81 rfl) rfl
theorem q447 : (Jvm.Cond.fieldLink "CarryFair" (77 : Nat) "CarryFair" "spots" "[LCarryFair$Slot;") ∈ lw_all := lw_g (lw_at lw_m2 82 rfl) rfl
theorem q448 : (Jvm.Cond.fieldLink "CarryFair" (80 : Nat) "CarryFair" "sheets" "[LCarryFair$Slot;") ∈ lw_all := lw_g (lw_at lw_m2 83 rfl) rfl
theorem q449 : (Jvm.Cond.fieldLink "CarryFair" (83 : Nat) "CarryFair" "findings" "[I") ∈ lw_all := lw_g (lw_at lw_m2 84 rfl) rfl
theorem q450 : (Jvm.Cond.fieldLink "CarryFair" (89 : Nat) "CarryFair" "plain" "[[I") ∈ lw_all := lw_g (lw_at lw_m2 85 rfl) rfl
theorem q451 : (Jvm.Cond.fieldLink "CarryFair" (92 : Nat) "CarryFair" "fars" "[[I") ∈ lw_all := lw_g (lw_at lw_m2 86 rfl) rfl
theorem q452 : (Jvm.Cond.fieldLink "CarryFair" (95 : Nat) "CarryFair" "members" "[I") ∈ lw_all := lw_g (lw_at lw_m2 87 rfl) rfl
theorem q453 : (Jvm.Cond.fieldLink "CarryFair" (279 : Nat) "CarryFair" "many" "I") ∈ lw_all := lw_g (lw_at lw_m2 88 rfl) rfl
theorem q454 : (Jvm.Cond.fieldLink "CarryFair" (98 : Nat) "CarryFair" "power" "[I") ∈ lw_all := lw_g (lw_at lw_m2 89 rfl) rfl
theorem q455 : (Jvm.Cond.fieldLink "CarryFair" (101 : Nat) "CarryFair" "least" "[[I") ∈ lw_all := lw_g (lw_at lw_m2 90 rfl) rfl
theorem q456 : (Jvm.Cond.fieldLink "CarryFair" (318 : Nat) "CarryFair" "bestSet" "I") ∈ lw_all := lw_g (lw_at lw_m2 91 rfl) rfl
theorem q457 : (Jvm.Cond.fieldLink "CarryFair" (333 : Nat) "CarryFair" "bestPart" "I") ∈ lw_all := lw_g (lw_at lw_m2 92 rfl) rfl
theorem q458 : (Jvm.Cond.fieldLink "CarryFair" (346 : Nat) "CarryFair" "bestBridge" "I") ∈ lw_all := lw_g (lw_at lw_m2 93 rfl) rfl
theorem q459 : (Jvm.Cond.laysFinal "CarryFair" "CarryFair" "refusal" "LCarryFair$Refusal;") ∈ lw_all := lw_g (lw_at lw_m2 94 rfl) rfl
theorem q460 : (Jvm.Cond.soleField "CarryFair" "refusal") ∈ lw_all := lw_g (lw_at lw_m2 95 rfl) rfl
theorem q461 : (Jvm.Cond.laysFinal "CarryFair" "CarryFair" "reader" "LCarryFair$Reader;") ∈ lw_all := lw_g (lw_at lw_m2 96 rfl) rfl
theorem q462 : (Jvm.Cond.soleField "CarryFair" "reader") ∈ lw_all := lw_g (lw_at lw_m2 97 rfl) rfl
theorem q463 : (Jvm.Cond.lays "CarryFair" "CarryFair" "taped" "I") ∈ lw_all := lw_g (lw_at lw_m2 98 rfl) rfl
theorem q464 : (Jvm.Cond.soleField "CarryFair" "taped") ∈ lw_all := lw_g (lw_at lw_m2 99 rfl) rfl
theorem q465 : (Jvm.Cond.laysFinal "CarryFair" "CarryFair" "d" "LCarryFair$World;") ∈ lw_all := lw_g (lw_at lw_m2 100 rfl) rfl
theorem q466 : (Jvm.Cond.soleField "CarryFair" "d") ∈ lw_all := lw_g (lw_at lw_m2 101 rfl) rfl
theorem q467 : (Jvm.Cond.laysFinal "CarryFair" "CarryFair" "kept" "LCarryFair$World;") ∈ lw_all := lw_g (lw_at lw_m2 102 rfl) rfl
theorem q468 : (Jvm.Cond.soleField "CarryFair" "kept") ∈ lw_all := lw_g (lw_at lw_m2 103 rfl) rfl
theorem q469 : (Jvm.Cond.laysFinal "CarryFair" "CarryFair" "aside" "LCarryFair$World;") ∈ lw_all := lw_g (lw_at lw_m2 104 rfl) rfl
theorem q470 : (Jvm.Cond.soleField "CarryFair" "aside") ∈ lw_all := lw_g (lw_at lw_m2 105 rfl) rfl
theorem q471 : (Jvm.Cond.lays "CarryFair" "CarryFair" "isKept" "Z") ∈ lw_all := lw_g (lw_at lw_m2 106 rfl) rfl
theorem q472 : (Jvm.Cond.soleField "CarryFair" "isKept") ∈ lw_all := lw_g (lw_at lw_m2 107 rfl) rfl
theorem q473 : (Jvm.Cond.laysFinal "CarryFair" "CarryFair" "carriers" "[LCarryFair$Slot;") ∈ lw_all := lw_g (lw_at lw_m2 108 rfl) rfl
theorem q474 : (Jvm.Cond.soleField "CarryFair" "carriers") ∈ lw_all := lw_g (lw_at lw_m2 109 rfl) rfl
theorem q475 : (Jvm.Cond.laysFinal "CarryFair" "CarryFair" "spots" "[LCarryFair$Slot;") ∈ lw_all := lw_g (lw_at lw_m2 110 rfl) rfl
theorem q476 : (Jvm.Cond.soleField "CarryFair" "spots") ∈ lw_all := lw_g (lw_at lw_m2 111 rfl) rfl
theorem q477 : (Jvm.Cond.laysFinal "CarryFair" "CarryFair" "sheets" "[LCarryFair$Slot;") ∈ lw_all := lw_g (lw_at lw_m2 112 rfl) rfl
theorem q478 : (Jvm.Cond.soleField "CarryFair" "sheets") ∈ lw_all := lw_g (lw_at lw_m2 113 rfl) rfl
theorem q479 : (Jvm.Cond.laysFinal "CarryFair" "CarryFair" "findings" "[I") ∈ lw_all := lw_g (lw_at lw_m2 114 rfl) rfl
theorem q480 : (Jvm.Cond.soleField "CarryFair" "findings") ∈ lw_all := lw_g (lw_at lw_m2 115 rfl) rfl
theorem q481 : (Jvm.Cond.laysFinal "CarryFair" "CarryFair" "plain" "[[I") ∈ lw_all := lw_g (lw_at lw_m2 116 rfl) rfl
theorem q482 : (Jvm.Cond.soleField "CarryFair" "plain") ∈ lw_all := lw_g (lw_at lw_m2 117 rfl) rfl
theorem q483 : (Jvm.Cond.laysFinal "CarryFair" "CarryFair" "fars" "[[I") ∈ lw_all := lw_g (lw_at lw_m2 118 rfl) rfl
theorem q484 : (Jvm.Cond.soleField "CarryFair" "fars") ∈ lw_all := lw_g (lw_at lw_m2 119 rfl) rfl
theorem q485 : (Jvm.Cond.laysFinal "CarryFair" "CarryFair" "members" "[I") ∈ lw_all := lw_g (lw_at lw_m2 120 rfl) rfl
theorem q486 : (Jvm.Cond.soleField "CarryFair" "members") ∈ lw_all := lw_g (lw_at lw_m2 121 rfl) rfl
theorem q487 : (Jvm.Cond.lays "CarryFair" "CarryFair" "many" "I") ∈ lw_all := lw_g (lw_at lw_m2 122 rfl) rfl
theorem q488 : (Jvm.Cond.soleField "CarryFair" "many") ∈ lw_all := lw_g (lw_at lw_m2 123 rfl) rfl
theorem q489 : (Jvm.Cond.laysFinal "CarryFair" "CarryFair" "power" "[I") ∈ lw_all := lw_g (lw_at lw_m2 124 rfl) rfl
theorem q490 : (Jvm.Cond.soleField "CarryFair" "power") ∈ lw_all := lw_g (lw_at lw_m2 125 rfl) rfl
theorem q491 : (Jvm.Cond.laysFinal "CarryFair" "CarryFair" "least" "[[I") ∈ lw_all := lw_g (lw_at lw_m2 126 rfl) rfl
theorem q492 : (Jvm.Cond.soleField "CarryFair" "least") ∈ lw_all := lw_g (lw_at lw_m2 127 rfl) rfl
theorem q493 : (Jvm.Cond.lays "CarryFair" "CarryFair" "bestSet" "I") ∈ lw_all := lw_g (lw_at lw_m2 128 rfl) rfl
theorem q494 : (Jvm.Cond.soleField "CarryFair" "bestSet") ∈ lw_all := lw_g (lw_at lw_m2 129 rfl) rfl
theorem q495 : (Jvm.Cond.lays "CarryFair" "CarryFair" "bestPart" "I") ∈ lw_all := lw_g (lw_at lw_m2 130 rfl) rfl
theorem q496 : (Jvm.Cond.soleField "CarryFair" "bestPart") ∈ lw_all := lw_g (lw_at lw_m2 131 rfl) rfl
theorem q497 : (Jvm.Cond.lays "CarryFair" "CarryFair" "bestBridge" "I") ∈ lw_all := lw_g (lw_at lw_m2 132 rfl) rfl
theorem q498 : (Jvm.Cond.soleField "CarryFair" "bestBridge") ∈ lw_all := lw_g (lw_at lw_m2 133 rfl) rfl
theorem q499 : (Jvm.Cond.superclass "CarryFair" "java/lang/Object") ∈ lw_all := lw_g (lw_at lw_m2 134 rfl) rfl
theorem q501 : (Jvm.Cond.instanceMethod ({ cls := "CarryFair", name := "carrier", desc := "(I)I" } : Jvm.MethodName)) ∈ lw_all := lw_g (lw_at lw_m2 136 rfl) rfl
theorem q502 : (Jvm.Cond.selects "CarryFair" ({ cls := "CarryFair", name := "carrier", desc := "(I)I" } : Jvm.MethodName) ({ cls := "CarryFair", name := "carrier", desc := "(I)I" } : Jvm.MethodName)) ∈ lw_all := lw_g (lw_at lw_m2 137 rfl) rfl
theorem q503 : (Jvm.Cond.code ({ cls := "CarryFair", name := "carrier", desc := "(I)I" } : Jvm.MethodName) prog_1_method_22_code (2 : Nat) (Option.some Jvm.ClassFile.FieldType.int)) ∈ lw_all := lw_g (lw_at lw_m2 138 rfl) rfl
theorem q504 : (Jvm.Cond.methodLink "CarryFair" (11 : Nat) ({ cls := "CarryFair", name := "isKind", desc := "(I)Z" } : Jvm.MethodName)) ∈ lw_all := lw_g (lw_at lw_m2 139 rfl) rfl
theorem q505 : (Jvm.Cond.static ({ cls := "CarryFair", name := "isKind", desc := "(I)Z" } : Jvm.MethodName)) ∈ lw_all := lw_g (lw_at lw_m2 140 rfl) rfl
theorem q506 : (Jvm.Cond.code ({ cls := "CarryFair", name := "isKind", desc := "(I)Z" } : Jvm.MethodName) prog_1_method_5_code (1 : Nat) (Option.some Jvm.ClassFile.FieldType.boolean)) ∈ lw_all := lw_g (lw_at lw_m2 141 rfl) rfl
theorem q507 : (Jvm.Cond.methodLink "CarryFair" (3 : Nat) ({ cls := "CarryFair", name := "in", desc := "(III)Z" } : Jvm.MethodName)) ∈ lw_all := lw_g (lw_at lw_m2 142 rfl) rfl
theorem q508 : (Jvm.Cond.static ({ cls := "CarryFair", name := "in", desc := "(III)Z" } : Jvm.MethodName)) ∈ lw_all := lw_g (lw_at lw_m2 143 rfl) rfl
theorem q509 : (Jvm.Cond.code ({ cls := "CarryFair", name := "in", desc := "(III)Z" } : Jvm.MethodName) prog_1_method_1_code (3 : Nat) (Option.some Jvm.ClassFile.FieldType.boolean)) ∈ lw_all := lw_g (lw_at lw_m2 144 rfl) rfl
theorem q510 : (Jvm.Cond.methodLink "CarryFair" (142 : Nat) ({ cls := "CarryFair", name := "finding", desc := "(I)I" } : Jvm.MethodName)) ∈ lw_all := lw_g (lw_at lw_m2 145 rfl) rfl
theorem q511 : (Jvm.Cond.privateMethod ({ cls := "CarryFair", name := "finding", desc := "(I)I" } : Jvm.MethodName)) ∈ lw_tbl := lw_at lw_m2 146 rfl
theorem q512 : (Jvm.Cond.instanceMethod ({ cls := "CarryFair", name := "finding", desc := "(I)I" } : Jvm.MethodName)) ∈ lw_all := lw_g (lw_at lw_m2 147 rfl) rfl
theorem q513 : (Jvm.Cond.code ({ cls := "CarryFair", name := "finding", desc := "(I)I" } : Jvm.MethodName) prog_1_method_13_code (2 : Nat) (Option.some Jvm.ClassFile.FieldType.int)) ∈ lw_all := lw_g (lw_at lw_m2 148 rfl) rfl
theorem q514 : (Jvm.Cond.constant "CarryFair" (116 : Nat) (-1000001 : Int32)) ∈ lw_all := lw_g (lw_at lw_m2 149 rfl) rfl
theorem q515 : (Jvm.Cond.methodLink "CarryFair" (144 : Nat) ({ cls := "CarryFair$World", name := "addCarrier", desc := "(III)V" } : Jvm.MethodName)) ∈ lw_all := lw_g (lw_at lw_m2 150 rfl) rfl
theorem q520 : (Jvm.Cond.instanceMethod ({ cls := "CarryFair", name := "of", desc := "(II)I" } : Jvm.MethodName)) ∈ lw_all := lw_g (lw_at lw_m2 155 rfl) rfl
theorem q521 : (Jvm.Cond.selects "CarryFair" ({ cls := "CarryFair", name := "of", desc := "(II)I" } : Jvm.MethodName) ({ cls := "CarryFair", name := "of", desc := "(II)I" } : Jvm.MethodName)) ∈ lw_all := lw_g (lw_at lw_m2 156 rfl) rfl
theorem q522 : (Jvm.Cond.code ({ cls := "CarryFair", name := "of", desc := "(II)I" } : Jvm.MethodName) prog_1_method_25_code (3 : Nat) (Option.some Jvm.ClassFile.FieldType.int)) ∈ lw_all := lw_g (lw_at lw_m2 157 rfl) rfl
theorem q523 : (Jvm.Cond.methodLink "CarryFair" (161 : Nat) ({ cls := "CarryFair", name := "isCarrier", desc := "(I)Z" } : Jvm.MethodName)) ∈ lw_all := lw_g (lw_at lw_m2 158 rfl) rfl
theorem q524 : (Jvm.Cond.privateMethod ({ cls := "CarryFair", name := "isCarrier", desc := "(I)Z" } : Jvm.MethodName)) ∈ lw_tbl := lw_at lw_m2 159 rfl
theorem q525 : (Jvm.Cond.instanceMethod ({ cls := "CarryFair", name := "isCarrier", desc := "(I)Z" } : Jvm.MethodName)) ∈ lw_all := lw_g (lw_at lw_m2 160 rfl) rfl
theorem q526 : (Jvm.Cond.code ({ cls := "CarryFair", name := "isCarrier", desc := "(I)Z" } : Jvm.MethodName) prog_1_method_16_code (2 : Nat) (Option.some Jvm.ClassFile.FieldType.boolean)) ∈ lw_all := lw_g (lw_at lw_m2 161 rfl) rfl
theorem q527 : (Jvm.Cond.methodLink "CarryFair" (148 : Nat) ({ cls := "CarryFair", name := "carrierAt", desc := "(I)LCarryFair$Carrier;" } : Jvm.MethodName)) ∈ lw_all := lw_g (lw_at lw_m2 162 rfl) rfl
theorem q528 : (Jvm.Cond.privateMethod ({ cls := "CarryFair", name := "carrierAt", desc := "(I)LCarryFair$Carrier;" } : Jvm.MethodName)) ∈ lw_tbl := lw_at lw_m2 163 rfl
theorem q529 : (Jvm.Cond.instanceMethod ({ cls := "CarryFair", name := "carrierAt", desc := "(I)LCarryFair$Carrier;" } : Jvm.MethodName)) ∈ lw_all := lw_g (lw_at lw_m2 164 rfl) rfl
theorem q530 : (Jvm.Cond.code ({ cls := "CarryFair", name := "carrierAt", desc := "(I)LCarryFair$Carrier;" } : Jvm.MethodName) prog_1_method_12_code (2 : Nat) (Option.some (Jvm.ClassFile.FieldType.object "CarryFair$Carrier"))) ∈ lw_all := lw_g (lw_at lw_m2 165 rfl) rfl
theorem q531 : (Jvm.Cond.methodLink "CarryFair" (164 : Nat) ({ cls := "CarryFair$Carrier", name := "kind", desc := "()I" } : Jvm.MethodName)) ∈ lw_all := lw_g (lw_at lw_m2 166 rfl) rfl
theorem q560 : (Jvm.Cond.methodLink "CarryFair" (167 : Nat) ({ cls := "CarryFair", name := "bearsOf", desc := "(I)I" } : Jvm.MethodName)) ∈ lw_all := lw_g (lw_at lw_m2 195 rfl) rfl
theorem q561 : (Jvm.Cond.privateMethod ({ cls := "CarryFair", name := "bearsOf", desc := "(I)I" } : Jvm.MethodName)) ∈ lw_tbl := lw_at lw_m2 196 rfl
theorem q562 : (Jvm.Cond.instanceMethod ({ cls := "CarryFair", name := "bearsOf", desc := "(I)I" } : Jvm.MethodName)) ∈ lw_all := lw_g (lw_at lw_m2 197 rfl) rfl
theorem q563 : (Jvm.Cond.code ({ cls := "CarryFair", name := "bearsOf", desc := "(I)I" } : Jvm.MethodName) prog_1_method_23_code (3 : Nat) (Option.some Jvm.ClassFile.FieldType.int)) ∈ lw_all := lw_g (lw_at lw_m2 198 rfl) rfl
theorem q564 : (Jvm.Cond.interfaceEntry "CarryFair" (152 : Nat)) ∈ lw_tbl := lw_at lw_m2 199 rfl
theorem q565 : (Jvm.Cond.methodLink "CarryFair" (152 : Nat) ({ cls := "CarryFair$Carries", name := "bears", desc := "()I" } : Jvm.MethodName)) ∈ lw_all := lw_g (lw_at lw_m2 200 rfl) rfl
theorem q606 : (Jvm.Cond.methodLink "CarryFair" (170 : Nat) ({ cls := "CarryFair$World", name := "carriedBy", desc := "(I)I" } : Jvm.MethodName)) ∈ lw_all := lw_g (lw_at lw_m3 1 rfl) rfl
theorem q610 : (Jvm.Cond.methodLink "CarryFair" (173 : Nat) ({ cls := "CarryFair$World", name := "weight", desc := "(I)I" } : Jvm.MethodName)) ∈ lw_all := lw_g (lw_at lw_m3 5 rfl) rfl
theorem q615 : (Jvm.Cond.static ({ cls := "CarryFair", name := "has", desc := "(II)Z" } : Jvm.MethodName)) ∈ lw_all := lw_g (lw_at lw_m3 10 rfl) rfl
theorem q616 : (Jvm.Cond.code ({ cls := "CarryFair", name := "has", desc := "(II)Z" } : Jvm.MethodName) prog_1_method_2_code (2 : Nat) (Option.some Jvm.ClassFile.FieldType.boolean)) ∈ lw_all := lw_g (lw_at lw_m3 11 rfl) rfl
theorem q618 : (Jvm.Cond.instanceMethod ({ cls := "CarryFair", name := "change", desc := "(III)I" } : Jvm.MethodName)) ∈ lw_all := lw_g (lw_at lw_m3 13 rfl) rfl
theorem q619 : (Jvm.Cond.selects "CarryFair" ({ cls := "CarryFair", name := "change", desc := "(III)I" } : Jvm.MethodName) ({ cls := "CarryFair", name := "change", desc := "(III)I" } : Jvm.MethodName)) ∈ lw_all := lw_g (lw_at lw_m3 14 rfl) rfl
theorem q620 : (Jvm.Cond.code ({ cls := "CarryFair", name := "change", desc := "(III)I" } : Jvm.MethodName) prog_1_method_26_code (5 : Nat) (Option.some Jvm.ClassFile.FieldType.int)) ∈ lw_all := lw_g (lw_at lw_m3 15 rfl) rfl
theorem q621 : (Jvm.Cond.methodLink "CarryFair" (176 : Nat) ({ cls := "CarryFair", name := "isTold", desc := "(II)Z" } : Jvm.MethodName)) ∈ lw_all := lw_g (lw_at lw_m3 16 rfl) rfl
theorem q622 : (Jvm.Cond.static ({ cls := "CarryFair", name := "isTold", desc := "(II)Z" } : Jvm.MethodName)) ∈ lw_all := lw_g (lw_at lw_m3 17 rfl) rfl
theorem q623 : (Jvm.Cond.code ({ cls := "CarryFair", name := "isTold", desc := "(II)Z" } : Jvm.MethodName) prog_1_method_9_code (2 : Nat) (Option.some Jvm.ClassFile.FieldType.boolean)) ∈ lw_all := lw_g (lw_at lw_m3 18 rfl) rfl
theorem q624 : (Jvm.Cond.methodLink "CarryFair" (7 : Nat) ({ cls := "CarryFair", name := "isPlace", desc := "(I)Z" } : Jvm.MethodName)) ∈ lw_all := lw_g (lw_at lw_m3 19 rfl) rfl
theorem q625 : (Jvm.Cond.static ({ cls := "CarryFair", name := "isPlace", desc := "(I)Z" } : Jvm.MethodName)) ∈ lw_all := lw_g (lw_at lw_m3 20 rfl) rfl
theorem q626 : (Jvm.Cond.code ({ cls := "CarryFair", name := "isPlace", desc := "(I)Z" } : Jvm.MethodName) prog_1_method_6_code (1 : Nat) (Option.some Jvm.ClassFile.FieldType.boolean)) ∈ lw_all := lw_g (lw_at lw_m3 21 rfl) rfl
theorem q627 : (Jvm.Cond.constant "CarryFair" (14 : Nat) (999999 : Int32)) ∈ lw_all := lw_g (lw_at lw_m3 22 rfl) rfl
theorem q629 : (Jvm.Cond.instanceMethod ({ cls := "CarryFair", name := "way", desc := "(IIII)I" } : Jvm.MethodName)) ∈ lw_all := lw_g (lw_at lw_m3 24 rfl) rfl
theorem q630 : (Jvm.Cond.selects "CarryFair" ({ cls := "CarryFair", name := "way", desc := "(IIII)I" } : Jvm.MethodName) ({ cls := "CarryFair", name := "way", desc := "(IIII)I" } : Jvm.MethodName)) ∈ lw_all := lw_g (lw_at lw_m3 25 rfl) rfl
theorem q631 : (Jvm.Cond.code ({ cls := "CarryFair", name := "way", desc := "(IIII)I" } : Jvm.MethodName) prog_1_method_27_code (6 : Nat) (Option.some Jvm.ClassFile.FieldType.int)) ∈ lw_all := lw_g (lw_at lw_m3 26 rfl) rfl
theorem q632 : (Jvm.Cond.methodLink "CarryFair" (180 : Nat) ({ cls := "CarryFair", name := "arePlaces", desc := "(II)Z" } : Jvm.MethodName)) ∈ lw_all := lw_g (lw_at lw_m3 27 rfl) rfl
theorem q633 : (Jvm.Cond.static ({ cls := "CarryFair", name := "arePlaces", desc := "(II)Z" } : Jvm.MethodName)) ∈ lw_all := lw_g (lw_at lw_m3 28 rfl) rfl
theorem q634 : (Jvm.Cond.code ({ cls := "CarryFair", name := "arePlaces", desc := "(II)Z" } : Jvm.MethodName) prog_1_method_7_code (2 : Nat) (Option.some Jvm.ClassFile.FieldType.boolean)) ∈ lw_all := lw_g (lw_at lw_m3 29 rfl) rfl
theorem q635 : (Jvm.Cond.methodLink "CarryFair" (186 : Nat) ({ cls := "CarryFair$World", name := "lays", desc := "(IIII)V" } : Jvm.MethodName)) ∈ lw_all := lw_g (lw_at lw_m3 30 rfl) rfl
theorem q640 : (Jvm.Cond.instanceMethod ({ cls := "CarryFair", name := "wayOf", desc := "(III)I" } : Jvm.MethodName)) ∈ lw_all := lw_g (lw_at lw_m3 35 rfl) rfl
theorem q641 : (Jvm.Cond.selects "CarryFair" ({ cls := "CarryFair", name := "wayOf", desc := "(III)I" } : Jvm.MethodName) ({ cls := "CarryFair", name := "wayOf", desc := "(III)I" } : Jvm.MethodName)) ∈ lw_all := lw_g (lw_at lw_m3 36 rfl) rfl
theorem q642 : (Jvm.Cond.code ({ cls := "CarryFair", name := "wayOf", desc := "(III)I" } : Jvm.MethodName) prog_1_method_28_code (4 : Nat) (Option.some Jvm.ClassFile.FieldType.int)) ∈ lw_all := lw_g (lw_at lw_m3 37 rfl) rfl
theorem q644 : (Jvm.Cond.instanceMethod ({ cls := "CarryFair", name := "errand", desc := "(III)I" } : Jvm.MethodName)) ∈ lw_all := lw_g (lw_at lw_m3 39 rfl) rfl
theorem q645 : (Jvm.Cond.selects "CarryFair" ({ cls := "CarryFair", name := "errand", desc := "(III)I" } : Jvm.MethodName) ({ cls := "CarryFair", name := "errand", desc := "(III)I" } : Jvm.MethodName)) ∈ lw_all := lw_g (lw_at lw_m3 40 rfl) rfl
theorem q646 : (Jvm.Cond.code ({ cls := "CarryFair", name := "errand", desc := "(III)I" } : Jvm.MethodName) prog_1_method_29_code (4 : Nat) (Option.some Jvm.ClassFile.FieldType.int)) ∈ lw_all := lw_g (lw_at lw_m3 41 rfl) rfl
theorem q647 : (Jvm.Cond.methodLink "CarryFair" (193 : Nat) ({ cls := "CarryFair$World", name := "addErrand", desc := "(III)V" } : Jvm.MethodName)) ∈ lw_all := lw_g (lw_at lw_m3 42 rfl) rfl
theorem q652 : (Jvm.Cond.instanceMethod ({ cls := "CarryFair", name := "errandOf", desc := "(II)I" } : Jvm.MethodName)) ∈ lw_all := lw_g (lw_at lw_m3 47 rfl) rfl
theorem q653 : (Jvm.Cond.selects "CarryFair" ({ cls := "CarryFair", name := "errandOf", desc := "(II)I" } : Jvm.MethodName) ({ cls := "CarryFair", name := "errandOf", desc := "(II)I" } : Jvm.MethodName)) ∈ lw_all := lw_g (lw_at lw_m3 48 rfl) rfl
theorem q654 : (Jvm.Cond.code ({ cls := "CarryFair", name := "errandOf", desc := "(II)I" } : Jvm.MethodName) prog_1_method_34_code (3 : Nat) (Option.some Jvm.ClassFile.FieldType.int)) ∈ lw_all := lw_g (lw_at lw_m3 49 rfl) rfl
theorem q655 : (Jvm.Cond.methodLink "CarryFair" (217 : Nat) ({ cls := "CarryFair", name := "isErrand", desc := "(I)Z" } : Jvm.MethodName)) ∈ lw_all := lw_g (lw_at lw_m3 50 rfl) rfl
theorem q656 : (Jvm.Cond.privateMethod ({ cls := "CarryFair", name := "isErrand", desc := "(I)Z" } : Jvm.MethodName)) ∈ lw_tbl := lw_at lw_m3 51 rfl
theorem q657 : (Jvm.Cond.instanceMethod ({ cls := "CarryFair", name := "isErrand", desc := "(I)Z" } : Jvm.MethodName)) ∈ lw_all := lw_g (lw_at lw_m3 52 rfl) rfl
theorem q658 : (Jvm.Cond.code ({ cls := "CarryFair", name := "isErrand", desc := "(I)Z" } : Jvm.MethodName) prog_1_method_17_code (2 : Nat) (Option.some Jvm.ClassFile.FieldType.boolean)) ∈ lw_all := lw_g (lw_at lw_m3 53 rfl) rfl
theorem q659 : (Jvm.Cond.methodLink "CarryFair" (220 : Nat) ({ cls := "CarryFair", name := "worthOf", desc := "(I)I" } : Jvm.MethodName)) ∈ lw_all := lw_g (lw_at lw_m3 54 rfl) rfl
theorem q660 : (Jvm.Cond.privateMethod ({ cls := "CarryFair", name := "worthOf", desc := "(I)I" } : Jvm.MethodName)) ∈ lw_tbl := lw_at lw_m3 55 rfl
theorem q661 : (Jvm.Cond.instanceMethod ({ cls := "CarryFair", name := "worthOf", desc := "(I)I" } : Jvm.MethodName)) ∈ lw_all := lw_g (lw_at lw_m3 56 rfl) rfl
theorem q662 : (Jvm.Cond.code ({ cls := "CarryFair", name := "worthOf", desc := "(I)I" } : Jvm.MethodName) prog_1_method_33_code (3 : Nat) (Option.some Jvm.ClassFile.FieldType.int)) ∈ lw_all := lw_g (lw_at lw_m3 57 rfl) rfl
theorem q663 : (Jvm.Cond.methodLink "CarryFair" (211 : Nat) ({ cls := "CarryFair", name := "tells", desc := "(LCarryFair$Carries;[[I)V" } : Jvm.MethodName)) ∈ lw_all := lw_g (lw_at lw_m3 58 rfl) rfl
theorem q664 : (Jvm.Cond.privateMethod ({ cls := "CarryFair", name := "tells", desc := "(LCarryFair$Carries;[[I)V" } : Jvm.MethodName)) ∈ lw_tbl := lw_at lw_m3 59 rfl
theorem q665 : (Jvm.Cond.instanceMethod ({ cls := "CarryFair", name := "tells", desc := "(LCarryFair$Carries;[[I)V" } : Jvm.MethodName)) ∈ lw_all := lw_g (lw_at lw_m3 60 rfl) rfl
theorem q666 : (Jvm.Cond.code ({ cls := "CarryFair", name := "tells", desc := "(LCarryFair$Carries;[[I)V" } : Jvm.MethodName) prog_1_method_31_code (6 : Nat) (Option.none : Option Jvm.ClassFile.FieldType)) ∈ lw_all := lw_g (lw_at lw_m3 61 rfl) rfl
theorem q667 : (Jvm.Cond.methodLink "CarryFair" (201 : Nat) ({ cls := "CarryFair", name := "begins", desc := "(LCarryFair$Carries;[[I)V" } : Jvm.MethodName)) ∈ lw_all := lw_g (lw_at lw_m3 62 rfl) rfl
theorem q668 : (Jvm.Cond.privateMethod ({ cls := "CarryFair", name := "begins", desc := "(LCarryFair$Carries;[[I)V" } : Jvm.MethodName)) ∈ lw_tbl := lw_at lw_m3 63 rfl
theorem q669 : (Jvm.Cond.instanceMethod ({ cls := "CarryFair", name := "begins", desc := "(LCarryFair$Carries;[[I)V" } : Jvm.MethodName)) ∈ lw_all := lw_g (lw_at lw_m3 64 rfl) rfl
theorem q670 : (Jvm.Cond.code ({ cls := "CarryFair", name := "begins", desc := "(LCarryFair$Carries;[[I)V" } : Jvm.MethodName) prog_1_method_30_code (6 : Nat) (Option.none : Option Jvm.ClassFile.FieldType)) ∈ lw_all := lw_g (lw_at lw_m3 65 rfl) rfl
theorem q671 : (Jvm.Cond.constant "CarryFair" (196 : Nat) (1000000 : Int32)) ∈ lw_all := lw_g (lw_at lw_m3 66 rfl) rfl
theorem q672 : (Jvm.Cond.interfaceEntry "CarryFair" (197 : Nat)) ∈ lw_tbl := lw_at lw_m3 67 rfl
theorem q673 : (Jvm.Cond.methodLink "CarryFair" (197 : Nat) ({ cls := "CarryFair$Carries", name := "counts", desc := "(IZ)I" } : Jvm.MethodName)) ∈ lw_all := lw_g (lw_at lw_m3 68 rfl) rfl
theorem q704 : (Jvm.Cond.methodLink "CarryFair" (205 : Nat) ({ cls := "java/lang/Math", name := "min", desc := "(II)I" } : Jvm.MethodName)) ∈ lw_all := lw_g (lw_at lw_m3 99 rfl) rfl
theorem q707 : (Jvm.Cond.methodLink "CarryFair" (223 : Nat) ({ cls := "CarryFair", name := "orNone", desc := "(I)I" } : Jvm.MethodName)) ∈ lw_all := lw_g (lw_at lw_m3 102 rfl) rfl
theorem q708 : (Jvm.Cond.privateMethod ({ cls := "CarryFair", name := "orNone", desc := "(I)I" } : Jvm.MethodName)) ∈ lw_tbl := lw_at lw_m3 103 rfl
theorem q709 : (Jvm.Cond.instanceMethod ({ cls := "CarryFair", name := "orNone", desc := "(I)I" } : Jvm.MethodName)) ∈ lw_all := lw_g (lw_at lw_m3 104 rfl) rfl
theorem q710 : (Jvm.Cond.code ({ cls := "CarryFair", name := "orNone", desc := "(I)I" } : Jvm.MethodName) prog_1_method_21_code (2 : Nat) (Option.some Jvm.ClassFile.FieldType.int)) ∈ lw_all := lw_g (lw_at lw_m3 105 rfl) rfl
theorem q712 : (Jvm.Cond.instanceMethod ({ cls := "CarryFair", name := "ware", desc := "(I)I" } : Jvm.MethodName)) ∈ lw_all := lw_g (lw_at lw_m3 107 rfl) rfl
theorem q713 : (Jvm.Cond.selects "CarryFair" ({ cls := "CarryFair", name := "ware", desc := "(I)I" } : Jvm.MethodName) ({ cls := "CarryFair", name := "ware", desc := "(I)I" } : Jvm.MethodName)) ∈ lw_all := lw_g (lw_at lw_m3 108 rfl) rfl
theorem q714 : (Jvm.Cond.code ({ cls := "CarryFair", name := "ware", desc := "(I)I" } : Jvm.MethodName) prog_1_method_35_code (2 : Nat) (Option.some Jvm.ClassFile.FieldType.int)) ∈ lw_all := lw_g (lw_at lw_m3 109 rfl) rfl
theorem q715 : (Jvm.Cond.methodLink "CarryFair" (226 : Nat) ({ cls := "CarryFair", name := "isPrice", desc := "(I)Z" } : Jvm.MethodName)) ∈ lw_all := lw_g (lw_at lw_m3 110 rfl) rfl
theorem q716 : (Jvm.Cond.static ({ cls := "CarryFair", name := "isPrice", desc := "(I)Z" } : Jvm.MethodName)) ∈ lw_all := lw_g (lw_at lw_m3 111 rfl) rfl
theorem q717 : (Jvm.Cond.code ({ cls := "CarryFair", name := "isPrice", desc := "(I)Z" } : Jvm.MethodName) prog_1_method_8_code (1 : Nat) (Option.some Jvm.ClassFile.FieldType.boolean)) ∈ lw_all := lw_g (lw_at lw_m3 112 rfl) rfl
theorem q718 : (Jvm.Cond.methodLink "CarryFair" (229 : Nat) ({ cls := "CarryFair$World", name := "addWare", desc := "(I)V" } : Jvm.MethodName)) ∈ lw_all := lw_g (lw_at lw_m3 113 rfl) rfl
theorem q723 : (Jvm.Cond.instanceMethod ({ cls := "CarryFair", name := "wareOf", desc := "(II)I" } : Jvm.MethodName)) ∈ lw_all := lw_g (lw_at lw_m3 118 rfl) rfl
theorem q724 : (Jvm.Cond.selects "CarryFair" ({ cls := "CarryFair", name := "wareOf", desc := "(II)I" } : Jvm.MethodName) ({ cls := "CarryFair", name := "wareOf", desc := "(II)I" } : Jvm.MethodName)) ∈ lw_all := lw_g (lw_at lw_m3 119 rfl) rfl
theorem q725 : (Jvm.Cond.code ({ cls := "CarryFair", name := "wareOf", desc := "(II)I" } : Jvm.MethodName) prog_1_method_36_code (3 : Nat) (Option.some Jvm.ClassFile.FieldType.int)) ∈ lw_all := lw_g (lw_at lw_m3 120 rfl) rfl
theorem q726 : (Jvm.Cond.methodLink "CarryFair" (233 : Nat) ({ cls := "CarryFair", name := "isWare", desc := "(I)Z" } : Jvm.MethodName)) ∈ lw_all := lw_g (lw_at lw_m3 121 rfl) rfl
theorem q727 : (Jvm.Cond.privateMethod ({ cls := "CarryFair", name := "isWare", desc := "(I)Z" } : Jvm.MethodName)) ∈ lw_tbl := lw_at lw_m3 122 rfl
theorem q728 : (Jvm.Cond.instanceMethod ({ cls := "CarryFair", name := "isWare", desc := "(I)Z" } : Jvm.MethodName)) ∈ lw_all := lw_g (lw_at lw_m3 123 rfl) rfl
theorem q729 : (Jvm.Cond.code ({ cls := "CarryFair", name := "isWare", desc := "(I)Z" } : Jvm.MethodName) prog_1_method_18_code (2 : Nat) (Option.some Jvm.ClassFile.FieldType.boolean)) ∈ lw_all := lw_g (lw_at lw_m3 124 rfl) rfl
theorem q731 : (Jvm.Cond.instanceMethod ({ cls := "CarryFair", name := "far", desc := "(III)I" } : Jvm.MethodName)) ∈ lw_all := lw_g (lw_at lw_m3 126 rfl) rfl
theorem q732 : (Jvm.Cond.selects "CarryFair" ({ cls := "CarryFair", name := "far", desc := "(III)I" } : Jvm.MethodName) ({ cls := "CarryFair", name := "far", desc := "(III)I" } : Jvm.MethodName)) ∈ lw_all := lw_g (lw_at lw_m3 127 rfl) rfl
theorem q733 : (Jvm.Cond.code ({ cls := "CarryFair", name := "far", desc := "(III)I" } : Jvm.MethodName) prog_1_method_38_code (4 : Nat) (Option.some Jvm.ClassFile.FieldType.int)) ∈ lw_all := lw_g (lw_at lw_m3 128 rfl) rfl
theorem q734 : (Jvm.Cond.methodLink "CarryFair" (242 : Nat) ({ cls := "CarryFair", name := "farOf", desc := "(III)I" } : Jvm.MethodName)) ∈ lw_all := lw_g (lw_at lw_m3 129 rfl) rfl
theorem q735 : (Jvm.Cond.privateMethod ({ cls := "CarryFair", name := "farOf", desc := "(III)I" } : Jvm.MethodName)) ∈ lw_tbl := lw_at lw_m3 130 rfl
theorem q736 : (Jvm.Cond.instanceMethod ({ cls := "CarryFair", name := "farOf", desc := "(III)I" } : Jvm.MethodName)) ∈ lw_all := lw_g (lw_at lw_m3 131 rfl) rfl
theorem q737 : (Jvm.Cond.code ({ cls := "CarryFair", name := "farOf", desc := "(III)I" } : Jvm.MethodName) prog_1_method_37_code (4 : Nat) (Option.some Jvm.ClassFile.FieldType.int)) ∈ lw_all := lw_g (lw_at lw_m3 132 rfl) rfl
theorem q738 : (Jvm.Cond.methodLink "CarryFair" (239 : Nat) ({ cls := "CarryFair", name := "tellsFor", desc := "(I)V" } : Jvm.MethodName)) ∈ lw_all := lw_g (lw_at lw_m3 133 rfl) rfl
theorem q739 : (Jvm.Cond.privateMethod ({ cls := "CarryFair", name := "tellsFor", desc := "(I)V" } : Jvm.MethodName)) ∈ lw_tbl := lw_at lw_m3 134 rfl
theorem q740 : (Jvm.Cond.instanceMethod ({ cls := "CarryFair", name := "tellsFor", desc := "(I)V" } : Jvm.MethodName)) ∈ lw_all := lw_g (lw_at lw_m3 135 rfl) rfl
theorem q741 : (Jvm.Cond.code ({ cls := "CarryFair", name := "tellsFor", desc := "(I)V" } : Jvm.MethodName) prog_1_method_32_code (2 : Nat) (Option.none : Option Jvm.ClassFile.FieldType)) ∈ lw_all := lw_g (lw_at lw_m3 136 rfl) rfl
theorem q743 : (Jvm.Cond.instanceMethod ({ cls := "CarryFair", name := "first", desc := "(II)I" } : Jvm.MethodName)) ∈ lw_all := lw_g (lw_at lw_m3 138 rfl) rfl
theorem q744 : (Jvm.Cond.selects "CarryFair" ({ cls := "CarryFair", name := "first", desc := "(II)I" } : Jvm.MethodName) ({ cls := "CarryFair", name := "first", desc := "(II)I" } : Jvm.MethodName)) ∈ lw_all := lw_g (lw_at lw_m3 139 rfl) rfl
theorem q745 : (Jvm.Cond.code ({ cls := "CarryFair", name := "first", desc := "(II)I" } : Jvm.MethodName) prog_1_method_40_code (4 : Nat) (Option.some Jvm.ClassFile.FieldType.int)) ∈ lw_all := lw_g (lw_at lw_m3 140 rfl) rfl
theorem q746 : (Jvm.Cond.methodLink "CarryFair" (246 : Nat) ({ cls := "CarryFair", name := "firstTo", desc := "(III)I" } : Jvm.MethodName)) ∈ lw_all := lw_g (lw_at lw_m3 141 rfl) rfl
theorem q747 : (Jvm.Cond.privateMethod ({ cls := "CarryFair", name := "firstTo", desc := "(III)I" } : Jvm.MethodName)) ∈ lw_tbl := lw_at lw_m3 142 rfl
theorem q748 : (Jvm.Cond.instanceMethod ({ cls := "CarryFair", name := "firstTo", desc := "(III)I" } : Jvm.MethodName)) ∈ lw_all := lw_g (lw_at lw_m3 143 rfl) rfl
theorem q749 : (Jvm.Cond.code ({ cls := "CarryFair", name := "firstTo", desc := "(III)I" } : Jvm.MethodName) prog_1_method_39_code (6 : Nat) (Option.some Jvm.ClassFile.FieldType.int)) ∈ lw_all := lw_g (lw_at lw_m3 144 rfl) rfl
theorem q751 : (Jvm.Cond.instanceMethod ({ cls := "CarryFair", name := "take", desc := "(II)I" } : Jvm.MethodName)) ∈ lw_all := lw_g (lw_at lw_m3 146 rfl) rfl
theorem q752 : (Jvm.Cond.selects "CarryFair" ({ cls := "CarryFair", name := "take", desc := "(II)I" } : Jvm.MethodName) ({ cls := "CarryFair", name := "take", desc := "(II)I" } : Jvm.MethodName)) ∈ lw_all := lw_g (lw_at lw_m3 147 rfl) rfl
theorem q753 : (Jvm.Cond.code ({ cls := "CarryFair", name := "take", desc := "(II)I" } : Jvm.MethodName) prog_1_method_42_code (3 : Nat) (Option.some Jvm.ClassFile.FieldType.int)) ∈ lw_all := lw_g (lw_at lw_m3 148 rfl) rfl
theorem q754 : (Jvm.Cond.methodLink "CarryFair" (249 : Nat) ({ cls := "CarryFair$World", name := "liesAt", desc := "(II)Z" } : Jvm.MethodName)) ∈ lw_all := lw_g (lw_at lw_m3 149 rfl) rfl
theorem q758 : (Jvm.Cond.methodLink "CarryFair" (252 : Nat) ({ cls := "CarryFair", name := "canTake", desc := "(II)Z" } : Jvm.MethodName)) ∈ lw_all := lw_g (lw_at lw_m3 153 rfl) rfl
theorem q759 : (Jvm.Cond.privateMethod ({ cls := "CarryFair", name := "canTake", desc := "(II)Z" } : Jvm.MethodName)) ∈ lw_tbl := lw_at lw_m3 154 rfl
theorem q760 : (Jvm.Cond.instanceMethod ({ cls := "CarryFair", name := "canTake", desc := "(II)Z" } : Jvm.MethodName)) ∈ lw_all := lw_g (lw_at lw_m3 155 rfl) rfl
theorem q761 : (Jvm.Cond.code ({ cls := "CarryFair", name := "canTake", desc := "(II)Z" } : Jvm.MethodName) prog_1_method_41_code (3 : Nat) (Option.some Jvm.ClassFile.FieldType.boolean)) ∈ lw_all := lw_g (lw_at lw_m3 156 rfl) rfl
theorem q762 : (Jvm.Cond.methodLink "CarryFair" (255 : Nat) ({ cls := "CarryFair$World", name := "puts", desc := "(III)V" } : Jvm.MethodName)) ∈ lw_all := lw_g (lw_at lw_m3 157 rfl) rfl
theorem q767 : (Jvm.Cond.instanceMethod ({ cls := "CarryFair", name := "drop", desc := "(II)I" } : Jvm.MethodName)) ∈ lw_all := lw_g (lw_at lw_m3 162 rfl) rfl
theorem q768 : (Jvm.Cond.selects "CarryFair" ({ cls := "CarryFair", name := "drop", desc := "(II)I" } : Jvm.MethodName) ({ cls := "CarryFair", name := "drop", desc := "(II)I" } : Jvm.MethodName)) ∈ lw_all := lw_g (lw_at lw_m3 163 rfl) rfl
theorem q769 : (Jvm.Cond.code ({ cls := "CarryFair", name := "drop", desc := "(II)I" } : Jvm.MethodName) prog_1_method_43_code (4 : Nat) (Option.some Jvm.ClassFile.FieldType.int)) ∈ lw_all := lw_g (lw_at lw_m3 164 rfl) rfl
theorem q770 : (Jvm.Cond.methodLink "CarryFair" (258 : Nat) ({ cls := "CarryFair", name := "has", desc := "(II)Z" } : Jvm.MethodName)) ∈ lw_all := lw_g (lw_at lw_m3 165 rfl) rfl
theorem q772 : (Jvm.Cond.instanceMethod ({ cls := "CarryFair", name := "walk", desc := "(II)I" } : Jvm.MethodName)) ∈ lw_all := lw_g (lw_at lw_m3 167 rfl) rfl
theorem q773 : (Jvm.Cond.selects "CarryFair" ({ cls := "CarryFair", name := "walk", desc := "(II)I" } : Jvm.MethodName) ({ cls := "CarryFair", name := "walk", desc := "(II)I" } : Jvm.MethodName)) ∈ lw_all := lw_g (lw_at lw_m3 168 rfl) rfl
theorem q774 : (Jvm.Cond.code ({ cls := "CarryFair", name := "walk", desc := "(II)I" } : Jvm.MethodName) prog_1_method_46_code (4 : Nat) (Option.some Jvm.ClassFile.FieldType.int)) ∈ lw_all := lw_g (lw_at lw_m3 169 rfl) rfl
theorem q775 : (Jvm.Cond.methodLink "CarryFair" (267 : Nat) ({ cls := "CarryFair", name := "walks", desc := "(III)I" } : Jvm.MethodName)) ∈ lw_all := lw_g (lw_at lw_m3 170 rfl) rfl
theorem q776 : (Jvm.Cond.privateMethod ({ cls := "CarryFair", name := "walks", desc := "(III)I" } : Jvm.MethodName)) ∈ lw_tbl := lw_at lw_m3 171 rfl
theorem q777 : (Jvm.Cond.instanceMethod ({ cls := "CarryFair", name := "walks", desc := "(III)I" } : Jvm.MethodName)) ∈ lw_all := lw_g (lw_at lw_m3 172 rfl) rfl
theorem q778 : (Jvm.Cond.code ({ cls := "CarryFair", name := "walks", desc := "(III)I" } : Jvm.MethodName) prog_1_method_45_code (4 : Nat) (Option.some Jvm.ClassFile.FieldType.int)) ∈ lw_all := lw_g (lw_at lw_m3 173 rfl) rfl
theorem q779 : (Jvm.Cond.methodLink "CarryFair" (264 : Nat) ({ cls := "CarryFair", name := "arrives", desc := "(II)I" } : Jvm.MethodName)) ∈ lw_all := lw_g (lw_at lw_m3 174 rfl) rfl
theorem q780 : (Jvm.Cond.privateMethod ({ cls := "CarryFair", name := "arrives", desc := "(II)I" } : Jvm.MethodName)) ∈ lw_tbl := lw_at lw_m3 175 rfl
theorem q781 : (Jvm.Cond.instanceMethod ({ cls := "CarryFair", name := "arrives", desc := "(II)I" } : Jvm.MethodName)) ∈ lw_all := lw_g (lw_at lw_m3 176 rfl) rfl
theorem q782 : (Jvm.Cond.code ({ cls := "CarryFair", name := "arrives", desc := "(II)I" } : Jvm.MethodName) prog_1_method_44_code (7 : Nat) (Option.some Jvm.ClassFile.FieldType.int)) ∈ lw_all := lw_g (lw_at lw_m3 177 rfl) rfl
theorem q783 : (Jvm.Cond.methodLink "CarryFair" (261 : Nat) ({ cls := "CarryFair", name := "getsOf", desc := "(II)I" } : Jvm.MethodName)) ∈ lw_all := lw_g (lw_at lw_m3 178 rfl) rfl
theorem q784 : (Jvm.Cond.privateMethod ({ cls := "CarryFair", name := "getsOf", desc := "(II)I" } : Jvm.MethodName)) ∈ lw_tbl := lw_at lw_m3 179 rfl
theorem q785 : (Jvm.Cond.instanceMethod ({ cls := "CarryFair", name := "getsOf", desc := "(II)I" } : Jvm.MethodName)) ∈ lw_all := lw_g (lw_at lw_m3 180 rfl) rfl
theorem q786 : (Jvm.Cond.code ({ cls := "CarryFair", name := "getsOf", desc := "(II)I" } : Jvm.MethodName) prog_1_method_24_code (4 : Nat) (Option.some Jvm.ClassFile.FieldType.int)) ∈ lw_all := lw_g (lw_at lw_m3 181 rfl) rfl
theorem q787 : (Jvm.Cond.interfaceEntry "CarryFair" (158 : Nat)) ∈ lw_tbl := lw_at lw_m3 182 rfl
theorem q788 : (Jvm.Cond.methodLink "CarryFair" (158 : Nat) ({ cls := "CarryFair$Carries", name := "gets", desc := "(I)I" } : Jvm.MethodName)) ∈ lw_all := lw_g (lw_at lw_m3 183 rfl) rfl
theorem q825 : (Jvm.Cond.instanceMethod ({ cls := "CarryFair", name := "buy", desc := "(II)I" } : Jvm.MethodName)) ∈ lw_all := lw_g (lw_at lw_m3 220 rfl) rfl
theorem q826 : (Jvm.Cond.selects "CarryFair" ({ cls := "CarryFair", name := "buy", desc := "(II)I" } : Jvm.MethodName) ({ cls := "CarryFair", name := "buy", desc := "(II)I" } : Jvm.MethodName)) ∈ lw_all := lw_g (lw_at lw_m3 221 rfl) rfl
theorem q827 : (Jvm.Cond.code ({ cls := "CarryFair", name := "buy", desc := "(II)I" } : Jvm.MethodName) prog_1_method_47_code (3 : Nat) (Option.some Jvm.ClassFile.FieldType.int)) ∈ lw_all := lw_g (lw_at lw_m3 222 rfl) rfl
theorem q829 : (Jvm.Cond.instanceMethod ({ cls := "CarryFair", name := "now", desc := "(I)I" } : Jvm.MethodName)) ∈ lw_all := lw_g (lw_at lw_m3 224 rfl) rfl
theorem q830 : (Jvm.Cond.selects "CarryFair" ({ cls := "CarryFair", name := "now", desc := "(I)I" } : Jvm.MethodName) ({ cls := "CarryFair", name := "now", desc := "(I)I" } : Jvm.MethodName)) ∈ lw_all := lw_g (lw_at lw_m3 225 rfl) rfl
theorem q831 : (Jvm.Cond.code ({ cls := "CarryFair", name := "now", desc := "(I)I" } : Jvm.MethodName) prog_1_method_48_code (2 : Nat) (Option.some Jvm.ClassFile.FieldType.int)) ∈ lw_all := lw_g (lw_at lw_m3 226 rfl) rfl
theorem q832 : (Jvm.Cond.methodLink "CarryFair" (270 : Nat) ({ cls := "CarryFair$World", name := "being", desc := "(I)I" } : Jvm.MethodName)) ∈ lw_all := lw_g (lw_at lw_m3 227 rfl) rfl
theorem q836 : (Jvm.Cond.methodLink "CarryFair" (273 : Nat) ({ cls := "CarryFair$World", name := "sold", desc := "()I" } : Jvm.MethodName)) ∈ lw_all := lw_g (lw_at lw_m3 231 rfl) rfl
theorem q840 : (Jvm.Cond.methodLink "CarryFair" (276 : Nat) ({ cls := "CarryFair$World", name := "sumOf", desc := "(I)I" } : Jvm.MethodName)) ∈ lw_all := lw_g (lw_at lw_m3 235 rfl) rfl
theorem q845 : (Jvm.Cond.instanceMethod ({ cls := "CarryFair", name := "round", desc := "(II)I" } : Jvm.MethodName)) ∈ lw_all := lw_g (lw_at lw_m4 0 rfl) rfl
theorem q846 : (Jvm.Cond.selects "CarryFair" ({ cls := "CarryFair", name := "round", desc := "(II)I" } : Jvm.MethodName) ({ cls := "CarryFair", name := "round", desc := "(II)I" } : Jvm.MethodName)) ∈ lw_all := lw_g (lw_at lw_m4 1 rfl) rfl
theorem q847 : (Jvm.Cond.code ({ cls := "CarryFair", name := "round", desc := "(II)I" } : Jvm.MethodName) prog_1_method_59_code (4 : Nat) (Option.some Jvm.ClassFile.FieldType.int)) ∈ lw_all := lw_g (lw_at lw_m4 2 rfl) rfl
theorem q848 : (Jvm.Cond.methodLink "CarryFair" (309 : Nat) ({ cls := "CarryFair", name := "whyNot", desc := "(II)I" } : Jvm.MethodName)) ∈ lw_all := lw_g (lw_at lw_m4 3 rfl) rfl
theorem q849 : (Jvm.Cond.privateMethod ({ cls := "CarryFair", name := "whyNot", desc := "(II)I" } : Jvm.MethodName)) ∈ lw_tbl := lw_at lw_m4 4 rfl
theorem q850 : (Jvm.Cond.instanceMethod ({ cls := "CarryFair", name := "whyNot", desc := "(II)I" } : Jvm.MethodName)) ∈ lw_all := lw_g (lw_at lw_m4 5 rfl) rfl
theorem q851 : (Jvm.Cond.code ({ cls := "CarryFair", name := "whyNot", desc := "(II)I" } : Jvm.MethodName) prog_1_method_58_code (3 : Nat) (Option.some Jvm.ClassFile.FieldType.int)) ∈ lw_all := lw_g (lw_at lw_m4 6 rfl) rfl
theorem q852 : (Jvm.Cond.methodLink "CarryFair" (300 : Nat) ({ cls := "CarryFair", name := "isFew", desc := "(I)Z" } : Jvm.MethodName)) ∈ lw_all := lw_g (lw_at lw_m4 7 rfl) rfl
theorem q853 : (Jvm.Cond.privateMethod ({ cls := "CarryFair", name := "isFew", desc := "(I)Z" } : Jvm.MethodName)) ∈ lw_tbl := lw_at lw_m4 8 rfl
theorem q854 : (Jvm.Cond.instanceMethod ({ cls := "CarryFair", name := "isFew", desc := "(I)Z" } : Jvm.MethodName)) ∈ lw_all := lw_g (lw_at lw_m4 9 rfl) rfl
theorem q855 : (Jvm.Cond.code ({ cls := "CarryFair", name := "isFew", desc := "(I)Z" } : Jvm.MethodName) prog_1_method_20_code (2 : Nat) (Option.some Jvm.ClassFile.FieldType.boolean)) ∈ lw_all := lw_g (lw_at lw_m4 10 rfl) rfl
theorem q856 : (Jvm.Cond.methodLink "CarryFair" (133 : Nat) ({ cls := "CarryFair", name := "isSet", desc := "(I)Z" } : Jvm.MethodName)) ∈ lw_all := lw_g (lw_at lw_m4 11 rfl) rfl
theorem q857 : (Jvm.Cond.privateMethod ({ cls := "CarryFair", name := "isSet", desc := "(I)Z" } : Jvm.MethodName)) ∈ lw_tbl := lw_at lw_m4 12 rfl
theorem q858 : (Jvm.Cond.instanceMethod ({ cls := "CarryFair", name := "isSet", desc := "(I)Z" } : Jvm.MethodName)) ∈ lw_all := lw_g (lw_at lw_m4 13 rfl) rfl
theorem q859 : (Jvm.Cond.code ({ cls := "CarryFair", name := "isSet", desc := "(I)Z" } : Jvm.MethodName) prog_1_method_19_code (2 : Nat) (Option.some Jvm.ClassFile.FieldType.boolean)) ∈ lw_all := lw_g (lw_at lw_m4 14 rfl) rfl
theorem q860 : (Jvm.Cond.methodLink "CarryFair" (136 : Nat) ({ cls := "java/lang/Integer", name := "bitCount", desc := "(I)I" } : Jvm.MethodName)) ∈ lw_all := lw_g (lw_at lw_m4 15 rfl) rfl
theorem q866 : (Jvm.Cond.methodLink "CarryFair" (303 : Nat) ({ cls := "CarryFair", name := "allLie", desc := "(I)Z" } : Jvm.MethodName)) ∈ lw_all := lw_g (lw_at lw_m4 21 rfl) rfl
theorem q867 : (Jvm.Cond.privateMethod ({ cls := "CarryFair", name := "allLie", desc := "(I)Z" } : Jvm.MethodName)) ∈ lw_tbl := lw_at lw_m4 22 rfl
theorem q868 : (Jvm.Cond.instanceMethod ({ cls := "CarryFair", name := "allLie", desc := "(I)Z" } : Jvm.MethodName)) ∈ lw_all := lw_g (lw_at lw_m4 23 rfl) rfl
theorem q869 : (Jvm.Cond.code ({ cls := "CarryFair", name := "allLie", desc := "(I)Z" } : Jvm.MethodName) prog_1_method_56_code (2 : Nat) (Option.some Jvm.ClassFile.FieldType.boolean)) ∈ lw_all := lw_g (lw_at lw_m4 24 rfl) rfl
theorem q870 : (Jvm.Cond.methodLink "CarryFair" (306 : Nat) ({ cls := "CarryFair", name := "isEmpty", desc := "(I)Z" } : Jvm.MethodName)) ∈ lw_all := lw_g (lw_at lw_m4 25 rfl) rfl
theorem q871 : (Jvm.Cond.privateMethod ({ cls := "CarryFair", name := "isEmpty", desc := "(I)Z" } : Jvm.MethodName)) ∈ lw_tbl := lw_at lw_m4 26 rfl
theorem q872 : (Jvm.Cond.instanceMethod ({ cls := "CarryFair", name := "isEmpty", desc := "(I)Z" } : Jvm.MethodName)) ∈ lw_all := lw_g (lw_at lw_m4 27 rfl) rfl
theorem q873 : (Jvm.Cond.code ({ cls := "CarryFair", name := "isEmpty", desc := "(I)Z" } : Jvm.MethodName) prog_1_method_57_code (2 : Nat) (Option.some Jvm.ClassFile.FieldType.boolean)) ∈ lw_all := lw_g (lw_at lw_m4 28 rfl) rfl
theorem q874 : (Jvm.Cond.methodLink "CarryFair" (312 : Nat) ({ cls := "CarryFair", name := "roundOf", desc := "(II)I" } : Jvm.MethodName)) ∈ lw_all := lw_g (lw_at lw_m4 29 rfl) rfl
theorem q875 : (Jvm.Cond.privateMethod ({ cls := "CarryFair", name := "roundOf", desc := "(II)I" } : Jvm.MethodName)) ∈ lw_tbl := lw_at lw_m4 30 rfl
theorem q876 : (Jvm.Cond.instanceMethod ({ cls := "CarryFair", name := "roundOf", desc := "(II)I" } : Jvm.MethodName)) ∈ lw_all := lw_g (lw_at lw_m4 31 rfl) rfl
theorem q877 : (Jvm.Cond.code ({ cls := "CarryFair", name := "roundOf", desc := "(II)I" } : Jvm.MethodName) prog_1_method_55_code (7 : Nat) (Option.some Jvm.ClassFile.FieldType.int)) ∈ lw_all := lw_g (lw_at lw_m4 32 rfl) rfl
theorem q878 : (Jvm.Cond.methodLink "CarryFair" (294 : Nat) ({ cls := "CarryFair", name := "collects", desc := "(I)V" } : Jvm.MethodName)) ∈ lw_all := lw_g (lw_at lw_m4 33 rfl) rfl
theorem q879 : (Jvm.Cond.privateMethod ({ cls := "CarryFair", name := "collects", desc := "(I)V" } : Jvm.MethodName)) ∈ lw_tbl := lw_at lw_m4 34 rfl
theorem q880 : (Jvm.Cond.instanceMethod ({ cls := "CarryFair", name := "collects", desc := "(I)V" } : Jvm.MethodName)) ∈ lw_all := lw_g (lw_at lw_m4 35 rfl) rfl
theorem q881 : (Jvm.Cond.code ({ cls := "CarryFair", name := "collects", desc := "(I)V" } : Jvm.MethodName) prog_1_method_49_code (3 : Nat) (Option.none : Option Jvm.ClassFile.FieldType)) ∈ lw_all := lw_g (lw_at lw_m4 36 rfl) rfl
theorem q882 : (Jvm.Cond.methodLink "CarryFair" (297 : Nat) ({ cls := "CarryFair", name := "goesOn", desc := "(III)V" } : Jvm.MethodName)) ∈ lw_all := lw_g (lw_at lw_m4 37 rfl) rfl
theorem q883 : (Jvm.Cond.privateMethod ({ cls := "CarryFair", name := "goesOn", desc := "(III)V" } : Jvm.MethodName)) ∈ lw_tbl := lw_at lw_m4 38 rfl
theorem q884 : (Jvm.Cond.instanceMethod ({ cls := "CarryFair", name := "goesOn", desc := "(III)V" } : Jvm.MethodName)) ∈ lw_all := lw_g (lw_at lw_m4 39 rfl) rfl
theorem q885 : (Jvm.Cond.code ({ cls := "CarryFair", name := "goesOn", desc := "(III)V" } : Jvm.MethodName) prog_1_method_54_code (10 : Nat) (Option.none : Option Jvm.ClassFile.FieldType)) ∈ lw_all := lw_g (lw_at lw_m4 40 rfl) rfl
theorem q886 : (Jvm.Cond.methodLink "CarryFair" (282 : Nat) ({ cls := "CarryFair", name := "digit", desc := "(II)I" } : Jvm.MethodName)) ∈ lw_all := lw_g (lw_at lw_m4 41 rfl) rfl
theorem q887 : (Jvm.Cond.privateMethod ({ cls := "CarryFair", name := "digit", desc := "(II)I" } : Jvm.MethodName)) ∈ lw_tbl := lw_at lw_m4 42 rfl
theorem q888 : (Jvm.Cond.instanceMethod ({ cls := "CarryFair", name := "digit", desc := "(II)I" } : Jvm.MethodName)) ∈ lw_all := lw_g (lw_at lw_m4 43 rfl) rfl
theorem q889 : (Jvm.Cond.code ({ cls := "CarryFair", name := "digit", desc := "(II)I" } : Jvm.MethodName) prog_1_method_50_code (3 : Nat) (Option.some Jvm.ClassFile.FieldType.int)) ∈ lw_all := lw_g (lw_at lw_m4 44 rfl) rfl
theorem q890 : (Jvm.Cond.methodLink "CarryFair" (285 : Nat) ({ cls := "CarryFair", name := "doneAt", desc := "(II)I" } : Jvm.MethodName)) ∈ lw_all := lw_g (lw_at lw_m4 45 rfl) rfl
theorem q891 : (Jvm.Cond.privateMethod ({ cls := "CarryFair", name := "doneAt", desc := "(II)I" } : Jvm.MethodName)) ∈ lw_tbl := lw_at lw_m4 46 rfl
theorem q892 : (Jvm.Cond.instanceMethod ({ cls := "CarryFair", name := "doneAt", desc := "(II)I" } : Jvm.MethodName)) ∈ lw_all := lw_g (lw_at lw_m4 47 rfl) rfl
theorem q893 : (Jvm.Cond.code ({ cls := "CarryFair", name := "doneAt", desc := "(II)I" } : Jvm.MethodName) prog_1_method_51_code (5 : Nat) (Option.some Jvm.ClassFile.FieldType.int)) ∈ lw_all := lw_g (lw_at lw_m4 48 rfl) rfl
theorem q894 : (Jvm.Cond.methodLink "CarryFair" (288 : Nat) ({ cls := "CarryFair", name := "load", desc := "(II)I" } : Jvm.MethodName)) ∈ lw_all := lw_g (lw_at lw_m4 49 rfl) rfl
theorem q895 : (Jvm.Cond.privateMethod ({ cls := "CarryFair", name := "load", desc := "(II)I" } : Jvm.MethodName)) ∈ lw_tbl := lw_at lw_m4 50 rfl
theorem q896 : (Jvm.Cond.instanceMethod ({ cls := "CarryFair", name := "load", desc := "(II)I" } : Jvm.MethodName)) ∈ lw_all := lw_g (lw_at lw_m4 51 rfl) rfl
theorem q897 : (Jvm.Cond.code ({ cls := "CarryFair", name := "load", desc := "(II)I" } : Jvm.MethodName) prog_1_method_52_code (5 : Nat) (Option.some Jvm.ClassFile.FieldType.int)) ∈ lw_all := lw_g (lw_at lw_m4 52 rfl) rfl
theorem q898 : (Jvm.Cond.methodLink "CarryFair" (291 : Nat) ({ cls := "CarryFair", name := "shortens", desc := "(III)V" } : Jvm.MethodName)) ∈ lw_all := lw_g (lw_at lw_m4 53 rfl) rfl
theorem q899 : (Jvm.Cond.privateMethod ({ cls := "CarryFair", name := "shortens", desc := "(III)V" } : Jvm.MethodName)) ∈ lw_tbl := lw_at lw_m4 54 rfl
theorem q900 : (Jvm.Cond.instanceMethod ({ cls := "CarryFair", name := "shortens", desc := "(III)V" } : Jvm.MethodName)) ∈ lw_all := lw_g (lw_at lw_m4 55 rfl) rfl
theorem q901 : (Jvm.Cond.code ({ cls := "CarryFair", name := "shortens", desc := "(III)V" } : Jvm.MethodName) prog_1_method_53_code (4 : Nat) (Option.none : Option Jvm.ClassFile.FieldType)) ∈ lw_all := lw_g (lw_at lw_m4 56 rfl) rfl
theorem q903 : (Jvm.Cond.instanceMethod ({ cls := "CarryFair", name := "gets", desc := "(II)I" } : Jvm.MethodName)) ∈ lw_all := lw_g (lw_at lw_m4 58 rfl) rfl
theorem q904 : (Jvm.Cond.selects "CarryFair" ({ cls := "CarryFair", name := "gets", desc := "(II)I" } : Jvm.MethodName) ({ cls := "CarryFair", name := "gets", desc := "(II)I" } : Jvm.MethodName)) ∈ lw_all := lw_g (lw_at lw_m4 59 rfl) rfl
theorem q905 : (Jvm.Cond.code ({ cls := "CarryFair", name := "gets", desc := "(II)I" } : Jvm.MethodName) prog_1_method_61_code (3 : Nat) (Option.some Jvm.ClassFile.FieldType.int)) ∈ lw_all := lw_g (lw_at lw_m4 60 rfl) rfl
theorem q906 : (Jvm.Cond.methodLink "CarryFair" (315 : Nat) ({ cls := "CarryFair", name := "getsFor", desc := "(II)I" } : Jvm.MethodName)) ∈ lw_all := lw_g (lw_at lw_m4 61 rfl) rfl
theorem q907 : (Jvm.Cond.privateMethod ({ cls := "CarryFair", name := "getsFor", desc := "(II)I" } : Jvm.MethodName)) ∈ lw_tbl := lw_at lw_m4 62 rfl
theorem q908 : (Jvm.Cond.instanceMethod ({ cls := "CarryFair", name := "getsFor", desc := "(II)I" } : Jvm.MethodName)) ∈ lw_all := lw_g (lw_at lw_m4 63 rfl) rfl
theorem q909 : (Jvm.Cond.code ({ cls := "CarryFair", name := "getsFor", desc := "(II)I" } : Jvm.MethodName) prog_1_method_60_code (6 : Nat) (Option.some Jvm.ClassFile.FieldType.int)) ∈ lw_all := lw_g (lw_at lw_m4 64 rfl) rfl
theorem q911 : (Jvm.Cond.instanceMethod ({ cls := "CarryFair", name := "cheapest", desc := "(II)I" } : Jvm.MethodName)) ∈ lw_all := lw_g (lw_at lw_m4 66 rfl) rfl
theorem q912 : (Jvm.Cond.selects "CarryFair" ({ cls := "CarryFair", name := "cheapest", desc := "(II)I" } : Jvm.MethodName) ({ cls := "CarryFair", name := "cheapest", desc := "(II)I" } : Jvm.MethodName)) ∈ lw_all := lw_g (lw_at lw_m4 67 rfl) rfl
theorem q913 : (Jvm.Cond.code ({ cls := "CarryFair", name := "cheapest", desc := "(II)I" } : Jvm.MethodName) prog_1_method_64_code (4 : Nat) (Option.some Jvm.ClassFile.FieldType.int)) ∈ lw_all := lw_g (lw_at lw_m4 68 rfl) rfl
theorem q914 : (Jvm.Cond.methodLink "CarryFair" (321 : Nat) ({ cls := "CarryFair", name := "whyNoWare", desc := "(II)I" } : Jvm.MethodName)) ∈ lw_all := lw_g (lw_at lw_m4 69 rfl) rfl
theorem q915 : (Jvm.Cond.privateMethod ({ cls := "CarryFair", name := "whyNoWare", desc := "(II)I" } : Jvm.MethodName)) ∈ lw_tbl := lw_at lw_m4 70 rfl
theorem q916 : (Jvm.Cond.instanceMethod ({ cls := "CarryFair", name := "whyNoWare", desc := "(II)I" } : Jvm.MethodName)) ∈ lw_all := lw_g (lw_at lw_m4 71 rfl) rfl
theorem q917 : (Jvm.Cond.code ({ cls := "CarryFair", name := "whyNoWare", desc := "(II)I" } : Jvm.MethodName) prog_1_method_63_code (3 : Nat) (Option.some Jvm.ClassFile.FieldType.int)) ∈ lw_all := lw_g (lw_at lw_m4 72 rfl) rfl
theorem q918 : (Jvm.Cond.methodLink "CarryFair" (324 : Nat) ({ cls := "CarryFair", name := "shortestFor", desc := "(II)I" } : Jvm.MethodName)) ∈ lw_all := lw_g (lw_at lw_m4 73 rfl) rfl
theorem q919 : (Jvm.Cond.privateMethod ({ cls := "CarryFair", name := "shortestFor", desc := "(II)I" } : Jvm.MethodName)) ∈ lw_tbl := lw_at lw_m4 74 rfl
theorem q920 : (Jvm.Cond.instanceMethod ({ cls := "CarryFair", name := "shortestFor", desc := "(II)I" } : Jvm.MethodName)) ∈ lw_all := lw_g (lw_at lw_m4 75 rfl) rfl
theorem q921 : (Jvm.Cond.code ({ cls := "CarryFair", name := "shortestFor", desc := "(II)I" } : Jvm.MethodName) prog_1_method_62_code (9 : Nat) (Option.some Jvm.ClassFile.FieldType.int)) ∈ lw_all := lw_g (lw_at lw_m4 76 rfl) rfl
theorem q923 : (Jvm.Cond.instanceMethod ({ cls := "CarryFair", name := "which", desc := "(II)I" } : Jvm.MethodName)) ∈ lw_all := lw_g (lw_at lw_m4 78 rfl) rfl
theorem q924 : (Jvm.Cond.selects "CarryFair" ({ cls := "CarryFair", name := "which", desc := "(II)I" } : Jvm.MethodName) ({ cls := "CarryFair", name := "which", desc := "(II)I" } : Jvm.MethodName)) ∈ lw_all := lw_g (lw_at lw_m4 79 rfl) rfl
theorem q925 : (Jvm.Cond.code ({ cls := "CarryFair", name := "which", desc := "(II)I" } : Jvm.MethodName) prog_1_method_65_code (4 : Nat) (Option.some Jvm.ClassFile.FieldType.int)) ∈ lw_all := lw_g (lw_at lw_m4 80 rfl) rfl
theorem q927 : (Jvm.Cond.instanceMethod ({ cls := "CarryFair", name := "who", desc := "(I)I" } : Jvm.MethodName)) ∈ lw_all := lw_g (lw_at lw_m4 82 rfl) rfl
theorem q928 : (Jvm.Cond.selects "CarryFair" ({ cls := "CarryFair", name := "who", desc := "(I)I" } : Jvm.MethodName) ({ cls := "CarryFair", name := "who", desc := "(I)I" } : Jvm.MethodName)) ∈ lw_all := lw_g (lw_at lw_m4 83 rfl) rfl
theorem q929 : (Jvm.Cond.code ({ cls := "CarryFair", name := "who", desc := "(I)I" } : Jvm.MethodName) prog_1_method_67_code (2 : Nat) (Option.some Jvm.ClassFile.FieldType.int)) ∈ lw_all := lw_g (lw_at lw_m4 84 rfl) rfl
theorem q930 : (Jvm.Cond.methodLink "CarryFair" (327 : Nat) ({ cls := "CarryFair", name := "whoShortest", desc := "(I)I" } : Jvm.MethodName)) ∈ lw_all := lw_g (lw_at lw_m4 85 rfl) rfl
theorem q931 : (Jvm.Cond.privateMethod ({ cls := "CarryFair", name := "whoShortest", desc := "(I)I" } : Jvm.MethodName)) ∈ lw_tbl := lw_at lw_m4 86 rfl
theorem q932 : (Jvm.Cond.instanceMethod ({ cls := "CarryFair", name := "whoShortest", desc := "(I)I" } : Jvm.MethodName)) ∈ lw_all := lw_g (lw_at lw_m4 87 rfl) rfl
theorem q933 : (Jvm.Cond.code ({ cls := "CarryFair", name := "whoShortest", desc := "(I)I" } : Jvm.MethodName) prog_1_method_66_code (7 : Nat) (Option.some Jvm.ClassFile.FieldType.int)) ∈ lw_all := lw_g (lw_at lw_m4 88 rfl) rfl
theorem q935 : (Jvm.Cond.instanceMethod ({ cls := "CarryFair", name := "joined", desc := "(II)I" } : Jvm.MethodName)) ∈ lw_all := lw_g (lw_at lw_m4 90 rfl) rfl
theorem q936 : (Jvm.Cond.selects "CarryFair" ({ cls := "CarryFair", name := "joined", desc := "(II)I" } : Jvm.MethodName) ({ cls := "CarryFair", name := "joined", desc := "(II)I" } : Jvm.MethodName)) ∈ lw_all := lw_g (lw_at lw_m4 91 rfl) rfl
theorem q937 : (Jvm.Cond.code ({ cls := "CarryFair", name := "joined", desc := "(II)I" } : Jvm.MethodName) prog_1_method_69_code (5 : Nat) (Option.some Jvm.ClassFile.FieldType.int)) ∈ lw_all := lw_g (lw_at lw_m4 92 rfl) rfl
theorem q938 : (Jvm.Cond.methodLink "CarryFair" (330 : Nat) ({ cls := "CarryFair", name := "spared", desc := "(III)I" } : Jvm.MethodName)) ∈ lw_all := lw_g (lw_at lw_m4 93 rfl) rfl
theorem q939 : (Jvm.Cond.privateMethod ({ cls := "CarryFair", name := "spared", desc := "(III)I" } : Jvm.MethodName)) ∈ lw_tbl := lw_at lw_m4 94 rfl
theorem q940 : (Jvm.Cond.instanceMethod ({ cls := "CarryFair", name := "spared", desc := "(III)I" } : Jvm.MethodName)) ∈ lw_all := lw_g (lw_at lw_m4 95 rfl) rfl
theorem q941 : (Jvm.Cond.code ({ cls := "CarryFair", name := "spared", desc := "(III)I" } : Jvm.MethodName) prog_1_method_68_code (6 : Nat) (Option.some Jvm.ClassFile.FieldType.int)) ∈ lw_all := lw_g (lw_at lw_m4 96 rfl) rfl
theorem q943 : (Jvm.Cond.instanceMethod ({ cls := "CarryFair", name := "shared", desc := "(III)I" } : Jvm.MethodName)) ∈ lw_all := lw_g (lw_at lw_m4 98 rfl) rfl
theorem q944 : (Jvm.Cond.selects "CarryFair" ({ cls := "CarryFair", name := "shared", desc := "(III)I" } : Jvm.MethodName) ({ cls := "CarryFair", name := "shared", desc := "(III)I" } : Jvm.MethodName)) ∈ lw_all := lw_g (lw_at lw_m4 99 rfl) rfl
theorem q945 : (Jvm.Cond.code ({ cls := "CarryFair", name := "shared", desc := "(III)I" } : Jvm.MethodName) prog_1_method_72_code (5 : Nat) (Option.some Jvm.ClassFile.FieldType.int)) ∈ lw_all := lw_g (lw_at lw_m4 100 rfl) rfl
theorem q946 : (Jvm.Cond.methodLink "CarryFair" (336 : Nat) ({ cls := "CarryFair", name := "whyNotBoth", desc := "(III)I" } : Jvm.MethodName)) ∈ lw_all := lw_g (lw_at lw_m4 101 rfl) rfl
theorem q947 : (Jvm.Cond.privateMethod ({ cls := "CarryFair", name := "whyNotBoth", desc := "(III)I" } : Jvm.MethodName)) ∈ lw_tbl := lw_at lw_m4 102 rfl
theorem q948 : (Jvm.Cond.instanceMethod ({ cls := "CarryFair", name := "whyNotBoth", desc := "(III)I" } : Jvm.MethodName)) ∈ lw_all := lw_g (lw_at lw_m4 103 rfl) rfl
theorem q949 : (Jvm.Cond.code ({ cls := "CarryFair", name := "whyNotBoth", desc := "(III)I" } : Jvm.MethodName) prog_1_method_71_code (4 : Nat) (Option.some Jvm.ClassFile.FieldType.int)) ∈ lw_all := lw_g (lw_at lw_m4 104 rfl) rfl
theorem q950 : (Jvm.Cond.methodLink "CarryFair" (339 : Nat) ({ cls := "CarryFair", name := "sharedBy", desc := "(III)I" } : Jvm.MethodName)) ∈ lw_all := lw_g (lw_at lw_m4 105 rfl) rfl
theorem q951 : (Jvm.Cond.privateMethod ({ cls := "CarryFair", name := "sharedBy", desc := "(III)I" } : Jvm.MethodName)) ∈ lw_tbl := lw_at lw_m4 106 rfl
theorem q952 : (Jvm.Cond.instanceMethod ({ cls := "CarryFair", name := "sharedBy", desc := "(III)I" } : Jvm.MethodName)) ∈ lw_all := lw_g (lw_at lw_m4 107 rfl) rfl
theorem q953 : (Jvm.Cond.code ({ cls := "CarryFair", name := "sharedBy", desc := "(III)I" } : Jvm.MethodName) prog_1_method_70_code (8 : Nat) (Option.some Jvm.ClassFile.FieldType.int)) ∈ lw_all := lw_g (lw_at lw_m4 108 rfl) rfl
theorem q955 : (Jvm.Cond.instanceMethod ({ cls := "CarryFair", name := "part", desc := "(III)I" } : Jvm.MethodName)) ∈ lw_all := lw_g (lw_at lw_m4 110 rfl) rfl
theorem q956 : (Jvm.Cond.selects "CarryFair" ({ cls := "CarryFair", name := "part", desc := "(III)I" } : Jvm.MethodName) ({ cls := "CarryFair", name := "part", desc := "(III)I" } : Jvm.MethodName)) ∈ lw_all := lw_g (lw_at lw_m4 111 rfl) rfl
theorem q957 : (Jvm.Cond.code ({ cls := "CarryFair", name := "part", desc := "(III)I" } : Jvm.MethodName) prog_1_method_73_code (5 : Nat) (Option.some Jvm.ClassFile.FieldType.int)) ∈ lw_all := lw_g (lw_at lw_m4 112 rfl) rfl
theorem q959 : (Jvm.Cond.instanceMethod ({ cls := "CarryFair", name := "strength", desc := "(II)I" } : Jvm.MethodName)) ∈ lw_all := lw_g (lw_at lw_m4 114 rfl) rfl
theorem q960 : (Jvm.Cond.selects "CarryFair" ({ cls := "CarryFair", name := "strength", desc := "(II)I" } : Jvm.MethodName) ({ cls := "CarryFair", name := "strength", desc := "(II)I" } : Jvm.MethodName)) ∈ lw_all := lw_g (lw_at lw_m4 115 rfl) rfl
theorem q961 : (Jvm.Cond.code ({ cls := "CarryFair", name := "strength", desc := "(II)I" } : Jvm.MethodName) prog_1_method_75_code (5 : Nat) (Option.some Jvm.ClassFile.FieldType.int)) ∈ lw_all := lw_g (lw_at lw_m4 116 rfl) rfl
theorem q962 : (Jvm.Cond.methodLink "CarryFair" (342 : Nat) ({ cls := "CarryFair", name := "roundWith", desc := "(IIII)I" } : Jvm.MethodName)) ∈ lw_all := lw_g (lw_at lw_m4 117 rfl) rfl
theorem q963 : (Jvm.Cond.privateMethod ({ cls := "CarryFair", name := "roundWith", desc := "(IIII)I" } : Jvm.MethodName)) ∈ lw_tbl := lw_at lw_m4 118 rfl
theorem q964 : (Jvm.Cond.instanceMethod ({ cls := "CarryFair", name := "roundWith", desc := "(IIII)I" } : Jvm.MethodName)) ∈ lw_all := lw_g (lw_at lw_m4 119 rfl) rfl
theorem q965 : (Jvm.Cond.codeWith ({ cls := "CarryFair", name := "roundWith", desc := "(IIII)I" } : Jvm.MethodName) prog_1_method_74_code (8 : Nat) (Option.some Jvm.ClassFile.FieldType.int) [((25 : Nat), (34 : Nat), (50 : Nat), (0 : Nat)), ((50 : Nat), (52 : Nat), (50 : Nat), (0 : Nat))]) ∈ lw_all := lw_g (lw_at lw_m4 120 rfl) rfl
theorem q967 : (Jvm.Cond.instanceMethod ({ cls := "CarryFair", name := "kindFor", desc := "(II)I" } : Jvm.MethodName)) ∈ lw_all := lw_g (lw_at lw_m4 122 rfl) rfl
theorem q968 : (Jvm.Cond.selects "CarryFair" ({ cls := "CarryFair", name := "kindFor", desc := "(II)I" } : Jvm.MethodName) ({ cls := "CarryFair", name := "kindFor", desc := "(II)I" } : Jvm.MethodName)) ∈ lw_all := lw_g (lw_at lw_m4 123 rfl) rfl
theorem q969 : (Jvm.Cond.code ({ cls := "CarryFair", name := "kindFor", desc := "(II)I" } : Jvm.MethodName) prog_1_method_76_code (9 : Nat) (Option.some Jvm.ClassFile.FieldType.int)) ∈ lw_all := lw_g (lw_at lw_m4 124 rfl) rfl
theorem q971 : (Jvm.Cond.instanceMethod ({ cls := "CarryFair", name := "bridge", desc := "(II)I" } : Jvm.MethodName)) ∈ lw_all := lw_g (lw_at lw_m4 126 rfl) rfl
theorem q972 : (Jvm.Cond.selects "CarryFair" ({ cls := "CarryFair", name := "bridge", desc := "(II)I" } : Jvm.MethodName) ({ cls := "CarryFair", name := "bridge", desc := "(II)I" } : Jvm.MethodName)) ∈ lw_all := lw_g (lw_at lw_m4 127 rfl) rfl
theorem q973 : (Jvm.Cond.code ({ cls := "CarryFair", name := "bridge", desc := "(II)I" } : Jvm.MethodName) prog_1_method_79_code (4 : Nat) (Option.some Jvm.ClassFile.FieldType.int)) ∈ lw_all := lw_g (lw_at lw_m4 128 rfl) rfl
theorem q974 : (Jvm.Cond.methodLink "CarryFair" (352 : Nat) ({ cls := "CarryFair", name := "bridged", desc := "(II)I" } : Jvm.MethodName)) ∈ lw_all := lw_g (lw_at lw_m4 129 rfl) rfl
theorem q975 : (Jvm.Cond.privateMethod ({ cls := "CarryFair", name := "bridged", desc := "(II)I" } : Jvm.MethodName)) ∈ lw_tbl := lw_at lw_m4 130 rfl
theorem q976 : (Jvm.Cond.instanceMethod ({ cls := "CarryFair", name := "bridged", desc := "(II)I" } : Jvm.MethodName)) ∈ lw_all := lw_g (lw_at lw_m4 131 rfl) rfl
theorem q977 : (Jvm.Cond.code ({ cls := "CarryFair", name := "bridged", desc := "(II)I" } : Jvm.MethodName) prog_1_method_78_code (7 : Nat) (Option.some Jvm.ClassFile.FieldType.int)) ∈ lw_all := lw_g (lw_at lw_m4 132 rfl) rfl
theorem q978 : (Jvm.Cond.methodLink "CarryFair" (349 : Nat) ({ cls := "CarryFair", name := "roundBridged", desc := "(IIII)I" } : Jvm.MethodName)) ∈ lw_all := lw_g (lw_at lw_m4 133 rfl) rfl
theorem q979 : (Jvm.Cond.privateMethod ({ cls := "CarryFair", name := "roundBridged", desc := "(IIII)I" } : Jvm.MethodName)) ∈ lw_tbl := lw_at lw_m4 134 rfl
theorem q980 : (Jvm.Cond.instanceMethod ({ cls := "CarryFair", name := "roundBridged", desc := "(IIII)I" } : Jvm.MethodName)) ∈ lw_all := lw_g (lw_at lw_m4 135 rfl) rfl
theorem q981 : (Jvm.Cond.codeWith ({ cls := "CarryFair", name := "roundBridged", desc := "(IIII)I" } : Jvm.MethodName) prog_1_method_77_code (7 : Nat) (Option.some Jvm.ClassFile.FieldType.int) [((23 : Nat), (31 : Nat), (57 : Nat), (0 : Nat)), ((57 : Nat), (59 : Nat), (57 : Nat), (0 : Nat))]) ∈ lw_all := lw_g (lw_at lw_m4 136 rfl) rfl
theorem q983 : (Jvm.Cond.instanceMethod ({ cls := "CarryFair", name := "worth", desc := "(II)I" } : Jvm.MethodName)) ∈ lw_all := lw_g (lw_at lw_m4 138 rfl) rfl
theorem q984 : (Jvm.Cond.selects "CarryFair" ({ cls := "CarryFair", name := "worth", desc := "(II)I" } : Jvm.MethodName) ({ cls := "CarryFair", name := "worth", desc := "(II)I" } : Jvm.MethodName)) ∈ lw_all := lw_g (lw_at lw_m4 139 rfl) rfl
theorem q985 : (Jvm.Cond.code ({ cls := "CarryFair", name := "worth", desc := "(II)I" } : Jvm.MethodName) prog_1_method_80_code (6 : Nat) (Option.some Jvm.ClassFile.FieldType.int)) ∈ lw_all := lw_g (lw_at lw_m4 140 rfl) rfl
theorem q987 : (Jvm.Cond.instanceMethod ({ cls := "CarryFair", name := "reach", desc := "(I)I" } : Jvm.MethodName)) ∈ lw_all := lw_g (lw_at lw_m4 142 rfl) rfl
theorem q988 : (Jvm.Cond.selects "CarryFair" ({ cls := "CarryFair", name := "reach", desc := "(I)I" } : Jvm.MethodName) ({ cls := "CarryFair", name := "reach", desc := "(I)I" } : Jvm.MethodName)) ∈ lw_all := lw_g (lw_at lw_m4 143 rfl) rfl
theorem q989 : (Jvm.Cond.code ({ cls := "CarryFair", name := "reach", desc := "(I)I" } : Jvm.MethodName) prog_1_method_82_code (2 : Nat) (Option.some Jvm.ClassFile.FieldType.int)) ∈ lw_all := lw_g (lw_at lw_m4 144 rfl) rfl
theorem q990 : (Jvm.Cond.methodLink "CarryFair" (355 : Nat) ({ cls := "CarryFair", name := "reachFrom", desc := "(I)I" } : Jvm.MethodName)) ∈ lw_all := lw_g (lw_at lw_m4 145 rfl) rfl
theorem q991 : (Jvm.Cond.privateMethod ({ cls := "CarryFair", name := "reachFrom", desc := "(I)I" } : Jvm.MethodName)) ∈ lw_tbl := lw_at lw_m4 146 rfl
theorem q992 : (Jvm.Cond.instanceMethod ({ cls := "CarryFair", name := "reachFrom", desc := "(I)I" } : Jvm.MethodName)) ∈ lw_all := lw_g (lw_at lw_m4 147 rfl) rfl
theorem q993 : (Jvm.Cond.code ({ cls := "CarryFair", name := "reachFrom", desc := "(I)I" } : Jvm.MethodName) prog_1_method_81_code (4 : Nat) (Option.some Jvm.ClassFile.FieldType.int)) ∈ lw_all := lw_g (lw_at lw_m4 148 rfl) rfl
theorem q995 : (Jvm.Cond.instanceMethod ({ cls := "CarryFair", name := "middle", desc := "(I)I" } : Jvm.MethodName)) ∈ lw_all := lw_g (lw_at lw_m4 150 rfl) rfl
theorem q996 : (Jvm.Cond.selects "CarryFair" ({ cls := "CarryFair", name := "middle", desc := "(I)I" } : Jvm.MethodName) ({ cls := "CarryFair", name := "middle", desc := "(I)I" } : Jvm.MethodName)) ∈ lw_all := lw_g (lw_at lw_m4 151 rfl) rfl
theorem q997 : (Jvm.Cond.code ({ cls := "CarryFair", name := "middle", desc := "(I)I" } : Jvm.MethodName) prog_1_method_85_code (2 : Nat) (Option.some Jvm.ClassFile.FieldType.int)) ∈ lw_all := lw_g (lw_at lw_m4 152 rfl) rfl
theorem q998 : (Jvm.Cond.methodLink "CarryFair" (367 : Nat) ({ cls := "CarryFair", name := "middleOf", desc := "(I)I" } : Jvm.MethodName)) ∈ lw_all := lw_g (lw_at lw_m4 153 rfl) rfl
theorem q999 : (Jvm.Cond.privateMethod ({ cls := "CarryFair", name := "middleOf", desc := "(I)I" } : Jvm.MethodName)) ∈ lw_tbl := lw_at lw_m4 154 rfl
theorem q1000 : (Jvm.Cond.instanceMethod ({ cls := "CarryFair", name := "middleOf", desc := "(I)I" } : Jvm.MethodName)) ∈ lw_all := lw_g (lw_at lw_m4 155 rfl) rfl
theorem q1001 : (Jvm.Cond.code ({ cls := "CarryFair", name := "middleOf", desc := "(I)I" } : Jvm.MethodName) prog_1_method_84_code (6 : Nat) (Option.some Jvm.ClassFile.FieldType.int)) ∈ lw_all := lw_g (lw_at lw_m4 156 rfl) rfl
theorem q1002 : (Jvm.Cond.methodLink "CarryFair" (361 : Nat) ({ cls := "CarryFair$World", name := "withWays", desc := "()I" } : Jvm.MethodName)) ∈ lw_all := lw_g (lw_at lw_m4 157 rfl) rfl
theorem q1006 : (Jvm.Cond.methodLink "CarryFair" (364 : Nat) ({ cls := "CarryFair", name := "farthest", desc := "(II)I" } : Jvm.MethodName)) ∈ lw_all := lw_g (lw_at lw_m4 161 rfl) rfl
theorem q1007 : (Jvm.Cond.privateMethod ({ cls := "CarryFair", name := "farthest", desc := "(II)I" } : Jvm.MethodName)) ∈ lw_tbl := lw_at lw_m4 162 rfl
theorem q1008 : (Jvm.Cond.instanceMethod ({ cls := "CarryFair", name := "farthest", desc := "(II)I" } : Jvm.MethodName)) ∈ lw_all := lw_g (lw_at lw_m4 163 rfl) rfl
theorem q1009 : (Jvm.Cond.code ({ cls := "CarryFair", name := "farthest", desc := "(II)I" } : Jvm.MethodName) prog_1_method_83_code (5 : Nat) (Option.some Jvm.ClassFile.FieldType.int)) ∈ lw_all := lw_g (lw_at lw_m4 164 rfl) rfl
theorem q1010 : (Jvm.Cond.methodLink "CarryFair" (358 : Nat) ({ cls := "java/lang/Math", name := "max", desc := "(II)I" } : Jvm.MethodName)) ∈ lw_all := lw_g (lw_at lw_m4 165 rfl) rfl
theorem q1012 : (Jvm.Cond.instanceMethod ({ cls := "CarryFair", name := "heavy", desc := "(II)I" } : Jvm.MethodName)) ∈ lw_all := lw_g (lw_at lw_m4 167 rfl) rfl
theorem q1013 : (Jvm.Cond.selects "CarryFair" ({ cls := "CarryFair", name := "heavy", desc := "(II)I" } : Jvm.MethodName) ({ cls := "CarryFair", name := "heavy", desc := "(II)I" } : Jvm.MethodName)) ∈ lw_all := lw_g (lw_at lw_m4 168 rfl) rfl
theorem q1014 : (Jvm.Cond.code ({ cls := "CarryFair", name := "heavy", desc := "(II)I" } : Jvm.MethodName) prog_1_method_86_code (6 : Nat) (Option.some Jvm.ClassFile.FieldType.int)) ∈ lw_all := lw_g (lw_at lw_m4 169 rfl) rfl
theorem q1016 : (Jvm.Cond.instanceMethod ({ cls := "CarryFair", name := "day", desc := "(I)I" } : Jvm.MethodName)) ∈ lw_all := lw_g (lw_at lw_m4 171 rfl) rfl
theorem q1017 : (Jvm.Cond.selects "CarryFair" ({ cls := "CarryFair", name := "day", desc := "(I)I" } : Jvm.MethodName) ({ cls := "CarryFair", name := "day", desc := "(I)I" } : Jvm.MethodName)) ∈ lw_all := lw_g (lw_at lw_m4 172 rfl) rfl
theorem q1018 : (Jvm.Cond.code ({ cls := "CarryFair", name := "day", desc := "(I)I" } : Jvm.MethodName) prog_1_method_90_code (3 : Nat) (Option.some Jvm.ClassFile.FieldType.int)) ∈ lw_all := lw_g (lw_at lw_m4 173 rfl) rfl
theorem q1019 : (Jvm.Cond.methodLink "CarryFair" (376 : Nat) ({ cls := "CarryFair", name := "whyNoDay", desc := "(I)I" } : Jvm.MethodName)) ∈ lw_all := lw_g (lw_at lw_m4 174 rfl) rfl
theorem q1020 : (Jvm.Cond.privateMethod ({ cls := "CarryFair", name := "whyNoDay", desc := "(I)I" } : Jvm.MethodName)) ∈ lw_tbl := lw_at lw_m4 175 rfl
theorem q1021 : (Jvm.Cond.instanceMethod ({ cls := "CarryFair", name := "whyNoDay", desc := "(I)I" } : Jvm.MethodName)) ∈ lw_all := lw_g (lw_at lw_m4 176 rfl) rfl
theorem q1022 : (Jvm.Cond.code ({ cls := "CarryFair", name := "whyNoDay", desc := "(I)I" } : Jvm.MethodName) prog_1_method_89_code (2 : Nat) (Option.some Jvm.ClassFile.FieldType.int)) ∈ lw_all := lw_g (lw_at lw_m4 177 rfl) rfl
theorem q1023 : (Jvm.Cond.methodLink "CarryFair" (379 : Nat) ({ cls := "CarryFair", name := "works", desc := "(I)I" } : Jvm.MethodName)) ∈ lw_all := lw_g (lw_at lw_m4 178 rfl) rfl
theorem q1024 : (Jvm.Cond.privateMethod ({ cls := "CarryFair", name := "works", desc := "(I)I" } : Jvm.MethodName)) ∈ lw_tbl := lw_at lw_m4 179 rfl
theorem q1025 : (Jvm.Cond.instanceMethod ({ cls := "CarryFair", name := "works", desc := "(I)I" } : Jvm.MethodName)) ∈ lw_all := lw_g (lw_at lw_m4 180 rfl) rfl
theorem q1026 : (Jvm.Cond.code ({ cls := "CarryFair", name := "works", desc := "(I)I" } : Jvm.MethodName) prog_1_method_88_code (7 : Nat) (Option.some Jvm.ClassFile.FieldType.int)) ∈ lw_all := lw_g (lw_at lw_m4 181 rfl) rfl
theorem q1027 : (Jvm.Cond.methodLink "CarryFair" (370 : Nat) ({ cls := "CarryFair$World", name := "draw", desc := "()I" } : Jvm.MethodName)) ∈ lw_all := lw_g (lw_at lw_m4 182 rfl) rfl
theorem q1032 : (Jvm.Cond.methodLink "CarryFair" (373 : Nat) ({ cls := "CarryFair", name := "takesAll", desc := "(I)V" } : Jvm.MethodName)) ∈ lw_all := lw_g (lw_at lw_m4 187 rfl) rfl
theorem q1033 : (Jvm.Cond.privateMethod ({ cls := "CarryFair", name := "takesAll", desc := "(I)V" } : Jvm.MethodName)) ∈ lw_tbl := lw_at lw_m4 188 rfl
theorem q1034 : (Jvm.Cond.instanceMethod ({ cls := "CarryFair", name := "takesAll", desc := "(I)V" } : Jvm.MethodName)) ∈ lw_all := lw_g (lw_at lw_m4 189 rfl) rfl
theorem q1035 : (Jvm.Cond.code ({ cls := "CarryFair", name := "takesAll", desc := "(I)V" } : Jvm.MethodName) prog_1_method_87_code (3 : Nat) (Option.none : Option Jvm.ClassFile.FieldType)) ∈ lw_all := lw_g (lw_at lw_m4 190 rfl) rfl
theorem q1037 : (Jvm.Cond.instanceMethod ({ cls := "CarryFair", name := "ahead", desc := "(I)I" } : Jvm.MethodName)) ∈ lw_all := lw_g (lw_at lw_m4 192 rfl) rfl
theorem q1038 : (Jvm.Cond.selects "CarryFair" ({ cls := "CarryFair", name := "ahead", desc := "(I)I" } : Jvm.MethodName) ({ cls := "CarryFair", name := "ahead", desc := "(I)I" } : Jvm.MethodName)) ∈ lw_all := lw_g (lw_at lw_m4 193 rfl) rfl
theorem q1039 : (Jvm.Cond.codeWith ({ cls := "CarryFair", name := "ahead", desc := "(I)I" } : Jvm.MethodName) prog_1_method_91_code (5 : Nat) (Option.some Jvm.ClassFile.FieldType.int) [((28 : Nat), (34 : Nat), (47 : Nat), (0 : Nat)), ((47 : Nat), (49 : Nat), (47 : Nat), (0 : Nat))]) ∈ lw_all := lw_g (lw_at lw_m4 194 rfl) rfl
theorem q1040 : (Jvm.Cond.methodLink "CarryFair" (382 : Nat) ({ cls := "CarryFair$World", name := "become", desc := "(LCarryFair$World;)V" } : Jvm.MethodName)) ∈ lw_all := lw_g (lw_at lw_m4 195 rfl) rfl
theorem q1054 : (Jvm.Cond.instanceMethod ({ cls := "CarryFair", name := "seed", desc := "(I)I" } : Jvm.MethodName)) ∈ lw_all := lw_g (lw_at lw_m4 209 rfl) rfl
theorem q1055 : (Jvm.Cond.selects "CarryFair" ({ cls := "CarryFair", name := "seed", desc := "(I)I" } : Jvm.MethodName) ({ cls := "CarryFair", name := "seed", desc := "(I)I" } : Jvm.MethodName)) ∈ lw_all := lw_g (lw_at lw_m4 210 rfl) rfl
theorem q1056 : (Jvm.Cond.code ({ cls := "CarryFair", name := "seed", desc := "(I)I" } : Jvm.MethodName) prog_1_method_92_code (3 : Nat) (Option.some Jvm.ClassFile.FieldType.int)) ∈ lw_all := lw_g (lw_at lw_m4 211 rfl) rfl
theorem q1058 : (Jvm.Cond.instanceMethod ({ cls := "CarryFair", name := "feed", desc := "(II)I" } : Jvm.MethodName)) ∈ lw_all := lw_g (lw_at lw_m4 213 rfl) rfl
theorem q1059 : (Jvm.Cond.selects "CarryFair" ({ cls := "CarryFair", name := "feed", desc := "(II)I" } : Jvm.MethodName) ({ cls := "CarryFair", name := "feed", desc := "(II)I" } : Jvm.MethodName)) ∈ lw_all := lw_g (lw_at lw_m4 214 rfl) rfl
theorem q1060 : (Jvm.Cond.code ({ cls := "CarryFair", name := "feed", desc := "(II)I" } : Jvm.MethodName) prog_1_method_93_code (4 : Nat) (Option.some Jvm.ClassFile.FieldType.int)) ∈ lw_all := lw_g (lw_at lw_m4 215 rfl) rfl
theorem q1062 : (Jvm.Cond.instanceMethod ({ cls := "CarryFair", name := "wipe", desc := "()I" } : Jvm.MethodName)) ∈ lw_all := lw_g (lw_at lw_m4 217 rfl) rfl
theorem q1063 : (Jvm.Cond.selects "CarryFair" ({ cls := "CarryFair", name := "wipe", desc := "()I" } : Jvm.MethodName) ({ cls := "CarryFair", name := "wipe", desc := "()I" } : Jvm.MethodName)) ∈ lw_all := lw_g (lw_at lw_m4 218 rfl) rfl
theorem q1064 : (Jvm.Cond.code ({ cls := "CarryFair", name := "wipe", desc := "()I" } : Jvm.MethodName) prog_1_method_94_code (2 : Nat) (Option.some Jvm.ClassFile.FieldType.int)) ∈ lw_all := lw_g (lw_at lw_m4 219 rfl) rfl
theorem q1066 : (Jvm.Cond.instanceMethod ({ cls := "CarryFair", name := "text", desc := "()I" } : Jvm.MethodName)) ∈ lw_all := lw_g (lw_at lw_m4 221 rfl) rfl
theorem q1067 : (Jvm.Cond.selects "CarryFair" ({ cls := "CarryFair", name := "text", desc := "()I" } : Jvm.MethodName) ({ cls := "CarryFair", name := "text", desc := "()I" } : Jvm.MethodName)) ∈ lw_all := lw_g (lw_at lw_m4 222 rfl) rfl
theorem q1068 : (Jvm.Cond.codeWith ({ cls := "CarryFair", name := "text", desc := "()I" } : Jvm.MethodName) prog_1_method_95_code (2 : Nat) (Option.some Jvm.ClassFile.FieldType.int) [((30 : Nat), (53 : Nat), (54 : Nat), (405 : Nat))]) ∈ lw_all := lw_g (lw_at lw_m4 223 rfl) rfl
theorem q1069 : (Jvm.Cond.classLink "CarryFair" (405 : Nat) "CarryFair$Wrong") ∈ lw_all := lw_g (lw_at lw_m4 224 rfl) rfl
theorem q1070 : (Jvm.Cond.methodLink "CarryFair" (402 : Nat) ({ cls := "CarryFair$Reader", name := "whole", desc := "()I" } : Jvm.MethodName)) ∈ lw_all := lw_g (lw_at lw_m4 225 rfl) rfl
theorem q1195 : (Jvm.Cond.instanceMethod ({ cls := "CarryFair", name := "hold", desc := "(II)I" } : Jvm.MethodName)) ∈ lw_all := lw_g (lw_at lw_m5 110 rfl) rfl
theorem q1196 : (Jvm.Cond.selects "CarryFair" ({ cls := "CarryFair", name := "hold", desc := "(II)I" } : Jvm.MethodName) ({ cls := "CarryFair", name := "hold", desc := "(II)I" } : Jvm.MethodName)) ∈ lw_all := lw_g (lw_at lw_m5 111 rfl) rfl
theorem q1197 : (Jvm.Cond.code ({ cls := "CarryFair", name := "hold", desc := "(II)I" } : Jvm.MethodName) prog_1_method_98_code (3 : Nat) (Option.some Jvm.ClassFile.FieldType.int)) ∈ lw_all := lw_g (lw_at lw_m5 112 rfl) rfl
theorem q1198 : (Jvm.Cond.methodLink "CarryFair" (413 : Nat) ({ cls := "CarryFair", name := "isSpot", desc := "(I)Z" } : Jvm.MethodName)) ∈ lw_all := lw_g (lw_at lw_m5 113 rfl) rfl
theorem q1199 : (Jvm.Cond.static ({ cls := "CarryFair", name := "isSpot", desc := "(I)Z" } : Jvm.MethodName)) ∈ lw_all := lw_g (lw_at lw_m5 114 rfl) rfl
theorem q1200 : (Jvm.Cond.code ({ cls := "CarryFair", name := "isSpot", desc := "(I)Z" } : Jvm.MethodName) prog_1_method_4_code (1 : Nat) (Option.some Jvm.ClassFile.FieldType.boolean)) ∈ lw_all := lw_g (lw_at lw_m5 115 rfl) rfl
theorem q1202 : (Jvm.Cond.instanceMethod ({ cls := "CarryFair", name := "as", desc := "(II)I" } : Jvm.MethodName)) ∈ lw_all := lw_g (lw_at lw_m5 117 rfl) rfl
theorem q1203 : (Jvm.Cond.selects "CarryFair" ({ cls := "CarryFair", name := "as", desc := "(II)I" } : Jvm.MethodName) ({ cls := "CarryFair", name := "as", desc := "(II)I" } : Jvm.MethodName)) ∈ lw_all := lw_g (lw_at lw_m5 118 rfl) rfl
theorem q1204 : (Jvm.Cond.code ({ cls := "CarryFair", name := "as", desc := "(II)I" } : Jvm.MethodName) prog_1_method_100_code (5 : Nat) (Option.some Jvm.ClassFile.FieldType.int)) ∈ lw_all := lw_g (lw_at lw_m5 119 rfl) rfl
theorem q1205 : (Jvm.Cond.methodLink "CarryFair" (416 : Nat) ({ cls := "CarryFair", name := "thingAt", desc := "(I)Ljava/lang/Object;" } : Jvm.MethodName)) ∈ lw_all := lw_g (lw_at lw_m5 120 rfl) rfl
theorem q1206 : (Jvm.Cond.privateMethod ({ cls := "CarryFair", name := "thingAt", desc := "(I)Ljava/lang/Object;" } : Jvm.MethodName)) ∈ lw_tbl := lw_at lw_m5 121 rfl
theorem q1207 : (Jvm.Cond.instanceMethod ({ cls := "CarryFair", name := "thingAt", desc := "(I)Ljava/lang/Object;" } : Jvm.MethodName)) ∈ lw_all := lw_g (lw_at lw_m5 122 rfl) rfl
theorem q1208 : (Jvm.Cond.code ({ cls := "CarryFair", name := "thingAt", desc := "(I)Ljava/lang/Object;" } : Jvm.MethodName) prog_1_method_96_code (3 : Nat) (Option.some (Jvm.ClassFile.FieldType.object "java/lang/Object"))) ∈ lw_all := lw_g (lw_at lw_m5 123 rfl) rfl
theorem q1209 : (Jvm.Cond.methodLink "CarryFair" (420 : Nat) ({ cls := "CarryFair$Carrier", name := "isUnder", desc := "(I)Z" } : Jvm.MethodName)) ∈ lw_all := lw_g (lw_at lw_m5 124 rfl) rfl
theorem q1230 : (Jvm.Cond.methodLink "CarryFair" (423 : Nat) ({ cls := "CarryFair", name := "cast", desc := "(Ljava/lang/Object;I)LCarryFair$Carrier;" } : Jvm.MethodName)) ∈ lw_all := lw_g (lw_at lw_m5 145 rfl) rfl
theorem q1231 : (Jvm.Cond.static ({ cls := "CarryFair", name := "cast", desc := "(Ljava/lang/Object;I)LCarryFair$Carrier;" } : Jvm.MethodName)) ∈ lw_all := lw_g (lw_at lw_m5 146 rfl) rfl
theorem q1232 : (Jvm.Cond.code ({ cls := "CarryFair", name := "cast", desc := "(Ljava/lang/Object;I)LCarryFair$Carrier;" } : Jvm.MethodName) prog_1_method_99_code (2 : Nat) (Option.some (Jvm.ClassFile.FieldType.object "CarryFair$Carrier"))) ∈ lw_all := lw_g (lw_at lw_m5 147 rfl) rfl
theorem q1234 : (Jvm.Cond.instanceMethod ({ cls := "CarryFair", name := "sheet", desc := "(III)I" } : Jvm.MethodName)) ∈ lw_all := lw_g (lw_at lw_m5 149 rfl) rfl
theorem q1235 : (Jvm.Cond.selects "CarryFair" ({ cls := "CarryFair", name := "sheet", desc := "(III)I" } : Jvm.MethodName) ({ cls := "CarryFair", name := "sheet", desc := "(III)I" } : Jvm.MethodName)) ∈ lw_all := lw_g (lw_at lw_m5 150 rfl) rfl
theorem q1236 : (Jvm.Cond.code ({ cls := "CarryFair", name := "sheet", desc := "(III)I" } : Jvm.MethodName) prog_1_method_101_code (4 : Nat) (Option.some Jvm.ClassFile.FieldType.int)) ∈ lw_all := lw_g (lw_at lw_m5 151 rfl) rfl
theorem q1237 : (Jvm.Cond.methodLink "CarryFair" (430 : Nat) ({ cls := "CarryFair", name := "isSheet", desc := "(I)Z" } : Jvm.MethodName)) ∈ lw_all := lw_g (lw_at lw_m5 152 rfl) rfl
theorem q1238 : (Jvm.Cond.static ({ cls := "CarryFair", name := "isSheet", desc := "(I)Z" } : Jvm.MethodName)) ∈ lw_all := lw_g (lw_at lw_m5 153 rfl) rfl
theorem q1239 : (Jvm.Cond.code ({ cls := "CarryFair", name := "isSheet", desc := "(I)Z" } : Jvm.MethodName) prog_1_method_3_code (1 : Nat) (Option.some Jvm.ClassFile.FieldType.boolean)) ∈ lw_all := lw_g (lw_at lw_m5 154 rfl) rfl
theorem q1242 : (Jvm.Cond.instanceMethod ({ cls := "CarryFair", name := "write", desc := "(III)I" } : Jvm.MethodName)) ∈ lw_all := lw_g (lw_at lw_m5 157 rfl) rfl
theorem q1243 : (Jvm.Cond.selects "CarryFair" ({ cls := "CarryFair", name := "write", desc := "(III)I" } : Jvm.MethodName) ({ cls := "CarryFair", name := "write", desc := "(III)I" } : Jvm.MethodName)) ∈ lw_all := lw_g (lw_at lw_m5 158 rfl) rfl
theorem q1244 : (Jvm.Cond.codeWith ({ cls := "CarryFair", name := "write", desc := "(III)I" } : Jvm.MethodName) prog_1_method_107_code (5 : Nat) (Option.some Jvm.ClassFile.FieldType.int) [((0 : Nat), (47 : Nat), (48 : Nat), (44 : Nat))]) ∈ lw_all := lw_g (lw_at lw_m5 159 rfl) rfl
theorem q1245 : (Jvm.Cond.methodLink "CarryFair" (441 : Nat) ({ cls := "CarryFair", name := "rowAt", desc := "(I)Ljava/lang/Object;" } : Jvm.MethodName)) ∈ lw_all := lw_g (lw_at lw_m5 160 rfl) rfl
theorem q1246 : (Jvm.Cond.privateMethod ({ cls := "CarryFair", name := "rowAt", desc := "(I)Ljava/lang/Object;" } : Jvm.MethodName)) ∈ lw_tbl := lw_at lw_m5 161 rfl
theorem q1247 : (Jvm.Cond.instanceMethod ({ cls := "CarryFair", name := "rowAt", desc := "(I)Ljava/lang/Object;" } : Jvm.MethodName)) ∈ lw_all := lw_g (lw_at lw_m5 162 rfl) rfl
theorem q1248 : (Jvm.Cond.code ({ cls := "CarryFair", name := "rowAt", desc := "(I)Ljava/lang/Object;" } : Jvm.MethodName) prog_1_method_102_code (2 : Nat) (Option.some (Jvm.ClassFile.FieldType.object "java/lang/Object"))) ∈ lw_all := lw_g (lw_at lw_m5 163 rfl) rfl
theorem q1249 : (Jvm.Cond.methodLink "CarryFair" (433 : Nat) ({ cls := "CarryFair", name := "need", desc := "(ZI)V" } : Jvm.MethodName)) ∈ lw_all := lw_g (lw_at lw_m5 164 rfl) rfl
theorem q1250 : (Jvm.Cond.privateMethod ({ cls := "CarryFair", name := "need", desc := "(ZI)V" } : Jvm.MethodName)) ∈ lw_tbl := lw_at lw_m5 165 rfl
theorem q1251 : (Jvm.Cond.instanceMethod ({ cls := "CarryFair", name := "need", desc := "(ZI)V" } : Jvm.MethodName)) ∈ lw_all := lw_g (lw_at lw_m5 166 rfl) rfl
theorem q1252 : (Jvm.Cond.code ({ cls := "CarryFair", name := "need", desc := "(ZI)V" } : Jvm.MethodName) prog_1_method_15_code (3 : Nat) (Option.none : Option Jvm.ClassFile.FieldType)) ∈ lw_all := lw_g (lw_at lw_m5 167 rfl) rfl
theorem q1253 : (Jvm.Cond.methodLink "CarryFair" (121 : Nat) ({ cls := "CarryFair", name := "refused", desc := "(I)LCarryFair$Refusal;" } : Jvm.MethodName)) ∈ lw_all := lw_g (lw_at lw_m5 168 rfl) rfl
theorem q1254 : (Jvm.Cond.privateMethod ({ cls := "CarryFair", name := "refused", desc := "(I)LCarryFair$Refusal;" } : Jvm.MethodName)) ∈ lw_tbl := lw_at lw_m5 169 rfl
theorem q1255 : (Jvm.Cond.instanceMethod ({ cls := "CarryFair", name := "refused", desc := "(I)LCarryFair$Refusal;" } : Jvm.MethodName)) ∈ lw_all := lw_g (lw_at lw_m5 170 rfl) rfl
theorem q1256 : (Jvm.Cond.code ({ cls := "CarryFair", name := "refused", desc := "(I)LCarryFair$Refusal;" } : Jvm.MethodName) prog_1_method_14_code (2 : Nat) (Option.some (Jvm.ClassFile.FieldType.object "CarryFair$Refusal"))) ∈ lw_all := lw_g (lw_at lw_m5 171 rfl) rfl
theorem q1257 : (Jvm.Cond.methodLink "CarryFair" (444 : Nat) ({ cls := "CarryFair", name := "length", desc := "(Ljava/lang/Object;)I" } : Jvm.MethodName)) ∈ lw_all := lw_g (lw_at lw_m5 172 rfl) rfl
theorem q1258 : (Jvm.Cond.static ({ cls := "CarryFair", name := "length", desc := "(Ljava/lang/Object;)I" } : Jvm.MethodName)) ∈ lw_all := lw_g (lw_at lw_m5 173 rfl) rfl
theorem q1259 : (Jvm.Cond.code ({ cls := "CarryFair", name := "length", desc := "(Ljava/lang/Object;)I" } : Jvm.MethodName) prog_1_method_103_code (1 : Nat) (Option.some Jvm.ClassFile.FieldType.int)) ∈ lw_all := lw_g (lw_at lw_m5 174 rfl) rfl
theorem q1260 : (Jvm.Cond.classLink "CarryFair" (437 : Nat) "[B") ∈ lw_all := lw_g (lw_at lw_m5 175 rfl) rfl
theorem q1261 : (Jvm.Cond.classLink "CarryFair" (438 : Nat) "[S") ∈ lw_all := lw_g (lw_at lw_m5 176 rfl) rfl
theorem q1262 : (Jvm.Cond.classLink "CarryFair" (440 : Nat) "[I") ∈ lw_all := lw_g (lw_at lw_m5 177 rfl) rfl
theorem q1263 : (Jvm.Cond.methodLink "CarryFair" (447 : Nat) ({ cls := "CarryFair", name := "lay", desc := "(Ljava/lang/Object;II)V" } : Jvm.MethodName)) ∈ lw_all := lw_g (lw_at lw_m5 178 rfl) rfl
theorem q1264 : (Jvm.Cond.static ({ cls := "CarryFair", name := "lay", desc := "(Ljava/lang/Object;II)V" } : Jvm.MethodName)) ∈ lw_all := lw_g (lw_at lw_m5 179 rfl) rfl
theorem q1265 : (Jvm.Cond.code ({ cls := "CarryFair", name := "lay", desc := "(Ljava/lang/Object;II)V" } : Jvm.MethodName) prog_1_method_106_code (3 : Nat) (Option.none : Option Jvm.ClassFile.FieldType)) ∈ lw_all := lw_g (lw_at lw_m5 180 rfl) rfl
theorem q1267 : (Jvm.Cond.instanceMethod ({ cls := "CarryFair", name := "copy", desc := "(IIIII)I" } : Jvm.MethodName)) ∈ lw_all := lw_g (lw_at lw_m5 182 rfl) rfl
theorem q1268 : (Jvm.Cond.selects "CarryFair" ({ cls := "CarryFair", name := "copy", desc := "(IIIII)I" } : Jvm.MethodName) ({ cls := "CarryFair", name := "copy", desc := "(IIIII)I" } : Jvm.MethodName)) ∈ lw_all := lw_g (lw_at lw_m5 183 rfl) rfl
theorem q1269 : (Jvm.Cond.codeWith ({ cls := "CarryFair", name := "copy", desc := "(IIIII)I" } : Jvm.MethodName) prog_1_method_109_code (8 : Nat) (Option.some Jvm.ClassFile.FieldType.int) [((0 : Nat), (120 : Nat), (121 : Nat), (44 : Nat))]) ∈ lw_all := lw_g (lw_at lw_m5 184 rfl) rfl
theorem q1270 : (Jvm.Cond.methodLink "CarryFair" (457 : Nat) ({ cls := "CarryFair", name := "widthOf", desc := "(Ljava/lang/Object;)I" } : Jvm.MethodName)) ∈ lw_all := lw_g (lw_at lw_m5 185 rfl) rfl
theorem q1271 : (Jvm.Cond.static ({ cls := "CarryFair", name := "widthOf", desc := "(Ljava/lang/Object;)I" } : Jvm.MethodName)) ∈ lw_all := lw_g (lw_at lw_m5 186 rfl) rfl
theorem q1272 : (Jvm.Cond.code ({ cls := "CarryFair", name := "widthOf", desc := "(Ljava/lang/Object;)I" } : Jvm.MethodName) prog_1_method_105_code (1 : Nat) (Option.some Jvm.ClassFile.FieldType.int)) ∈ lw_all := lw_g (lw_at lw_m5 187 rfl) rfl
theorem q1273 : (Jvm.Cond.methodLink "CarryFair" (460 : Nat) ({ cls := "CarryFair", name := "slide", desc := "(Ljava/lang/Object;ILjava/lang/Object;II)V" } : Jvm.MethodName)) ∈ lw_all := lw_g (lw_at lw_m5 188 rfl) rfl
theorem q1274 : (Jvm.Cond.static ({ cls := "CarryFair", name := "slide", desc := "(Ljava/lang/Object;ILjava/lang/Object;II)V" } : Jvm.MethodName)) ∈ lw_all := lw_g (lw_at lw_m5 189 rfl) rfl
theorem q1275 : (Jvm.Cond.code ({ cls := "CarryFair", name := "slide", desc := "(Ljava/lang/Object;ILjava/lang/Object;II)V" } : Jvm.MethodName) prog_1_method_108_code (5 : Nat) (Option.none : Option Jvm.ClassFile.FieldType)) ∈ lw_all := lw_g (lw_at lw_m5 190 rfl) rfl
theorem q1276 : (Jvm.Cond.methodLink "CarryFair" (451 : Nat) ({ cls := "java/lang/System", name := "arraycopy", desc := "(Ljava/lang/Object;ILjava/lang/Object;II)V" } : Jvm.MethodName)) ∈ lw_all := lw_g (lw_at lw_m5 191 rfl) rfl
theorem q1278 : (Jvm.Cond.instanceMethod ({ cls := "CarryFair", name := "load", desc := "(I)I" } : Jvm.MethodName)) ∈ lw_all := lw_g (lw_at lw_m5 193 rfl) rfl
theorem q1279 : (Jvm.Cond.selects "CarryFair" ({ cls := "CarryFair", name := "load", desc := "(I)I" } : Jvm.MethodName) ({ cls := "CarryFair", name := "load", desc := "(I)I" } : Jvm.MethodName)) ∈ lw_all := lw_g (lw_at lw_m5 194 rfl) rfl
theorem q1280 : (Jvm.Cond.codeWith ({ cls := "CarryFair", name := "load", desc := "(I)I" } : Jvm.MethodName) prog_1_method_111_code (3 : Nat) (Option.some Jvm.ClassFile.FieldType.int) [((0 : Nat), (25 : Nat), (26 : Nat), (44 : Nat))]) ∈ lw_all := lw_g (lw_at lw_m5 195 rfl) rfl
theorem q1281 : (Jvm.Cond.methodLink "CarryFair" (466 : Nat) ({ cls := "CarryFair", name := "loads", desc := "(Ljava/lang/Object;)I" } : Jvm.MethodName)) ∈ lw_all := lw_g (lw_at lw_m5 196 rfl) rfl
theorem q1282 : (Jvm.Cond.privateMethod ({ cls := "CarryFair", name := "loads", desc := "(Ljava/lang/Object;)I" } : Jvm.MethodName)) ∈ lw_tbl := lw_at lw_m5 197 rfl
theorem q1283 : (Jvm.Cond.instanceMethod ({ cls := "CarryFair", name := "loads", desc := "(Ljava/lang/Object;)I" } : Jvm.MethodName)) ∈ lw_all := lw_g (lw_at lw_m5 198 rfl) rfl
theorem q1284 : (Jvm.Cond.code ({ cls := "CarryFair", name := "loads", desc := "(Ljava/lang/Object;)I" } : Jvm.MethodName) prog_1_method_110_code (3 : Nat) (Option.some Jvm.ClassFile.FieldType.int)) ∈ lw_all := lw_g (lw_at lw_m5 199 rfl) rfl
theorem q1285 : (Jvm.Cond.methodLink "CarryFair" (463 : Nat) ({ cls := "CarryFair", name := "number", desc := "(Ljava/lang/Object;I)I" } : Jvm.MethodName)) ∈ lw_all := lw_g (lw_at lw_m5 200 rfl) rfl
theorem q1286 : (Jvm.Cond.static ({ cls := "CarryFair", name := "number", desc := "(Ljava/lang/Object;I)I" } : Jvm.MethodName)) ∈ lw_all := lw_g (lw_at lw_m5 201 rfl) rfl
theorem q1287 : (Jvm.Cond.code ({ cls := "CarryFair", name := "number", desc := "(Ljava/lang/Object;I)I" } : Jvm.MethodName) prog_1_method_104_code (2 : Nat) (Option.some Jvm.ClassFile.FieldType.int)) ∈ lw_all := lw_g (lw_at lw_m5 202 rfl) rfl
theorem q1289 : (Jvm.Cond.instanceMethod ({ cls := "CarryFair", name := "judge", desc := "(II)I" } : Jvm.MethodName)) ∈ lw_all := lw_g (lw_at lw_m5 204 rfl) rfl
theorem q1290 : (Jvm.Cond.selects "CarryFair" ({ cls := "CarryFair", name := "judge", desc := "(II)I" } : Jvm.MethodName) ({ cls := "CarryFair", name := "judge", desc := "(II)I" } : Jvm.MethodName)) ∈ lw_all := lw_g (lw_at lw_m5 205 rfl) rfl
theorem q1291 : (Jvm.Cond.codeWith ({ cls := "CarryFair", name := "judge", desc := "(II)I" } : Jvm.MethodName) prog_1_method_113_code (4 : Nat) (Option.some Jvm.ClassFile.FieldType.int) [((0 : Nat), (36 : Nat), (37 : Nat), (44 : Nat))]) ∈ lw_all := lw_g (lw_at lw_m5 206 rfl) rfl
theorem q1292 : (Jvm.Cond.methodLink "CarryFair" (469 : Nat) ({ cls := "CarryFair", name := "gotOn", desc := "(Ljava/lang/Object;I)I" } : Jvm.MethodName)) ∈ lw_all := lw_g (lw_at lw_m5 207 rfl) rfl
theorem q1293 : (Jvm.Cond.privateMethod ({ cls := "CarryFair", name := "gotOn", desc := "(Ljava/lang/Object;I)I" } : Jvm.MethodName)) ∈ lw_tbl := lw_at lw_m5 208 rfl
theorem q1294 : (Jvm.Cond.instanceMethod ({ cls := "CarryFair", name := "gotOn", desc := "(Ljava/lang/Object;I)I" } : Jvm.MethodName)) ∈ lw_all := lw_g (lw_at lw_m5 209 rfl) rfl
theorem q1295 : (Jvm.Cond.codeWith ({ cls := "CarryFair", name := "gotOn", desc := "(Ljava/lang/Object;I)I" } : Jvm.MethodName) prog_1_method_112_code (8 : Nat) (Option.some Jvm.ClassFile.FieldType.int) [((11 : Nat), (110 : Nat), (124 : Nat), (0 : Nat)), ((124 : Nat), (126 : Nat), (124 : Nat), (0 : Nat))]) ∈ lw_all := lw_g (lw_at lw_m5 210 rfl) rfl
theorem q1297 : (Jvm.Cond.instanceMethod ({ cls := "CarryFair", name := "image", desc := "()I" } : Jvm.MethodName)) ∈ lw_all := lw_g (lw_at lw_m5 212 rfl) rfl
theorem q1298 : (Jvm.Cond.selects "CarryFair" ({ cls := "CarryFair", name := "image", desc := "()I" } : Jvm.MethodName) ({ cls := "CarryFair", name := "image", desc := "()I" } : Jvm.MethodName)) ∈ lw_all := lw_g (lw_at lw_m5 213 rfl) rfl
theorem q1299 : (Jvm.Cond.code ({ cls := "CarryFair", name := "image", desc := "()I" } : Jvm.MethodName) prog_1_method_114_code (1 : Nat) (Option.some Jvm.ClassFile.FieldType.int)) ∈ lw_all := lw_g (lw_at lw_m5 214 rfl) rfl
theorem q1301 : (Jvm.Cond.instanceMethod ({ cls := "CarryFair", name := "undo", desc := "()I" } : Jvm.MethodName)) ∈ lw_all := lw_g (lw_at lw_m5 216 rfl) rfl
theorem q1302 : (Jvm.Cond.selects "CarryFair" ({ cls := "CarryFair", name := "undo", desc := "()I" } : Jvm.MethodName) ({ cls := "CarryFair", name := "undo", desc := "()I" } : Jvm.MethodName)) ∈ lw_all := lw_g (lw_at lw_m5 217 rfl) rfl
theorem q1303 : (Jvm.Cond.code ({ cls := "CarryFair", name := "undo", desc := "()I" } : Jvm.MethodName) prog_1_method_115_code (1 : Nat) (Option.some Jvm.ClassFile.FieldType.int)) ∈ lw_all := lw_g (lw_at lw_m5 218 rfl) rfl
theorem q1305 : (Jvm.Cond.instanceMethod ({ cls := "CarryFair", name := "tear", desc := "()I" } : Jvm.MethodName)) ∈ lw_all := lw_g (lw_at lw_m5 220 rfl) rfl
theorem q1306 : (Jvm.Cond.selects "CarryFair" ({ cls := "CarryFair", name := "tear", desc := "()I" } : Jvm.MethodName) ({ cls := "CarryFair", name := "tear", desc := "()I" } : Jvm.MethodName)) ∈ lw_all := lw_g (lw_at lw_m5 221 rfl) rfl
theorem q1307 : (Jvm.Cond.code ({ cls := "CarryFair", name := "tear", desc := "()I" } : Jvm.MethodName) prog_1_method_116_code (2 : Nat) (Option.some Jvm.ClassFile.FieldType.int)) ∈ lw_all := lw_g (lw_at lw_m5 222 rfl) rfl
theorem q1309 : (Jvm.Cond.instanceMethod ({ cls := "CarryFair", name := "count", desc := "(I)I" } : Jvm.MethodName)) ∈ lw_all := lw_g (lw_at lw_m5 224 rfl) rfl
theorem q1310 : (Jvm.Cond.selects "CarryFair" ({ cls := "CarryFair", name := "count", desc := "(I)I" } : Jvm.MethodName) ({ cls := "CarryFair", name := "count", desc := "(I)I" } : Jvm.MethodName)) ∈ lw_all := lw_g (lw_at lw_m5 225 rfl) rfl
theorem q1311 : (Jvm.Cond.code ({ cls := "CarryFair", name := "count", desc := "(I)I" } : Jvm.MethodName) prog_1_method_117_code (2 : Nat) (Option.some Jvm.ClassFile.FieldType.int)) ∈ lw_all := lw_g (lw_at lw_m5 226 rfl) rfl
theorem q1312 : (Jvm.Cond.methodLink "CarryFair" (476 : Nat) ({ cls := "CarryFair", name := "holding", desc := "()I" } : Jvm.MethodName)) ∈ lw_all := lw_g (lw_at lw_m5 227 rfl) rfl
theorem q1313 : (Jvm.Cond.privateMethod ({ cls := "CarryFair", name := "holding", desc := "()I" } : Jvm.MethodName)) ∈ lw_tbl := lw_at lw_m5 228 rfl
theorem q1314 : (Jvm.Cond.instanceMethod ({ cls := "CarryFair", name := "holding", desc := "()I" } : Jvm.MethodName)) ∈ lw_all := lw_g (lw_at lw_m5 229 rfl) rfl
theorem q1315 : (Jvm.Cond.code ({ cls := "CarryFair", name := "holding", desc := "()I" } : Jvm.MethodName) prog_1_method_97_code (6 : Nat) (Option.some Jvm.ClassFile.FieldType.int)) ∈ lw_all := lw_g (lw_at lw_m5 230 rfl) rfl
theorem q1317 : (Jvm.Cond.instanceMethod ({ cls := "CarryFair", name := "status", desc := "(I)I" } : Jvm.MethodName)) ∈ lw_all := lw_g (lw_at lw_m5 232 rfl) rfl
theorem q1318 : (Jvm.Cond.selects "CarryFair" ({ cls := "CarryFair", name := "status", desc := "(I)I" } : Jvm.MethodName) ({ cls := "CarryFair", name := "status", desc := "(I)I" } : Jvm.MethodName)) ∈ lw_all := lw_g (lw_at lw_m5 233 rfl) rfl
theorem q1319 : (Jvm.Cond.code ({ cls := "CarryFair", name := "status", desc := "(I)I" } : Jvm.MethodName) prog_1_method_118_code (4 : Nat) (Option.some Jvm.ClassFile.FieldType.int)) ∈ lw_all := lw_g (lw_at lw_m5 234 rfl) rfl
theorem in_X0 : ∀ w ∈ wsX00, w ∈ lw_all := lw_in wsX00 [459, 461, 463, 465, 467, 469, 471, 473, 475, 477, 479, 481, 483, 485, 487, 489, 491, 493, 495, 497] (by decide +kernel) (by decide +kernel)
