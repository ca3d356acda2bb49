/-! CarryFairModel -/
set_option maxRecDepth 100000
def RX13 : String := "CarryFairModel"
def TX13 : u_T := fun k => match k with
  | 0 => ("CarryFairModel", "now", "[I", true)
  | 1 => ("CarryFairModel", "kept", "[I", true)
  | 2 => ("CarryFairModel", "aside", "[I", true)
  | 3 => ("CarryFairModel", "isKept", "Z", false)
  | 4 => ("CarryFairModel", "found", "[I", true)
  | 5 => ("CarryFairModel", "far", "[I", true)
  | 6 => ("CarryFairModel", "doneMany", "I", false)
  | 7 => ("CarryFairModel", "least", "[I", true)
  | 8 => ("CarryFairModel", "chosen", "[I", true)
  | 9 => ("CarryFairModel", "power", "[I", true)
  | 10 => ("CarryFairModel", "bestSet", "I", false)
  | 11 => ("CarryFairModel", "bestYards", "I", false)
  | 12 => ("CarryFairModel", "bestWay", "I", false)
  | 13 => ("CarryFairModel", "tape", "[I", true)
  | 14 => ("CarryFairModel", "taped", "I", false)
  | 15 => ("CarryFairModel", "begins", "I", false)
  | 16 => ("CarryFairModel", "ends", "I", false)
  | 17 => ("CarryFairModel", "sort", "I", false)
  | 18 => ("CarryFairModel", "value", "I", false)
  | 19 => ("CarryFairModel", "isWrong", "Z", false)
  | 20 => ("CarryFairModel", "kinds", "[Ljava/lang/String;", true)
  | 21 => ("CarryFairModel", "items", "[I", true)
  | 22 => ("CarryFairModel", "itemMany", "I", false)
  | 23 => ("CarryFairModel", "carrierThen", "I", false)
  | 24 => ("CarryFairModel", "errandThen", "I", false)
  | 25 => ("CarryFairModel", "wareThen", "I", false)
  | 26 => ("CarryFairModel", "widths", "[I", true)
  | 27 => ("CarryFairModel", "sizes", "[I", true)
  | 28 => ("CarryFairModel", "numbers", "[I", true)
  | _ => ("CarryFairModel", "moved", "[I", true)
def tyX13 : Nat → FieldType := fun k => match k with
  | 0 => .array .int
  | 1 => .array .int
  | 2 => .array .int
  | 3 => .boolean
  | 4 => .array .int
  | 5 => .array .int
  | 6 => .int
  | 7 => .array .int
  | 8 => .array .int
  | 9 => .array .int
  | 10 => .int
  | 11 => .int
  | 12 => .int
  | 13 => .array .int
  | 14 => .int
  | 15 => .int
  | 16 => .int
  | 17 => .int
  | 18 => .int
  | 19 => .boolean
  | 20 => .array (.object "java/lang/String")
  | 21 => .array .int
  | 22 => .int
  | 23 => .int
  | 24 => .int
  | 25 => .int
  | 26 => .array .int
  | 27 => .array .int
  | 28 => .array .int
  | _ => .array .int
abbrev wsX130 : List Cond := u_ws RX13 TX13 30
set_option maxRecDepth 100000 in
theorem nmX13 : ∀ a, a < 30 → ∀ b, b < 30 → a ≠ b → (TX13 a).2.1 ≠ (TX13 b).2.1 := by decide +kernel
set_option maxRecDepth 100000 in
theorem tyX13_ok : ∀ k, k < 30 → parseFieldDescriptor (TX13 k).2.2.1 = some (tyX13 k) := by decide +kernel
abbrev cX13_init : ByteArray := prog_16_method_1_code
def yX13_init : MethodName := ⟨RX13, "<init>", "()V"⟩
def dkwX13_init_9 : List UInt8 := [180, 0, 9, 16, 46, 27, 96, 2, 79, 132, 1, 1, 167, 255, 237, 177]
abbrev dktX13_init_9 : List UInt8 := dkwX13_init_9 ++ []
def dkwX13_init_8 : List UInt8 := [188, 10, 181, 0, 69, 42, 180, 0, 9, 16, 45, 4, 79, 3, 60, 27, 16, 10, 162, 0, 19, 42]
abbrev dktX13_init_8 : List UInt8 := dkwX13_init_8 ++ dktX13_init_9
def dkwX13_init_7 : List UInt8 := [188, 10, 181, 0, 60, 42, 7, 188, 10, 181, 0, 63, 42, 17, 0, 160, 188, 10, 181, 0, 66, 42, 16, 40]
abbrev dktX13_init_7 : List UInt8 := dkwX13_init_7 ++ dktX13_init_8
def dkwX13_init_6 : List UInt8 := [8, 18, 49, 83, 89, 16, 6, 18, 51, 83, 181, 0, 53, 42, 17, 2, 88, 188, 10, 181, 0, 57, 42, 7]
abbrev dktX13_init_6 : List UInt8 := dkwX13_init_6 ++ dktX13_init_7
def dkwX13_init_5 : List UInt8 := [18, 39, 83, 89, 4, 18, 41, 83, 89, 5, 18, 43, 83, 89, 6, 18, 45, 83, 89, 7, 18, 47, 83, 89]
abbrev dktX13_init_5 : List UInt8 := dkwX13_init_5 ++ dktX13_init_6
def dkwX13_init_4 : List UInt8 := [17, 0, 243, 79, 181, 0, 31, 42, 16, 120, 188, 10, 181, 0, 34, 42, 16, 7, 189, 0, 37, 89, 3]
abbrev dktX13_init_4 : List UInt8 := dkwX13_init_4 ++ dktX13_init_5
def dkwX13_init_3 : List UInt8 := [79, 89, 4, 6, 79, 89, 5, 16, 9, 79, 89, 6, 16, 27, 79, 89, 7, 16, 81, 79, 89, 8]
abbrev dktX13_init_3 : List UInt8 := dkwX13_init_3 ++ dktX13_init_4
def dkwX13_init_2 : List UInt8 := [42, 17, 6, 165, 188, 10, 181, 0, 25, 42, 8, 188, 10, 181, 0, 28, 42, 16, 6, 188, 10, 89, 3, 4]
abbrev dktX13_init_2 : List UInt8 := dkwX13_init_2 ++ dktX13_init_3
def dkwX13_init_1 : List UInt8 := [17, 0, 138, 188, 10, 181, 0, 16, 42, 16, 8, 188, 10, 181, 0, 19, 42, 16, 49, 188, 10, 181, 0, 22]
abbrev dktX13_init_1 : List UInt8 := dkwX13_init_1 ++ dktX13_init_2
def dkwX13_init_0 : List UInt8 := [42, 183, 0, 1, 42, 17, 0, 138, 188, 10, 181, 0, 9, 42, 17, 0, 138, 188, 10, 181, 0, 13, 42]
abbrev dktX13_init_0 : List UInt8 := dkwX13_init_0 ++ dktX13_init_1
theorem dksX13_init_0 : cX13_init.data.toList.drop 0 = dktX13_init_0 := by decide +kernel
theorem dksX13_init_1 : cX13_init.data.toList.drop 23 = dktX13_init_1 := dk_seg dksX13_init_0 23 rfl rfl
theorem dksX13_init_2 : cX13_init.data.toList.drop 47 = dktX13_init_2 := dk_seg dksX13_init_1 24 rfl rfl
theorem dksX13_init_3 : cX13_init.data.toList.drop 71 = dktX13_init_3 := dk_seg dksX13_init_2 24 rfl rfl
theorem dksX13_init_4 : cX13_init.data.toList.drop 93 = dktX13_init_4 := dk_seg dksX13_init_3 22 rfl rfl
theorem dksX13_init_5 : cX13_init.data.toList.drop 116 = dktX13_init_5 := dk_seg dksX13_init_4 23 rfl rfl
theorem dksX13_init_6 : cX13_init.data.toList.drop 140 = dktX13_init_6 := dk_seg dksX13_init_5 24 rfl rfl
theorem dksX13_init_7 : cX13_init.data.toList.drop 164 = dktX13_init_7 := dk_seg dksX13_init_6 24 rfl rfl
theorem dksX13_init_8 : cX13_init.data.toList.drop 188 = dktX13_init_8 := dk_seg dksX13_init_7 24 rfl rfl
theorem dksX13_init_9 : cX13_init.data.toList.drop 210 = dktX13_init_9 := dk_seg dksX13_init_8 22 rfl rfl
theorem dX13_init_0 : decode cX13_init 0 = .ok (.aload_n 0, 1) := dk_42 (dk_at dksX13_init_0 0 rfl rfl)
theorem dX13_init_1 : decode cX13_init 1 = .ok (.invokespecial 1, 3) := dk_183 0 1 (dk_at dksX13_init_0 1 rfl rfl)
theorem dX13_init_4 : decode cX13_init 4 = .ok (.aload_n 0, 1) := dk_42 (dk_at dksX13_init_0 4 rfl rfl)
theorem dX13_init_5 : decode cX13_init 5 = .ok (.sipush 138, 3) := dk_17 0 138 (dk_at dksX13_init_0 5 rfl rfl)
theorem dX13_init_8 : decode cX13_init 8 = .ok (.newarray .int, 2) := dk_188_10 (dk_at dksX13_init_0 8 rfl rfl)
theorem dX13_init_10 : decode cX13_init 10 = .ok (.putfield 9, 3) := dk_181 0 9 (dk_at dksX13_init_0 10 rfl rfl)
theorem dX13_init_13 : decode cX13_init 13 = .ok (.aload_n 0, 1) := dk_42 (dk_at dksX13_init_0 13 rfl rfl)
theorem dX13_init_14 : decode cX13_init 14 = .ok (.sipush 138, 3) := dk_17 0 138 (dk_at dksX13_init_0 14 rfl rfl)
theorem dX13_init_17 : decode cX13_init 17 = .ok (.newarray .int, 2) := dk_188_10 (dk_at dksX13_init_0 17 rfl rfl)
theorem dX13_init_19 : decode cX13_init 19 = .ok (.putfield 13, 3) := dk_181 0 13 (dk_at dksX13_init_0 19 rfl rfl)
theorem dX13_init_22 : decode cX13_init 22 = .ok (.aload_n 0, 1) := dk_42 (dk_at dksX13_init_0 22 rfl rfl)
theorem dX13_init_23 : decode cX13_init 23 = .ok (.sipush 138, 3) := dk_17 0 138 (dk_at dksX13_init_1 0 rfl rfl)
theorem dX13_init_26 : decode cX13_init 26 = .ok (.newarray .int, 2) := dk_188_10 (dk_at dksX13_init_1 3 rfl rfl)
theorem dX13_init_28 : decode cX13_init 28 = .ok (.putfield 16, 3) := dk_181 0 16 (dk_at dksX13_init_1 5 rfl rfl)
theorem dX13_init_31 : decode cX13_init 31 = .ok (.aload_n 0, 1) := dk_42 (dk_at dksX13_init_1 8 rfl rfl)
theorem dX13_init_32 : decode cX13_init 32 = .ok (.bipush 8, 2) := dk_16 8 (dk_at dksX13_init_1 9 rfl rfl)
theorem dX13_init_34 : decode cX13_init 34 = .ok (.newarray .int, 2) := dk_188_10 (dk_at dksX13_init_1 11 rfl rfl)
theorem dX13_init_36 : decode cX13_init 36 = .ok (.putfield 19, 3) := dk_181 0 19 (dk_at dksX13_init_1 13 rfl rfl)
theorem dX13_init_39 : decode cX13_init 39 = .ok (.aload_n 0, 1) := dk_42 (dk_at dksX13_init_1 16 rfl rfl)
theorem dX13_init_40 : decode cX13_init 40 = .ok (.bipush 49, 2) := dk_16 49 (dk_at dksX13_init_1 17 rfl rfl)
theorem dX13_init_42 : decode cX13_init 42 = .ok (.newarray .int, 2) := dk_188_10 (dk_at dksX13_init_1 19 rfl rfl)
theorem dX13_init_44 : decode cX13_init 44 = .ok (.putfield 22, 3) := dk_181 0 22 (dk_at dksX13_init_1 21 rfl rfl)
theorem dX13_init_47 : decode cX13_init 47 = .ok (.aload_n 0, 1) := dk_42 (dk_at dksX13_init_2 0 rfl rfl)
theorem dX13_init_48 : decode cX13_init 48 = .ok (.sipush 1701, 3) := dk_17 6 165 (dk_at dksX13_init_2 1 rfl rfl)
theorem dX13_init_51 : decode cX13_init 51 = .ok (.newarray .int, 2) := dk_188_10 (dk_at dksX13_init_2 4 rfl rfl)
theorem dX13_init_53 : decode cX13_init 53 = .ok (.putfield 25, 3) := dk_181 0 25 (dk_at dksX13_init_2 6 rfl rfl)
theorem dX13_init_56 : decode cX13_init 56 = .ok (.aload_n 0, 1) := dk_42 (dk_at dksX13_init_2 9 rfl rfl)
theorem dX13_init_57 : decode cX13_init 57 = .ok (.iconst 5, 1) := dk_8 (dk_at dksX13_init_2 10 rfl rfl)
theorem dX13_init_58 : decode cX13_init 58 = .ok (.newarray .int, 2) := dk_188_10 (dk_at dksX13_init_2 11 rfl rfl)
theorem dX13_init_60 : decode cX13_init 60 = .ok (.putfield 28, 3) := dk_181 0 28 (dk_at dksX13_init_2 13 rfl rfl)
theorem dX13_init_63 : decode cX13_init 63 = .ok (.aload_n 0, 1) := dk_42 (dk_at dksX13_init_2 16 rfl rfl)
theorem dX13_init_64 : decode cX13_init 64 = .ok (.bipush 6, 2) := dk_16 6 (dk_at dksX13_init_2 17 rfl rfl)
theorem dX13_init_66 : decode cX13_init 66 = .ok (.newarray .int, 2) := dk_188_10 (dk_at dksX13_init_2 19 rfl rfl)
theorem dX13_init_68 : decode cX13_init 68 = .ok (.dup, 1) := dk_89 (dk_at dksX13_init_2 21 rfl rfl)
theorem dX13_init_69 : decode cX13_init 69 = .ok (.iconst 0, 1) := dk_3 (dk_at dksX13_init_2 22 rfl rfl)
theorem dX13_init_70 : decode cX13_init 70 = .ok (.iconst 1, 1) := dk_4 (dk_at dksX13_init_2 23 rfl rfl)
theorem dX13_init_71 : decode cX13_init 71 = .ok (.iastore, 1) := dk_79 (dk_at dksX13_init_3 0 rfl rfl)
theorem dX13_init_72 : decode cX13_init 72 = .ok (.dup, 1) := dk_89 (dk_at dksX13_init_3 1 rfl rfl)
theorem dX13_init_73 : decode cX13_init 73 = .ok (.iconst 1, 1) := dk_4 (dk_at dksX13_init_3 2 rfl rfl)
theorem dX13_init_74 : decode cX13_init 74 = .ok (.iconst 3, 1) := dk_6 (dk_at dksX13_init_3 3 rfl rfl)
theorem dX13_init_75 : decode cX13_init 75 = .ok (.iastore, 1) := dk_79 (dk_at dksX13_init_3 4 rfl rfl)
theorem dX13_init_76 : decode cX13_init 76 = .ok (.dup, 1) := dk_89 (dk_at dksX13_init_3 5 rfl rfl)
theorem dX13_init_77 : decode cX13_init 77 = .ok (.iconst 2, 1) := dk_5 (dk_at dksX13_init_3 6 rfl rfl)
theorem dX13_init_78 : decode cX13_init 78 = .ok (.bipush 9, 2) := dk_16 9 (dk_at dksX13_init_3 7 rfl rfl)
theorem dX13_init_80 : decode cX13_init 80 = .ok (.iastore, 1) := dk_79 (dk_at dksX13_init_3 9 rfl rfl)
theorem dX13_init_81 : decode cX13_init 81 = .ok (.dup, 1) := dk_89 (dk_at dksX13_init_3 10 rfl rfl)
theorem dX13_init_82 : decode cX13_init 82 = .ok (.iconst 3, 1) := dk_6 (dk_at dksX13_init_3 11 rfl rfl)
theorem dX13_init_83 : decode cX13_init 83 = .ok (.bipush 27, 2) := dk_16 27 (dk_at dksX13_init_3 12 rfl rfl)
theorem dX13_init_85 : decode cX13_init 85 = .ok (.iastore, 1) := dk_79 (dk_at dksX13_init_3 14 rfl rfl)
theorem dX13_init_86 : decode cX13_init 86 = .ok (.dup, 1) := dk_89 (dk_at dksX13_init_3 15 rfl rfl)
theorem dX13_init_87 : decode cX13_init 87 = .ok (.iconst 4, 1) := dk_7 (dk_at dksX13_init_3 16 rfl rfl)
theorem dX13_init_88 : decode cX13_init 88 = .ok (.bipush 81, 2) := dk_16 81 (dk_at dksX13_init_3 17 rfl rfl)
theorem dX13_init_90 : decode cX13_init 90 = .ok (.iastore, 1) := dk_79 (dk_at dksX13_init_3 19 rfl rfl)
theorem dX13_init_91 : decode cX13_init 91 = .ok (.dup, 1) := dk_89 (dk_at dksX13_init_3 20 rfl rfl)
theorem dX13_init_92 : decode cX13_init 92 = .ok (.iconst 5, 1) := dk_8 (dk_at dksX13_init_3 21 rfl rfl)
theorem dX13_init_93 : decode cX13_init 93 = .ok (.sipush 243, 3) := dk_17 0 243 (dk_at dksX13_init_4 0 rfl rfl)
theorem dX13_init_96 : decode cX13_init 96 = .ok (.iastore, 1) := dk_79 (dk_at dksX13_init_4 3 rfl rfl)
theorem dX13_init_97 : decode cX13_init 97 = .ok (.putfield 31, 3) := dk_181 0 31 (dk_at dksX13_init_4 4 rfl rfl)
theorem dX13_init_100 : decode cX13_init 100 = .ok (.aload_n 0, 1) := dk_42 (dk_at dksX13_init_4 7 rfl rfl)
theorem dX13_init_101 : decode cX13_init 101 = .ok (.bipush 120, 2) := dk_16 120 (dk_at dksX13_init_4 8 rfl rfl)
theorem dX13_init_103 : decode cX13_init 103 = .ok (.newarray .int, 2) := dk_188_10 (dk_at dksX13_init_4 10 rfl rfl)
theorem dX13_init_105 : decode cX13_init 105 = .ok (.putfield 34, 3) := dk_181 0 34 (dk_at dksX13_init_4 12 rfl rfl)
theorem dX13_init_108 : decode cX13_init 108 = .ok (.aload_n 0, 1) := dk_42 (dk_at dksX13_init_4 15 rfl rfl)
theorem dX13_init_109 : decode cX13_init 109 = .ok (.bipush 7, 2) := dk_16 7 (dk_at dksX13_init_4 16 rfl rfl)
theorem dX13_init_111 : decode cX13_init 111 = .ok (.anewarray 37, 3) := dk_189 0 37 (dk_at dksX13_init_4 18 rfl rfl)
theorem dX13_init_114 : decode cX13_init 114 = .ok (.dup, 1) := dk_89 (dk_at dksX13_init_4 21 rfl rfl)
theorem dX13_init_115 : decode cX13_init 115 = .ok (.iconst 0, 1) := dk_3 (dk_at dksX13_init_4 22 rfl rfl)
theorem dX13_init_116 : decode cX13_init 116 = .ok (.ldc 39, 2) := dk_18 39 (dk_at dksX13_init_5 0 rfl rfl)
theorem dX13_init_118 : decode cX13_init 118 = .ok (.aastore, 1) := dk_83 (dk_at dksX13_init_5 2 rfl rfl)
theorem dX13_init_119 : decode cX13_init 119 = .ok (.dup, 1) := dk_89 (dk_at dksX13_init_5 3 rfl rfl)
theorem dX13_init_120 : decode cX13_init 120 = .ok (.iconst 1, 1) := dk_4 (dk_at dksX13_init_5 4 rfl rfl)
theorem dX13_init_121 : decode cX13_init 121 = .ok (.ldc 41, 2) := dk_18 41 (dk_at dksX13_init_5 5 rfl rfl)
theorem dX13_init_123 : decode cX13_init 123 = .ok (.aastore, 1) := dk_83 (dk_at dksX13_init_5 7 rfl rfl)
theorem dX13_init_124 : decode cX13_init 124 = .ok (.dup, 1) := dk_89 (dk_at dksX13_init_5 8 rfl rfl)
theorem dX13_init_125 : decode cX13_init 125 = .ok (.iconst 2, 1) := dk_5 (dk_at dksX13_init_5 9 rfl rfl)
theorem dX13_init_126 : decode cX13_init 126 = .ok (.ldc 43, 2) := dk_18 43 (dk_at dksX13_init_5 10 rfl rfl)
theorem dX13_init_128 : decode cX13_init 128 = .ok (.aastore, 1) := dk_83 (dk_at dksX13_init_5 12 rfl rfl)
theorem dX13_init_129 : decode cX13_init 129 = .ok (.dup, 1) := dk_89 (dk_at dksX13_init_5 13 rfl rfl)
theorem dX13_init_130 : decode cX13_init 130 = .ok (.iconst 3, 1) := dk_6 (dk_at dksX13_init_5 14 rfl rfl)
theorem dX13_init_131 : decode cX13_init 131 = .ok (.ldc 45, 2) := dk_18 45 (dk_at dksX13_init_5 15 rfl rfl)
theorem dX13_init_133 : decode cX13_init 133 = .ok (.aastore, 1) := dk_83 (dk_at dksX13_init_5 17 rfl rfl)
theorem dX13_init_134 : decode cX13_init 134 = .ok (.dup, 1) := dk_89 (dk_at dksX13_init_5 18 rfl rfl)
theorem dX13_init_135 : decode cX13_init 135 = .ok (.iconst 4, 1) := dk_7 (dk_at dksX13_init_5 19 rfl rfl)
theorem dX13_init_136 : decode cX13_init 136 = .ok (.ldc 47, 2) := dk_18 47 (dk_at dksX13_init_5 20 rfl rfl)
theorem dX13_init_138 : decode cX13_init 138 = .ok (.aastore, 1) := dk_83 (dk_at dksX13_init_5 22 rfl rfl)
theorem dX13_init_139 : decode cX13_init 139 = .ok (.dup, 1) := dk_89 (dk_at dksX13_init_5 23 rfl rfl)
theorem dX13_init_140 : decode cX13_init 140 = .ok (.iconst 5, 1) := dk_8 (dk_at dksX13_init_6 0 rfl rfl)
theorem dX13_init_141 : decode cX13_init 141 = .ok (.ldc 49, 2) := dk_18 49 (dk_at dksX13_init_6 1 rfl rfl)
theorem dX13_init_143 : decode cX13_init 143 = .ok (.aastore, 1) := dk_83 (dk_at dksX13_init_6 3 rfl rfl)
theorem dX13_init_144 : decode cX13_init 144 = .ok (.dup, 1) := dk_89 (dk_at dksX13_init_6 4 rfl rfl)
theorem dX13_init_145 : decode cX13_init 145 = .ok (.bipush 6, 2) := dk_16 6 (dk_at dksX13_init_6 5 rfl rfl)
theorem dX13_init_147 : decode cX13_init 147 = .ok (.ldc 51, 2) := dk_18 51 (dk_at dksX13_init_6 7 rfl rfl)
theorem dX13_init_149 : decode cX13_init 149 = .ok (.aastore, 1) := dk_83 (dk_at dksX13_init_6 9 rfl rfl)
theorem dX13_init_150 : decode cX13_init 150 = .ok (.putfield 53, 3) := dk_181 0 53 (dk_at dksX13_init_6 10 rfl rfl)
theorem dX13_init_153 : decode cX13_init 153 = .ok (.aload_n 0, 1) := dk_42 (dk_at dksX13_init_6 13 rfl rfl)
theorem dX13_init_154 : decode cX13_init 154 = .ok (.sipush 600, 3) := dk_17 2 88 (dk_at dksX13_init_6 14 rfl rfl)
theorem dX13_init_157 : decode cX13_init 157 = .ok (.newarray .int, 2) := dk_188_10 (dk_at dksX13_init_6 17 rfl rfl)
theorem dX13_init_159 : decode cX13_init 159 = .ok (.putfield 57, 3) := dk_181 0 57 (dk_at dksX13_init_6 19 rfl rfl)
theorem dX13_init_162 : decode cX13_init 162 = .ok (.aload_n 0, 1) := dk_42 (dk_at dksX13_init_6 22 rfl rfl)
theorem dX13_init_163 : decode cX13_init 163 = .ok (.iconst 4, 1) := dk_7 (dk_at dksX13_init_6 23 rfl rfl)
theorem dX13_init_164 : decode cX13_init 164 = .ok (.newarray .int, 2) := dk_188_10 (dk_at dksX13_init_7 0 rfl rfl)
theorem dX13_init_166 : decode cX13_init 166 = .ok (.putfield 60, 3) := dk_181 0 60 (dk_at dksX13_init_7 2 rfl rfl)
theorem dX13_init_169 : decode cX13_init 169 = .ok (.aload_n 0, 1) := dk_42 (dk_at dksX13_init_7 5 rfl rfl)
theorem dX13_init_170 : decode cX13_init 170 = .ok (.iconst 4, 1) := dk_7 (dk_at dksX13_init_7 6 rfl rfl)
theorem dX13_init_171 : decode cX13_init 171 = .ok (.newarray .int, 2) := dk_188_10 (dk_at dksX13_init_7 7 rfl rfl)
theorem dX13_init_173 : decode cX13_init 173 = .ok (.putfield 63, 3) := dk_181 0 63 (dk_at dksX13_init_7 9 rfl rfl)
theorem dX13_init_176 : decode cX13_init 176 = .ok (.aload_n 0, 1) := dk_42 (dk_at dksX13_init_7 12 rfl rfl)
theorem dX13_init_177 : decode cX13_init 177 = .ok (.sipush 160, 3) := dk_17 0 160 (dk_at dksX13_init_7 13 rfl rfl)
theorem dX13_init_180 : decode cX13_init 180 = .ok (.newarray .int, 2) := dk_188_10 (dk_at dksX13_init_7 16 rfl rfl)
theorem dX13_init_182 : decode cX13_init 182 = .ok (.putfield 66, 3) := dk_181 0 66 (dk_at dksX13_init_7 18 rfl rfl)
theorem dX13_init_185 : decode cX13_init 185 = .ok (.aload_n 0, 1) := dk_42 (dk_at dksX13_init_7 21 rfl rfl)
theorem dX13_init_186 : decode cX13_init 186 = .ok (.bipush 40, 2) := dk_16 40 (dk_at dksX13_init_7 22 rfl rfl)
theorem dX13_init_188 : decode cX13_init 188 = .ok (.newarray .int, 2) := dk_188_10 (dk_at dksX13_init_8 0 rfl rfl)
theorem dX13_init_190 : decode cX13_init 190 = .ok (.putfield 69, 3) := dk_181 0 69 (dk_at dksX13_init_8 2 rfl rfl)
theorem dX13_init_193 : decode cX13_init 193 = .ok (.aload_n 0, 1) := dk_42 (dk_at dksX13_init_8 5 rfl rfl)
theorem dX13_init_194 : decode cX13_init 194 = .ok (.getfield 9, 3) := dk_180 0 9 (dk_at dksX13_init_8 6 rfl rfl)
theorem dX13_init_197 : decode cX13_init 197 = .ok (.bipush 45, 2) := dk_16 45 (dk_at dksX13_init_8 9 rfl rfl)
theorem dX13_init_199 : decode cX13_init 199 = .ok (.iconst 1, 1) := dk_4 (dk_at dksX13_init_8 11 rfl rfl)
theorem dX13_init_200 : decode cX13_init 200 = .ok (.iastore, 1) := dk_79 (dk_at dksX13_init_8 12 rfl rfl)
theorem dX13_init_201 : decode cX13_init 201 = .ok (.iconst 0, 1) := dk_3 (dk_at dksX13_init_8 13 rfl rfl)
theorem dX13_init_202 : decode cX13_init 202 = .ok (.istore_n 1, 1) := dk_60 (dk_at dksX13_init_8 14 rfl rfl)
theorem dX13_init_203 : decode cX13_init 203 = .ok (.iload_n 1, 1) := dk_27 (dk_at dksX13_init_8 15 rfl rfl)
theorem dX13_init_204 : decode cX13_init 204 = .ok (.bipush 10, 2) := dk_16 10 (dk_at dksX13_init_8 16 rfl rfl)
theorem dX13_init_206 : decode cX13_init 206 = .ok (.if_icmp .ge 19, 3) := dk_162 0 19 (dk_at dksX13_init_8 18 rfl rfl)
theorem dX13_init_209 : decode cX13_init 209 = .ok (.aload_n 0, 1) := dk_42 (dk_at dksX13_init_8 21 rfl rfl)
theorem dX13_init_210 : decode cX13_init 210 = .ok (.getfield 9, 3) := dk_180 0 9 (dk_at dksX13_init_9 0 rfl rfl)
theorem dX13_init_213 : decode cX13_init 213 = .ok (.bipush 46, 2) := dk_16 46 (dk_at dksX13_init_9 3 rfl rfl)
theorem dX13_init_215 : decode cX13_init 215 = .ok (.iload_n 1, 1) := dk_27 (dk_at dksX13_init_9 5 rfl rfl)
theorem dX13_init_216 : decode cX13_init 216 = .ok (.iadd, 1) := dk_96 (dk_at dksX13_init_9 6 rfl rfl)
theorem dX13_init_217 : decode cX13_init 217 = .ok (.iconst (-1), 1) := dk_2 (dk_at dksX13_init_9 7 rfl rfl)
theorem dX13_init_218 : decode cX13_init 218 = .ok (.iastore, 1) := dk_79 (dk_at dksX13_init_9 8 rfl rfl)
theorem dX13_init_219 : decode cX13_init 219 = .ok (.iinc 1 1, 3) := dk_132 1 1 (dk_at dksX13_init_9 9 rfl rfl)
theorem dX13_init_222 : decode cX13_init 222 = .ok (.goto (-19), 3) := dk_167 255 237 (dk_at dksX13_init_9 12 rfl rfl)
theorem dX13_init_225 : decode cX13_init 225 = .ok (.return_, 1) := dk_177 (dk_at dksX13_init_9 15 rfl rfl)
abbrev cX13_carrier : ByteArray := prog_16_method_20_code
def yX13_carrier : MethodName := ⟨RX13, "carrier", "(I)I"⟩
def dkwX13_carrier_1 : List UInt8 := [160, 0, 12, 42, 18, 96, 182, 0, 92, 167, 0, 11, 42, 27, 3, 16, 20, 182, 0, 97, 172]
abbrev dktX13_carrier_1 : List UInt8 := dkwX13_carrier_1 ++ []
def dkwX13_carrier_0 : List UInt8 := [27, 184, 0, 88, 154, 0, 10, 42, 18, 72, 182, 0, 92, 172, 42, 180, 0, 9, 16, 42, 46, 16, 6]
abbrev dktX13_carrier_0 : List UInt8 := dkwX13_carrier_0 ++ dktX13_carrier_1
theorem dksX13_carrier_0 : cX13_carrier.data.toList.drop 0 = dktX13_carrier_0 := by decide +kernel
theorem dksX13_carrier_1 : cX13_carrier.data.toList.drop 23 = dktX13_carrier_1 := dk_seg dksX13_carrier_0 23 rfl rfl
theorem dX13_carrier_0 : decode cX13_carrier 0 = .ok (.iload_n 1, 1) := dk_27 (dk_at dksX13_carrier_0 0 rfl rfl)
theorem dX13_carrier_1 : decode cX13_carrier 1 = .ok (.invokestatic 88, 3) := dk_184 0 88 (dk_at dksX13_carrier_0 1 rfl rfl)
theorem dX13_carrier_4 : decode cX13_carrier 4 = .ok (.ifCond .ne 10, 3) := dk_154 0 10 (dk_at dksX13_carrier_0 4 rfl rfl)
theorem dX13_carrier_7 : decode cX13_carrier 7 = .ok (.aload_n 0, 1) := dk_42 (dk_at dksX13_carrier_0 7 rfl rfl)
theorem dX13_carrier_8 : decode cX13_carrier 8 = .ok (.ldc 72, 2) := dk_18 72 (dk_at dksX13_carrier_0 8 rfl rfl)
theorem dX13_carrier_10 : decode cX13_carrier 10 = .ok (.invokevirtual 92, 3) := dk_182 0 92 (dk_at dksX13_carrier_0 10 rfl rfl)
theorem dX13_carrier_13 : decode cX13_carrier 13 = .ok (.ireturn, 1) := dk_172 (dk_at dksX13_carrier_0 13 rfl rfl)
theorem dX13_carrier_14 : decode cX13_carrier 14 = .ok (.aload_n 0, 1) := dk_42 (dk_at dksX13_carrier_0 14 rfl rfl)
theorem dX13_carrier_15 : decode cX13_carrier 15 = .ok (.getfield 9, 3) := dk_180 0 9 (dk_at dksX13_carrier_0 15 rfl rfl)
theorem dX13_carrier_18 : decode cX13_carrier 18 = .ok (.bipush 42, 2) := dk_16 42 (dk_at dksX13_carrier_0 18 rfl rfl)
theorem dX13_carrier_20 : decode cX13_carrier 20 = .ok (.iaload, 1) := dk_46 (dk_at dksX13_carrier_0 20 rfl rfl)
theorem dX13_carrier_21 : decode cX13_carrier 21 = .ok (.bipush 6, 2) := dk_16 6 (dk_at dksX13_carrier_0 21 rfl rfl)
theorem dX13_carrier_23 : decode cX13_carrier 23 = .ok (.if_icmp .ne 12, 3) := dk_160 0 12 (dk_at dksX13_carrier_1 0 rfl rfl)
theorem dX13_carrier_26 : decode cX13_carrier 26 = .ok (.aload_n 0, 1) := dk_42 (dk_at dksX13_carrier_1 3 rfl rfl)
theorem dX13_carrier_27 : decode cX13_carrier 27 = .ok (.ldc 96, 2) := dk_18 96 (dk_at dksX13_carrier_1 4 rfl rfl)
theorem dX13_carrier_29 : decode cX13_carrier 29 = .ok (.invokevirtual 92, 3) := dk_182 0 92 (dk_at dksX13_carrier_1 6 rfl rfl)
theorem dX13_carrier_32 : decode cX13_carrier 32 = .ok (.goto 11, 3) := dk_167 0 11 (dk_at dksX13_carrier_1 9 rfl rfl)
theorem dX13_carrier_35 : decode cX13_carrier 35 = .ok (.aload_n 0, 1) := dk_42 (dk_at dksX13_carrier_1 12 rfl rfl)
theorem dX13_carrier_36 : decode cX13_carrier 36 = .ok (.iload_n 1, 1) := dk_27 (dk_at dksX13_carrier_1 13 rfl rfl)
theorem dX13_carrier_37 : decode cX13_carrier 37 = .ok (.iconst 0, 1) := dk_3 (dk_at dksX13_carrier_1 14 rfl rfl)
theorem dX13_carrier_38 : decode cX13_carrier 38 = .ok (.bipush 20, 2) := dk_16 20 (dk_at dksX13_carrier_1 15 rfl rfl)
theorem dX13_carrier_40 : decode cX13_carrier 40 = .ok (.invokevirtual 97, 3) := dk_182 0 97 (dk_at dksX13_carrier_1 17 rfl rfl)
theorem dX13_carrier_43 : decode cX13_carrier 43 = .ok (.ireturn, 1) := dk_172 (dk_at dksX13_carrier_1 20 rfl rfl)
abbrev cX13_isKind : ByteArray := prog_16_method_13_code
def yX13_isKind : MethodName := ⟨RX13, "isKind", "(I)Z"⟩
def dkwX13_isKind_0 : List UInt8 := [26, 3, 16, 6, 184, 0, 77, 172]
abbrev dktX13_isKind_0 : List UInt8 := dkwX13_isKind_0 ++ []
theorem dksX13_isKind_0 : cX13_isKind.data.toList.drop 0 = dktX13_isKind_0 := by decide +kernel
theorem dX13_isKind_0 : decode cX13_isKind 0 = .ok (.iload_n 0, 1) := dk_26 (dk_at dksX13_isKind_0 0 rfl rfl)
theorem dX13_isKind_1 : decode cX13_isKind 1 = .ok (.iconst 0, 1) := dk_3 (dk_at dksX13_isKind_0 1 rfl rfl)
theorem dX13_isKind_2 : decode cX13_isKind 2 = .ok (.bipush 6, 2) := dk_16 6 (dk_at dksX13_isKind_0 2 rfl rfl)
theorem dX13_isKind_4 : decode cX13_isKind 4 = .ok (.invokestatic 77, 3) := dk_184 0 77 (dk_at dksX13_isKind_0 4 rfl rfl)
theorem dX13_isKind_7 : decode cX13_isKind 7 = .ok (.ireturn, 1) := dk_172 (dk_at dksX13_isKind_0 7 rfl rfl)
abbrev cX13_within : ByteArray := prog_16_method_3_code
def yX13_within : MethodName := ⟨RX13, "within", "(III)Z"⟩
def dkwX13_within_0 : List UInt8 := [26, 27, 161, 0, 12, 26, 28, 163, 0, 7, 4, 167, 0, 4, 3, 172]
abbrev dktX13_within_0 : List UInt8 := dkwX13_within_0 ++ []
theorem dksX13_within_0 : cX13_within.data.toList.drop 0 = dktX13_within_0 := by decide +kernel
theorem dX13_within_0 : decode cX13_within 0 = .ok (.iload_n 0, 1) := dk_26 (dk_at dksX13_within_0 0 rfl rfl)
theorem dX13_within_1 : decode cX13_within 1 = .ok (.iload_n 1, 1) := dk_27 (dk_at dksX13_within_0 1 rfl rfl)
theorem dX13_within_2 : decode cX13_within 2 = .ok (.if_icmp .lt 12, 3) := dk_161 0 12 (dk_at dksX13_within_0 2 rfl rfl)
theorem dX13_within_5 : decode cX13_within 5 = .ok (.iload_n 0, 1) := dk_26 (dk_at dksX13_within_0 5 rfl rfl)
theorem dX13_within_6 : decode cX13_within 6 = .ok (.iload_n 2, 1) := dk_28 (dk_at dksX13_within_0 6 rfl rfl)
theorem dX13_within_7 : decode cX13_within 7 = .ok (.if_icmp .gt 7, 3) := dk_163 0 7 (dk_at dksX13_within_0 7 rfl rfl)
theorem dX13_within_10 : decode cX13_within 10 = .ok (.iconst 1, 1) := dk_4 (dk_at dksX13_within_0 10 rfl rfl)
theorem dX13_within_11 : decode cX13_within 11 = .ok (.goto 4, 3) := dk_167 0 4 (dk_at dksX13_within_0 11 rfl rfl)
theorem dX13_within_14 : decode cX13_within 14 = .ok (.iconst 0, 1) := dk_3 (dk_at dksX13_within_0 14 rfl rfl)
theorem dX13_within_15 : decode cX13_within 15 = .ok (.ireturn, 1) := dk_172 (dk_at dksX13_within_0 15 rfl rfl)
abbrev cX13_finding : ByteArray := prog_16_method_2_code
def yX13_finding : MethodName := ⟨RX13, "finding", "(I)I"⟩
def dkwX13_finding_1 : List UInt8 := [79, 27, 172]
abbrev dktX13_finding_1 : List UInt8 := dkwX13_finding_1 ++ []
def dkwX13_finding_0 : List UInt8 := [42, 180, 0, 19, 18, 72, 27, 100, 4, 96, 92, 46, 4, 96, 79, 42, 180, 0, 19, 3, 92, 46, 4, 96]
abbrev dktX13_finding_0 : List UInt8 := dkwX13_finding_0 ++ dktX13_finding_1
theorem dksX13_finding_0 : cX13_finding.data.toList.drop 0 = dktX13_finding_0 := by decide +kernel
theorem dksX13_finding_1 : cX13_finding.data.toList.drop 24 = dktX13_finding_1 := dk_seg dksX13_finding_0 24 rfl rfl
theorem dX13_finding_0 : decode cX13_finding 0 = .ok (.aload_n 0, 1) := dk_42 (dk_at dksX13_finding_0 0 rfl rfl)
theorem dX13_finding_1 : decode cX13_finding 1 = .ok (.getfield 19, 3) := dk_180 0 19 (dk_at dksX13_finding_0 1 rfl rfl)
theorem dX13_finding_4 : decode cX13_finding 4 = .ok (.ldc 72, 2) := dk_18 72 (dk_at dksX13_finding_0 4 rfl rfl)
theorem dX13_finding_6 : decode cX13_finding 6 = .ok (.iload_n 1, 1) := dk_27 (dk_at dksX13_finding_0 6 rfl rfl)
theorem dX13_finding_7 : decode cX13_finding 7 = .ok (.isub, 1) := dk_100 (dk_at dksX13_finding_0 7 rfl rfl)
theorem dX13_finding_8 : decode cX13_finding 8 = .ok (.iconst 1, 1) := dk_4 (dk_at dksX13_finding_0 8 rfl rfl)
theorem dX13_finding_9 : decode cX13_finding 9 = .ok (.iadd, 1) := dk_96 (dk_at dksX13_finding_0 9 rfl rfl)
theorem dX13_finding_10 : decode cX13_finding 10 = .ok (.dup2, 1) := dk_92 (dk_at dksX13_finding_0 10 rfl rfl)
theorem dX13_finding_11 : decode cX13_finding 11 = .ok (.iaload, 1) := dk_46 (dk_at dksX13_finding_0 11 rfl rfl)
theorem dX13_finding_12 : decode cX13_finding 12 = .ok (.iconst 1, 1) := dk_4 (dk_at dksX13_finding_0 12 rfl rfl)
theorem dX13_finding_13 : decode cX13_finding 13 = .ok (.iadd, 1) := dk_96 (dk_at dksX13_finding_0 13 rfl rfl)
theorem dX13_finding_14 : decode cX13_finding 14 = .ok (.iastore, 1) := dk_79 (dk_at dksX13_finding_0 14 rfl rfl)
theorem dX13_finding_15 : decode cX13_finding 15 = .ok (.aload_n 0, 1) := dk_42 (dk_at dksX13_finding_0 15 rfl rfl)
theorem dX13_finding_16 : decode cX13_finding 16 = .ok (.getfield 19, 3) := dk_180 0 19 (dk_at dksX13_finding_0 16 rfl rfl)
theorem dX13_finding_19 : decode cX13_finding 19 = .ok (.iconst 0, 1) := dk_3 (dk_at dksX13_finding_0 19 rfl rfl)
theorem dX13_finding_20 : decode cX13_finding 20 = .ok (.dup2, 1) := dk_92 (dk_at dksX13_finding_0 20 rfl rfl)
theorem dX13_finding_21 : decode cX13_finding 21 = .ok (.iaload, 1) := dk_46 (dk_at dksX13_finding_0 21 rfl rfl)
theorem dX13_finding_22 : decode cX13_finding 22 = .ok (.iconst 1, 1) := dk_4 (dk_at dksX13_finding_0 22 rfl rfl)
theorem dX13_finding_23 : decode cX13_finding 23 = .ok (.iadd, 1) := dk_96 (dk_at dksX13_finding_0 23 rfl rfl)
theorem dX13_finding_24 : decode cX13_finding 24 = .ok (.iastore, 1) := dk_79 (dk_at dksX13_finding_1 0 rfl rfl)
theorem dX13_finding_25 : decode cX13_finding 25 = .ok (.iload_n 1, 1) := dk_27 (dk_at dksX13_finding_1 1 rfl rfl)
theorem dX13_finding_26 : decode cX13_finding 26 = .ok (.ireturn, 1) := dk_172 (dk_at dksX13_finding_1 2 rfl rfl)
abbrev cX13_newCarrier : ByteArray := prog_16_method_19_code
def yX13_newCarrier : MethodName := ⟨RX13, "newCarrier", "(III)I"⟩
def dkwX13_newCarrier_3 : List UInt8 := [180, 0, 9, 16, 42, 92, 46, 4, 96, 79, 21, 4, 172]
abbrev dktX13_newCarrier_3 : List UInt8 := dkwX13_newCarrier_3 ++ []
def dkwX13_newCarrier_2 : List UInt8 := [180, 0, 9, 21, 4, 6, 184, 0, 81, 3, 79, 42, 180, 0, 9, 21, 4, 7, 184, 0, 81, 3, 79, 42]
abbrev dktX13_newCarrier_2 : List UInt8 := dkwX13_newCarrier_2 ++ dktX13_newCarrier_3
def dkwX13_newCarrier_1 : List UInt8 := [180, 0, 9, 21, 4, 4, 184, 0, 81, 28, 79, 42, 180, 0, 9, 21, 4, 5, 184, 0, 81, 29, 79, 42]
abbrev dktX13_newCarrier_1 : List UInt8 := dkwX13_newCarrier_1 ++ dktX13_newCarrier_2
def dkwX13_newCarrier_0 : List UInt8 := [42, 180, 0, 9, 16, 42, 46, 54, 4, 42, 180, 0, 9, 21, 4, 3, 184, 0, 81, 27, 79, 42]
abbrev dktX13_newCarrier_0 : List UInt8 := dkwX13_newCarrier_0 ++ dktX13_newCarrier_1
theorem dksX13_newCarrier_0 : cX13_newCarrier.data.toList.drop 0 = dktX13_newCarrier_0 := by decide +kernel
theorem dksX13_newCarrier_1 : cX13_newCarrier.data.toList.drop 22 = dktX13_newCarrier_1 := dk_seg dksX13_newCarrier_0 22 rfl rfl
theorem dksX13_newCarrier_2 : cX13_newCarrier.data.toList.drop 46 = dktX13_newCarrier_2 := dk_seg dksX13_newCarrier_1 24 rfl rfl
theorem dksX13_newCarrier_3 : cX13_newCarrier.data.toList.drop 70 = dktX13_newCarrier_3 := dk_seg dksX13_newCarrier_2 24 rfl rfl
theorem dX13_newCarrier_0 : decode cX13_newCarrier 0 = .ok (.aload_n 0, 1) := dk_42 (dk_at dksX13_newCarrier_0 0 rfl rfl)
theorem dX13_newCarrier_1 : decode cX13_newCarrier 1 = .ok (.getfield 9, 3) := dk_180 0 9 (dk_at dksX13_newCarrier_0 1 rfl rfl)
theorem dX13_newCarrier_4 : decode cX13_newCarrier 4 = .ok (.bipush 42, 2) := dk_16 42 (dk_at dksX13_newCarrier_0 4 rfl rfl)
theorem dX13_newCarrier_6 : decode cX13_newCarrier 6 = .ok (.iaload, 1) := dk_46 (dk_at dksX13_newCarrier_0 6 rfl rfl)
theorem dX13_newCarrier_7 : decode cX13_newCarrier 7 = .ok (.istore 4, 2) := dk_54 4 (dk_at dksX13_newCarrier_0 7 rfl rfl)
theorem dX13_newCarrier_9 : decode cX13_newCarrier 9 = .ok (.aload_n 0, 1) := dk_42 (dk_at dksX13_newCarrier_0 9 rfl rfl)
theorem dX13_newCarrier_10 : decode cX13_newCarrier 10 = .ok (.getfield 9, 3) := dk_180 0 9 (dk_at dksX13_newCarrier_0 10 rfl rfl)
theorem dX13_newCarrier_13 : decode cX13_newCarrier 13 = .ok (.iload 4, 2) := dk_21 4 (dk_at dksX13_newCarrier_0 13 rfl rfl)
theorem dX13_newCarrier_15 : decode cX13_newCarrier 15 = .ok (.iconst 0, 1) := dk_3 (dk_at dksX13_newCarrier_0 15 rfl rfl)
theorem dX13_newCarrier_16 : decode cX13_newCarrier 16 = .ok (.invokestatic 81, 3) := dk_184 0 81 (dk_at dksX13_newCarrier_0 16 rfl rfl)
theorem dX13_newCarrier_19 : decode cX13_newCarrier 19 = .ok (.iload_n 1, 1) := dk_27 (dk_at dksX13_newCarrier_0 19 rfl rfl)
theorem dX13_newCarrier_20 : decode cX13_newCarrier 20 = .ok (.iastore, 1) := dk_79 (dk_at dksX13_newCarrier_0 20 rfl rfl)
theorem dX13_newCarrier_21 : decode cX13_newCarrier 21 = .ok (.aload_n 0, 1) := dk_42 (dk_at dksX13_newCarrier_0 21 rfl rfl)
theorem dX13_newCarrier_22 : decode cX13_newCarrier 22 = .ok (.getfield 9, 3) := dk_180 0 9 (dk_at dksX13_newCarrier_1 0 rfl rfl)
theorem dX13_newCarrier_25 : decode cX13_newCarrier 25 = .ok (.iload 4, 2) := dk_21 4 (dk_at dksX13_newCarrier_1 3 rfl rfl)
theorem dX13_newCarrier_27 : decode cX13_newCarrier 27 = .ok (.iconst 1, 1) := dk_4 (dk_at dksX13_newCarrier_1 5 rfl rfl)
theorem dX13_newCarrier_28 : decode cX13_newCarrier 28 = .ok (.invokestatic 81, 3) := dk_184 0 81 (dk_at dksX13_newCarrier_1 6 rfl rfl)
theorem dX13_newCarrier_31 : decode cX13_newCarrier 31 = .ok (.iload_n 2, 1) := dk_28 (dk_at dksX13_newCarrier_1 9 rfl rfl)
theorem dX13_newCarrier_32 : decode cX13_newCarrier 32 = .ok (.iastore, 1) := dk_79 (dk_at dksX13_newCarrier_1 10 rfl rfl)
theorem dX13_newCarrier_33 : decode cX13_newCarrier 33 = .ok (.aload_n 0, 1) := dk_42 (dk_at dksX13_newCarrier_1 11 rfl rfl)
theorem dX13_newCarrier_34 : decode cX13_newCarrier 34 = .ok (.getfield 9, 3) := dk_180 0 9 (dk_at dksX13_newCarrier_1 12 rfl rfl)
theorem dX13_newCarrier_37 : decode cX13_newCarrier 37 = .ok (.iload 4, 2) := dk_21 4 (dk_at dksX13_newCarrier_1 15 rfl rfl)
theorem dX13_newCarrier_39 : decode cX13_newCarrier 39 = .ok (.iconst 2, 1) := dk_5 (dk_at dksX13_newCarrier_1 17 rfl rfl)
theorem dX13_newCarrier_40 : decode cX13_newCarrier 40 = .ok (.invokestatic 81, 3) := dk_184 0 81 (dk_at dksX13_newCarrier_1 18 rfl rfl)
theorem dX13_newCarrier_43 : decode cX13_newCarrier 43 = .ok (.iload_n 3, 1) := dk_29 (dk_at dksX13_newCarrier_1 21 rfl rfl)
theorem dX13_newCarrier_44 : decode cX13_newCarrier 44 = .ok (.iastore, 1) := dk_79 (dk_at dksX13_newCarrier_1 22 rfl rfl)
theorem dX13_newCarrier_45 : decode cX13_newCarrier 45 = .ok (.aload_n 0, 1) := dk_42 (dk_at dksX13_newCarrier_1 23 rfl rfl)
theorem dX13_newCarrier_46 : decode cX13_newCarrier 46 = .ok (.getfield 9, 3) := dk_180 0 9 (dk_at dksX13_newCarrier_2 0 rfl rfl)
theorem dX13_newCarrier_49 : decode cX13_newCarrier 49 = .ok (.iload 4, 2) := dk_21 4 (dk_at dksX13_newCarrier_2 3 rfl rfl)
theorem dX13_newCarrier_51 : decode cX13_newCarrier 51 = .ok (.iconst 3, 1) := dk_6 (dk_at dksX13_newCarrier_2 5 rfl rfl)
theorem dX13_newCarrier_52 : decode cX13_newCarrier 52 = .ok (.invokestatic 81, 3) := dk_184 0 81 (dk_at dksX13_newCarrier_2 6 rfl rfl)
theorem dX13_newCarrier_55 : decode cX13_newCarrier 55 = .ok (.iconst 0, 1) := dk_3 (dk_at dksX13_newCarrier_2 9 rfl rfl)
theorem dX13_newCarrier_56 : decode cX13_newCarrier 56 = .ok (.iastore, 1) := dk_79 (dk_at dksX13_newCarrier_2 10 rfl rfl)
theorem dX13_newCarrier_57 : decode cX13_newCarrier 57 = .ok (.aload_n 0, 1) := dk_42 (dk_at dksX13_newCarrier_2 11 rfl rfl)
theorem dX13_newCarrier_58 : decode cX13_newCarrier 58 = .ok (.getfield 9, 3) := dk_180 0 9 (dk_at dksX13_newCarrier_2 12 rfl rfl)
theorem dX13_newCarrier_61 : decode cX13_newCarrier 61 = .ok (.iload 4, 2) := dk_21 4 (dk_at dksX13_newCarrier_2 15 rfl rfl)
theorem dX13_newCarrier_63 : decode cX13_newCarrier 63 = .ok (.iconst 4, 1) := dk_7 (dk_at dksX13_newCarrier_2 17 rfl rfl)
theorem dX13_newCarrier_64 : decode cX13_newCarrier 64 = .ok (.invokestatic 81, 3) := dk_184 0 81 (dk_at dksX13_newCarrier_2 18 rfl rfl)
theorem dX13_newCarrier_67 : decode cX13_newCarrier 67 = .ok (.iconst 0, 1) := dk_3 (dk_at dksX13_newCarrier_2 21 rfl rfl)
theorem dX13_newCarrier_68 : decode cX13_newCarrier 68 = .ok (.iastore, 1) := dk_79 (dk_at dksX13_newCarrier_2 22 rfl rfl)
theorem dX13_newCarrier_69 : decode cX13_newCarrier 69 = .ok (.aload_n 0, 1) := dk_42 (dk_at dksX13_newCarrier_2 23 rfl rfl)
theorem dX13_newCarrier_70 : decode cX13_newCarrier 70 = .ok (.getfield 9, 3) := dk_180 0 9 (dk_at dksX13_newCarrier_3 0 rfl rfl)
theorem dX13_newCarrier_73 : decode cX13_newCarrier 73 = .ok (.bipush 42, 2) := dk_16 42 (dk_at dksX13_newCarrier_3 3 rfl rfl)
theorem dX13_newCarrier_75 : decode cX13_newCarrier 75 = .ok (.dup2, 1) := dk_92 (dk_at dksX13_newCarrier_3 5 rfl rfl)
theorem dX13_newCarrier_76 : decode cX13_newCarrier 76 = .ok (.iaload, 1) := dk_46 (dk_at dksX13_newCarrier_3 6 rfl rfl)
theorem dX13_newCarrier_77 : decode cX13_newCarrier 77 = .ok (.iconst 1, 1) := dk_4 (dk_at dksX13_newCarrier_3 7 rfl rfl)
theorem dX13_newCarrier_78 : decode cX13_newCarrier 78 = .ok (.iadd, 1) := dk_96 (dk_at dksX13_newCarrier_3 8 rfl rfl)
theorem dX13_newCarrier_79 : decode cX13_newCarrier 79 = .ok (.iastore, 1) := dk_79 (dk_at dksX13_newCarrier_3 9 rfl rfl)
theorem dX13_newCarrier_80 : decode cX13_newCarrier 80 = .ok (.iload 4, 2) := dk_21 4 (dk_at dksX13_newCarrier_3 10 rfl rfl)
theorem dX13_newCarrier_82 : decode cX13_newCarrier 82 = .ok (.ireturn, 1) := dk_172 (dk_at dksX13_newCarrier_3 12 rfl rfl)
abbrev cX13_cAt : ByteArray := prog_16_method_14_code
def yX13_cAt : MethodName := ⟨RX13, "cAt", "(II)I"⟩
def dkwX13_cAt_0 : List UInt8 := [16, 56, 8, 26, 104, 96, 27, 96, 172]
abbrev dktX13_cAt_0 : List UInt8 := dkwX13_cAt_0 ++ []
theorem dksX13_cAt_0 : cX13_cAt.data.toList.drop 0 = dktX13_cAt_0 := by decide +kernel
theorem dX13_cAt_0 : decode cX13_cAt 0 = .ok (.bipush 56, 2) := dk_16 56 (dk_at dksX13_cAt_0 0 rfl rfl)
theorem dX13_cAt_2 : decode cX13_cAt 2 = .ok (.iconst 5, 1) := dk_8 (dk_at dksX13_cAt_0 2 rfl rfl)
theorem dX13_cAt_3 : decode cX13_cAt 3 = .ok (.iload_n 0, 1) := dk_26 (dk_at dksX13_cAt_0 3 rfl rfl)
theorem dX13_cAt_4 : decode cX13_cAt 4 = .ok (.imul, 1) := dk_104 (dk_at dksX13_cAt_0 4 rfl rfl)
theorem dX13_cAt_5 : decode cX13_cAt 5 = .ok (.iadd, 1) := dk_96 (dk_at dksX13_cAt_0 5 rfl rfl)
theorem dX13_cAt_6 : decode cX13_cAt 6 = .ok (.iload_n 1, 1) := dk_27 (dk_at dksX13_cAt_0 6 rfl rfl)
theorem dX13_cAt_7 : decode cX13_cAt 7 = .ok (.iadd, 1) := dk_96 (dk_at dksX13_cAt_0 7 rfl rfl)
theorem dX13_cAt_8 : decode cX13_cAt 8 = .ok (.ireturn, 1) := dk_172 (dk_at dksX13_cAt_0 8 rfl rfl)
abbrev cX13_of : ByteArray := prog_16_method_27_code
def yX13_of : MethodName := ⟨RX13, "of", "(II)I"⟩
def dkwX13_of_4 : List UInt8 := [28, 182, 0, 104, 172]
abbrev dktX13_of_4 : List UInt8 := dkwX13_of_4 ++ []
def dkwX13_of_3 : List UInt8 := [42, 27, 182, 0, 120, 172, 42, 27, 182, 0, 123, 172, 42, 42, 27, 182, 0, 123, 182, 0, 126, 172, 42, 27]
abbrev dktX13_of_3 : List UInt8 := dkwX13_of_3 ++ dktX13_of_4
def dkwX13_of_2 : List UInt8 := [170, 0, 0, 0, 0, 48, 0, 0, 0, 5, 0, 0, 0, 7, 0, 0, 0, 26, 0, 0, 0, 32, 0, 0, 0, 38]
abbrev dktX13_of_2 : List UInt8 := dkwX13_of_2 ++ dktX13_of_3
def dkwX13_of_1 : List UInt8 := [172, 28]
abbrev dktX13_of_1 : List UInt8 := dkwX13_of_1 ++ dktX13_of_2
def dkwX13_of_0 : List UInt8 := [42, 27, 182, 0, 117, 153, 0, 13, 28, 3, 16, 7, 184, 0, 77, 154, 0, 10, 42, 18, 72, 182, 0, 92]
abbrev dktX13_of_0 : List UInt8 := dkwX13_of_0 ++ dktX13_of_1
theorem dksX13_of_0 : cX13_of.data.toList.drop 0 = dktX13_of_0 := by decide +kernel
theorem dksX13_of_1 : cX13_of.data.toList.drop 24 = dktX13_of_1 := dk_seg dksX13_of_0 24 rfl rfl
theorem dksX13_of_2 : cX13_of.data.toList.drop 26 = dktX13_of_2 := dk_seg dksX13_of_1 2 rfl rfl
theorem dksX13_of_3 : cX13_of.data.toList.drop 52 = dktX13_of_3 := dk_seg dksX13_of_2 26 rfl rfl
theorem dksX13_of_4 : cX13_of.data.toList.drop 76 = dktX13_of_4 := dk_seg dksX13_of_3 24 rfl rfl
theorem dX13_of_0 : decode cX13_of 0 = .ok (.aload_n 0, 1) := dk_42 (dk_at dksX13_of_0 0 rfl rfl)
theorem dX13_of_1 : decode cX13_of 1 = .ok (.iload_n 1, 1) := dk_27 (dk_at dksX13_of_0 1 rfl rfl)
theorem dX13_of_2 : decode cX13_of 2 = .ok (.invokevirtual 117, 3) := dk_182 0 117 (dk_at dksX13_of_0 2 rfl rfl)
theorem dX13_of_5 : decode cX13_of 5 = .ok (.ifCond .eq 13, 3) := dk_153 0 13 (dk_at dksX13_of_0 5 rfl rfl)
theorem dX13_of_8 : decode cX13_of 8 = .ok (.iload_n 2, 1) := dk_28 (dk_at dksX13_of_0 8 rfl rfl)
theorem dX13_of_9 : decode cX13_of 9 = .ok (.iconst 0, 1) := dk_3 (dk_at dksX13_of_0 9 rfl rfl)
theorem dX13_of_10 : decode cX13_of 10 = .ok (.bipush 7, 2) := dk_16 7 (dk_at dksX13_of_0 10 rfl rfl)
theorem dX13_of_12 : decode cX13_of 12 = .ok (.invokestatic 77, 3) := dk_184 0 77 (dk_at dksX13_of_0 12 rfl rfl)
theorem dX13_of_15 : decode cX13_of 15 = .ok (.ifCond .ne 10, 3) := dk_154 0 10 (dk_at dksX13_of_0 15 rfl rfl)
theorem dX13_of_18 : decode cX13_of 18 = .ok (.aload_n 0, 1) := dk_42 (dk_at dksX13_of_0 18 rfl rfl)
theorem dX13_of_19 : decode cX13_of 19 = .ok (.ldc 72, 2) := dk_18 72 (dk_at dksX13_of_0 19 rfl rfl)
theorem dX13_of_21 : decode cX13_of 21 = .ok (.invokevirtual 92, 3) := dk_182 0 92 (dk_at dksX13_of_0 21 rfl rfl)
theorem dX13_of_24 : decode cX13_of 24 = .ok (.ireturn, 1) := dk_172 (dk_at dksX13_of_1 0 rfl rfl)
theorem dX13_of_25 : decode cX13_of 25 = .ok (.iload_n 2, 1) := dk_28 (dk_at dksX13_of_1 1 rfl rfl)
theorem dX13_of_26 : decode cX13_of 26 = .ok (.tableswitch 48 5 7 #[26, 32, 38], 26) := by decide +kernel
theorem dX13_of_52 : decode cX13_of 52 = .ok (.aload_n 0, 1) := dk_42 (dk_at dksX13_of_3 0 rfl rfl)
theorem dX13_of_53 : decode cX13_of 53 = .ok (.iload_n 1, 1) := dk_27 (dk_at dksX13_of_3 1 rfl rfl)
theorem dX13_of_54 : decode cX13_of 54 = .ok (.invokevirtual 120, 3) := dk_182 0 120 (dk_at dksX13_of_3 2 rfl rfl)
theorem dX13_of_57 : decode cX13_of 57 = .ok (.ireturn, 1) := dk_172 (dk_at dksX13_of_3 5 rfl rfl)
theorem dX13_of_58 : decode cX13_of 58 = .ok (.aload_n 0, 1) := dk_42 (dk_at dksX13_of_3 6 rfl rfl)
theorem dX13_of_59 : decode cX13_of 59 = .ok (.iload_n 1, 1) := dk_27 (dk_at dksX13_of_3 7 rfl rfl)
theorem dX13_of_60 : decode cX13_of 60 = .ok (.invokevirtual 123, 3) := dk_182 0 123 (dk_at dksX13_of_3 8 rfl rfl)
theorem dX13_of_63 : decode cX13_of 63 = .ok (.ireturn, 1) := dk_172 (dk_at dksX13_of_3 11 rfl rfl)
theorem dX13_of_64 : decode cX13_of 64 = .ok (.aload_n 0, 1) := dk_42 (dk_at dksX13_of_3 12 rfl rfl)
theorem dX13_of_65 : decode cX13_of 65 = .ok (.aload_n 0, 1) := dk_42 (dk_at dksX13_of_3 13 rfl rfl)
theorem dX13_of_66 : decode cX13_of 66 = .ok (.iload_n 1, 1) := dk_27 (dk_at dksX13_of_3 14 rfl rfl)
theorem dX13_of_67 : decode cX13_of 67 = .ok (.invokevirtual 123, 3) := dk_182 0 123 (dk_at dksX13_of_3 15 rfl rfl)
theorem dX13_of_70 : decode cX13_of 70 = .ok (.invokevirtual 126, 3) := dk_182 0 126 (dk_at dksX13_of_3 18 rfl rfl)
theorem dX13_of_73 : decode cX13_of 73 = .ok (.ireturn, 1) := dk_172 (dk_at dksX13_of_3 21 rfl rfl)
theorem dX13_of_74 : decode cX13_of 74 = .ok (.aload_n 0, 1) := dk_42 (dk_at dksX13_of_3 22 rfl rfl)
theorem dX13_of_75 : decode cX13_of 75 = .ok (.iload_n 1, 1) := dk_27 (dk_at dksX13_of_3 23 rfl rfl)
theorem dX13_of_76 : decode cX13_of 76 = .ok (.iload_n 2, 1) := dk_28 (dk_at dksX13_of_4 0 rfl rfl)
theorem dX13_of_77 : decode cX13_of 77 = .ok (.invokevirtual 104, 3) := dk_182 0 104 (dk_at dksX13_of_4 1 rfl rfl)
theorem dX13_of_80 : decode cX13_of 80 = .ok (.ireturn, 1) := dk_172 (dk_at dksX13_of_4 4 rfl rfl)
abbrev cX13_isCarrier : ByteArray := prog_16_method_10_code
def yX13_isCarrier : MethodName := ⟨RX13, "isCarrier", "(I)Z"⟩
def dkwX13_isCarrier_0 : List UInt8 := [27, 3, 42, 180, 0, 9, 16, 42, 46, 4, 100, 184, 0, 77, 172]
abbrev dktX13_isCarrier_0 : List UInt8 := dkwX13_isCarrier_0 ++ []
theorem dksX13_isCarrier_0 : cX13_isCarrier.data.toList.drop 0 = dktX13_isCarrier_0 := by decide +kernel
theorem dX13_isCarrier_0 : decode cX13_isCarrier 0 = .ok (.iload_n 1, 1) := dk_27 (dk_at dksX13_isCarrier_0 0 rfl rfl)
theorem dX13_isCarrier_1 : decode cX13_isCarrier 1 = .ok (.iconst 0, 1) := dk_3 (dk_at dksX13_isCarrier_0 1 rfl rfl)
theorem dX13_isCarrier_2 : decode cX13_isCarrier 2 = .ok (.aload_n 0, 1) := dk_42 (dk_at dksX13_isCarrier_0 2 rfl rfl)
theorem dX13_isCarrier_3 : decode cX13_isCarrier 3 = .ok (.getfield 9, 3) := dk_180 0 9 (dk_at dksX13_isCarrier_0 3 rfl rfl)
theorem dX13_isCarrier_6 : decode cX13_isCarrier 6 = .ok (.bipush 42, 2) := dk_16 42 (dk_at dksX13_isCarrier_0 6 rfl rfl)
theorem dX13_isCarrier_8 : decode cX13_isCarrier 8 = .ok (.iaload, 1) := dk_46 (dk_at dksX13_isCarrier_0 8 rfl rfl)
theorem dX13_isCarrier_9 : decode cX13_isCarrier 9 = .ok (.iconst 1, 1) := dk_4 (dk_at dksX13_isCarrier_0 9 rfl rfl)
theorem dX13_isCarrier_10 : decode cX13_isCarrier 10 = .ok (.isub, 1) := dk_100 (dk_at dksX13_isCarrier_0 10 rfl rfl)
theorem dX13_isCarrier_11 : decode cX13_isCarrier 11 = .ok (.invokestatic 77, 3) := dk_184 0 77 (dk_at dksX13_isCarrier_0 11 rfl rfl)
theorem dX13_isCarrier_14 : decode cX13_isCarrier 14 = .ok (.ireturn, 1) := dk_172 (dk_at dksX13_isCarrier_0 14 rfl rfl)
abbrev cX13_bears : ByteArray := prog_16_method_23_code
def yX13_bears : MethodName := ⟨RX13, "bears", "(I)I"⟩
def dkwX13_bears_1 : List UInt8 := [108, 167, 0, 18, 28, 5, 184, 0, 107, 153, 0, 9, 5, 29, 104, 167, 0, 4, 29, 172]
abbrev dktX13_bears_1 : List UInt8 := dkwX13_bears_1 ++ []
def dkwX13_bears_0 : List UInt8 := [42, 27, 3, 182, 0, 104, 61, 42, 27, 5, 182, 0, 104, 62, 28, 4, 184, 0, 107, 153, 0, 9, 29, 5]
abbrev dktX13_bears_0 : List UInt8 := dkwX13_bears_0 ++ dktX13_bears_1
theorem dksX13_bears_0 : cX13_bears.data.toList.drop 0 = dktX13_bears_0 := by decide +kernel
theorem dksX13_bears_1 : cX13_bears.data.toList.drop 24 = dktX13_bears_1 := dk_seg dksX13_bears_0 24 rfl rfl
theorem dX13_bears_0 : decode cX13_bears 0 = .ok (.aload_n 0, 1) := dk_42 (dk_at dksX13_bears_0 0 rfl rfl)
theorem dX13_bears_1 : decode cX13_bears 1 = .ok (.iload_n 1, 1) := dk_27 (dk_at dksX13_bears_0 1 rfl rfl)
theorem dX13_bears_2 : decode cX13_bears 2 = .ok (.iconst 0, 1) := dk_3 (dk_at dksX13_bears_0 2 rfl rfl)
theorem dX13_bears_3 : decode cX13_bears 3 = .ok (.invokevirtual 104, 3) := dk_182 0 104 (dk_at dksX13_bears_0 3 rfl rfl)
theorem dX13_bears_6 : decode cX13_bears 6 = .ok (.istore_n 2, 1) := dk_61 (dk_at dksX13_bears_0 6 rfl rfl)
theorem dX13_bears_7 : decode cX13_bears 7 = .ok (.aload_n 0, 1) := dk_42 (dk_at dksX13_bears_0 7 rfl rfl)
theorem dX13_bears_8 : decode cX13_bears 8 = .ok (.iload_n 1, 1) := dk_27 (dk_at dksX13_bears_0 8 rfl rfl)
theorem dX13_bears_9 : decode cX13_bears 9 = .ok (.iconst 2, 1) := dk_5 (dk_at dksX13_bears_0 9 rfl rfl)
theorem dX13_bears_10 : decode cX13_bears 10 = .ok (.invokevirtual 104, 3) := dk_182 0 104 (dk_at dksX13_bears_0 10 rfl rfl)
theorem dX13_bears_13 : decode cX13_bears 13 = .ok (.istore_n 3, 1) := dk_62 (dk_at dksX13_bears_0 13 rfl rfl)
theorem dX13_bears_14 : decode cX13_bears 14 = .ok (.iload_n 2, 1) := dk_28 (dk_at dksX13_bears_0 14 rfl rfl)
theorem dX13_bears_15 : decode cX13_bears 15 = .ok (.iconst 1, 1) := dk_4 (dk_at dksX13_bears_0 15 rfl rfl)
theorem dX13_bears_16 : decode cX13_bears 16 = .ok (.invokestatic 107, 3) := dk_184 0 107 (dk_at dksX13_bears_0 16 rfl rfl)
theorem dX13_bears_19 : decode cX13_bears 19 = .ok (.ifCond .eq 9, 3) := dk_153 0 9 (dk_at dksX13_bears_0 19 rfl rfl)
theorem dX13_bears_22 : decode cX13_bears 22 = .ok (.iload_n 3, 1) := dk_29 (dk_at dksX13_bears_0 22 rfl rfl)
theorem dX13_bears_23 : decode cX13_bears 23 = .ok (.iconst 2, 1) := dk_5 (dk_at dksX13_bears_0 23 rfl rfl)
theorem dX13_bears_24 : decode cX13_bears 24 = .ok (.idiv, 1) := dk_108 (dk_at dksX13_bears_1 0 rfl rfl)
theorem dX13_bears_25 : decode cX13_bears 25 = .ok (.goto 18, 3) := dk_167 0 18 (dk_at dksX13_bears_1 1 rfl rfl)
theorem dX13_bears_28 : decode cX13_bears 28 = .ok (.iload_n 2, 1) := dk_28 (dk_at dksX13_bears_1 4 rfl rfl)
theorem dX13_bears_29 : decode cX13_bears 29 = .ok (.iconst 2, 1) := dk_5 (dk_at dksX13_bears_1 5 rfl rfl)
theorem dX13_bears_30 : decode cX13_bears 30 = .ok (.invokestatic 107, 3) := dk_184 0 107 (dk_at dksX13_bears_1 6 rfl rfl)
theorem dX13_bears_33 : decode cX13_bears 33 = .ok (.ifCond .eq 9, 3) := dk_153 0 9 (dk_at dksX13_bears_1 9 rfl rfl)
theorem dX13_bears_36 : decode cX13_bears 36 = .ok (.iconst 2, 1) := dk_5 (dk_at dksX13_bears_1 12 rfl rfl)
theorem dX13_bears_37 : decode cX13_bears 37 = .ok (.iload_n 3, 1) := dk_29 (dk_at dksX13_bears_1 13 rfl rfl)
theorem dX13_bears_38 : decode cX13_bears 38 = .ok (.imul, 1) := dk_104 (dk_at dksX13_bears_1 14 rfl rfl)
theorem dX13_bears_39 : decode cX13_bears 39 = .ok (.goto 4, 3) := dk_167 0 4 (dk_at dksX13_bears_1 15 rfl rfl)
theorem dX13_bears_42 : decode cX13_bears 42 = .ok (.iload_n 3, 1) := dk_29 (dk_at dksX13_bears_1 18 rfl rfl)
theorem dX13_bears_43 : decode cX13_bears 43 = .ok (.ireturn, 1) := dk_172 (dk_at dksX13_bears_1 19 rfl rfl)
abbrev cX13_cIs : ByteArray := prog_16_method_15_code
def yX13_cIs : MethodName := ⟨RX13, "cIs", "(II)I"⟩
def dkwX13_cIs_0 : List UInt8 := [42, 180, 0, 9, 27, 28, 184, 0, 81, 46, 172]
abbrev dktX13_cIs_0 : List UInt8 := dkwX13_cIs_0 ++ []
theorem dksX13_cIs_0 : cX13_cIs.data.toList.drop 0 = dktX13_cIs_0 := by decide +kernel
theorem dX13_cIs_0 : decode cX13_cIs 0 = .ok (.aload_n 0, 1) := dk_42 (dk_at dksX13_cIs_0 0 rfl rfl)
theorem dX13_cIs_1 : decode cX13_cIs 1 = .ok (.getfield 9, 3) := dk_180 0 9 (dk_at dksX13_cIs_0 1 rfl rfl)
theorem dX13_cIs_4 : decode cX13_cIs 4 = .ok (.iload_n 1, 1) := dk_27 (dk_at dksX13_cIs_0 4 rfl rfl)
theorem dX13_cIs_5 : decode cX13_cIs 5 = .ok (.iload_n 2, 1) := dk_28 (dk_at dksX13_cIs_0 5 rfl rfl)
theorem dX13_cIs_6 : decode cX13_cIs 6 = .ok (.invokestatic 81, 3) := dk_184 0 81 (dk_at dksX13_cIs_0 6 rfl rfl)
theorem dX13_cIs_9 : decode cX13_cIs 9 = .ok (.iaload, 1) := dk_46 (dk_at dksX13_cIs_0 9 rfl rfl)
theorem dX13_cIs_10 : decode cX13_cIs 10 = .ok (.ireturn, 1) := dk_172 (dk_at dksX13_cIs_0 10 rfl rfl)
abbrev cX13_isUnder : ByteArray := prog_16_method_22_code
def yX13_isUnder : MethodName := ⟨RX13, "isUnder", "(II)Z"⟩
def dkwX13_isUnder_1 : List UInt8 := [167, 0, 4, 3, 172]
abbrev dktX13_isUnder_1 : List UInt8 := dkwX13_isUnder_1 ++ []
def dkwX13_isUnder_0 : List UInt8 := [26, 61, 28, 155, 0, 16, 28, 27, 159, 0, 11, 28, 184, 0, 101, 61, 167, 255, 242, 28, 155, 0, 7, 4]
abbrev dktX13_isUnder_0 : List UInt8 := dkwX13_isUnder_0 ++ dktX13_isUnder_1
theorem dksX13_isUnder_0 : cX13_isUnder.data.toList.drop 0 = dktX13_isUnder_0 := by decide +kernel
theorem dksX13_isUnder_1 : cX13_isUnder.data.toList.drop 24 = dktX13_isUnder_1 := dk_seg dksX13_isUnder_0 24 rfl rfl
theorem dX13_isUnder_0 : decode cX13_isUnder 0 = .ok (.iload_n 0, 1) := dk_26 (dk_at dksX13_isUnder_0 0 rfl rfl)
theorem dX13_isUnder_1 : decode cX13_isUnder 1 = .ok (.istore_n 2, 1) := dk_61 (dk_at dksX13_isUnder_0 1 rfl rfl)
theorem dX13_isUnder_2 : decode cX13_isUnder 2 = .ok (.iload_n 2, 1) := dk_28 (dk_at dksX13_isUnder_0 2 rfl rfl)
theorem dX13_isUnder_3 : decode cX13_isUnder 3 = .ok (.ifCond .lt 16, 3) := dk_155 0 16 (dk_at dksX13_isUnder_0 3 rfl rfl)
theorem dX13_isUnder_6 : decode cX13_isUnder 6 = .ok (.iload_n 2, 1) := dk_28 (dk_at dksX13_isUnder_0 6 rfl rfl)
theorem dX13_isUnder_7 : decode cX13_isUnder 7 = .ok (.iload_n 1, 1) := dk_27 (dk_at dksX13_isUnder_0 7 rfl rfl)
theorem dX13_isUnder_8 : decode cX13_isUnder 8 = .ok (.if_icmp .eq 11, 3) := dk_159 0 11 (dk_at dksX13_isUnder_0 8 rfl rfl)
theorem dX13_isUnder_11 : decode cX13_isUnder 11 = .ok (.iload_n 2, 1) := dk_28 (dk_at dksX13_isUnder_0 11 rfl rfl)
theorem dX13_isUnder_12 : decode cX13_isUnder 12 = .ok (.invokestatic 101, 3) := dk_184 0 101 (dk_at dksX13_isUnder_0 12 rfl rfl)
theorem dX13_isUnder_15 : decode cX13_isUnder 15 = .ok (.istore_n 2, 1) := dk_61 (dk_at dksX13_isUnder_0 15 rfl rfl)
theorem dX13_isUnder_16 : decode cX13_isUnder 16 = .ok (.goto (-14), 3) := dk_167 255 242 (dk_at dksX13_isUnder_0 16 rfl rfl)
theorem dX13_isUnder_19 : decode cX13_isUnder 19 = .ok (.iload_n 2, 1) := dk_28 (dk_at dksX13_isUnder_0 19 rfl rfl)
theorem dX13_isUnder_20 : decode cX13_isUnder 20 = .ok (.ifCond .lt 7, 3) := dk_155 0 7 (dk_at dksX13_isUnder_0 20 rfl rfl)
theorem dX13_isUnder_23 : decode cX13_isUnder 23 = .ok (.iconst 1, 1) := dk_4 (dk_at dksX13_isUnder_0 23 rfl rfl)
theorem dX13_isUnder_24 : decode cX13_isUnder 24 = .ok (.goto 4, 3) := dk_167 0 4 (dk_at dksX13_isUnder_1 0 rfl rfl)
theorem dX13_isUnder_27 : decode cX13_isUnder 27 = .ok (.iconst 0, 1) := dk_3 (dk_at dksX13_isUnder_1 3 rfl rfl)
theorem dX13_isUnder_28 : decode cX13_isUnder 28 = .ok (.ireturn, 1) := dk_172 (dk_at dksX13_isUnder_1 4 rfl rfl)
abbrev cX13_above : ByteArray := prog_16_method_21_code
def yX13_above : MethodName := ⟨RX13, "above", "(I)I"⟩
def dkwX13_above_1 : List UInt8 := [167, 0, 14, 26, 16, 6, 160, 0, 7, 8, 167, 0, 4, 3, 172]
abbrev dktX13_above_1 : List UInt8 := dkwX13_above_1 ++ []
def dkwX13_above_0 : List UInt8 := [26, 154, 0, 7, 2, 167, 0, 32, 26, 6, 160, 0, 7, 4, 167, 0, 23, 26, 7, 160, 0, 7, 5]
abbrev dktX13_above_0 : List UInt8 := dkwX13_above_0 ++ dktX13_above_1
theorem dksX13_above_0 : cX13_above.data.toList.drop 0 = dktX13_above_0 := by decide +kernel
theorem dksX13_above_1 : cX13_above.data.toList.drop 23 = dktX13_above_1 := dk_seg dksX13_above_0 23 rfl rfl
theorem dX13_above_0 : decode cX13_above 0 = .ok (.iload_n 0, 1) := dk_26 (dk_at dksX13_above_0 0 rfl rfl)
theorem dX13_above_1 : decode cX13_above 1 = .ok (.ifCond .ne 7, 3) := dk_154 0 7 (dk_at dksX13_above_0 1 rfl rfl)
theorem dX13_above_4 : decode cX13_above 4 = .ok (.iconst (-1), 1) := dk_2 (dk_at dksX13_above_0 4 rfl rfl)
theorem dX13_above_5 : decode cX13_above 5 = .ok (.goto 32, 3) := dk_167 0 32 (dk_at dksX13_above_0 5 rfl rfl)
theorem dX13_above_8 : decode cX13_above 8 = .ok (.iload_n 0, 1) := dk_26 (dk_at dksX13_above_0 8 rfl rfl)
theorem dX13_above_9 : decode cX13_above 9 = .ok (.iconst 3, 1) := dk_6 (dk_at dksX13_above_0 9 rfl rfl)
theorem dX13_above_10 : decode cX13_above 10 = .ok (.if_icmp .ne 7, 3) := dk_160 0 7 (dk_at dksX13_above_0 10 rfl rfl)
theorem dX13_above_13 : decode cX13_above 13 = .ok (.iconst 1, 1) := dk_4 (dk_at dksX13_above_0 13 rfl rfl)
theorem dX13_above_14 : decode cX13_above 14 = .ok (.goto 23, 3) := dk_167 0 23 (dk_at dksX13_above_0 14 rfl rfl)
theorem dX13_above_17 : decode cX13_above 17 = .ok (.iload_n 0, 1) := dk_26 (dk_at dksX13_above_0 17 rfl rfl)
theorem dX13_above_18 : decode cX13_above 18 = .ok (.iconst 4, 1) := dk_7 (dk_at dksX13_above_0 18 rfl rfl)
theorem dX13_above_19 : decode cX13_above 19 = .ok (.if_icmp .ne 7, 3) := dk_160 0 7 (dk_at dksX13_above_0 19 rfl rfl)
theorem dX13_above_22 : decode cX13_above 22 = .ok (.iconst 2, 1) := dk_5 (dk_at dksX13_above_0 22 rfl rfl)
theorem dX13_above_23 : decode cX13_above 23 = .ok (.goto 14, 3) := dk_167 0 14 (dk_at dksX13_above_1 0 rfl rfl)
theorem dX13_above_26 : decode cX13_above 26 = .ok (.iload_n 0, 1) := dk_26 (dk_at dksX13_above_1 3 rfl rfl)
theorem dX13_above_27 : decode cX13_above 27 = .ok (.bipush 6, 2) := dk_16 6 (dk_at dksX13_above_1 4 rfl rfl)
theorem dX13_above_29 : decode cX13_above 29 = .ok (.if_icmp .ne 7, 3) := dk_160 0 7 (dk_at dksX13_above_1 6 rfl rfl)
theorem dX13_above_32 : decode cX13_above 32 = .ok (.iconst 5, 1) := dk_8 (dk_at dksX13_above_1 9 rfl rfl)
theorem dX13_above_33 : decode cX13_above 33 = .ok (.goto 4, 3) := dk_167 0 4 (dk_at dksX13_above_1 10 rfl rfl)
theorem dX13_above_36 : decode cX13_above 36 = .ok (.iconst 0, 1) := dk_3 (dk_at dksX13_above_1 13 rfl rfl)
theorem dX13_above_37 : decode cX13_above 37 = .ok (.ireturn, 1) := dk_172 (dk_at dksX13_above_1 14 rfl rfl)
abbrev cX13_carries : ByteArray := prog_16_method_25_code
def yX13_carries : MethodName := ⟨RX13, "carries", "(I)I"⟩
def dkwX13_carries_2 : List UInt8 := [132, 3, 1, 167, 255, 212, 28, 172]
abbrev dktX13_carries_2 : List UInt8 := dkwX13_carries_2 ++ []
def dkwX13_carries_1 : List UInt8 := [160, 0, 19, 42, 29, 7, 182, 0, 111, 27, 160, 0, 9, 4, 29, 120, 167, 0, 4, 3, 128, 61]
abbrev dktX13_carries_1 : List UInt8 := dkwX13_carries_1 ++ dktX13_carries_2
def dkwX13_carries_0 : List UInt8 := [3, 61, 3, 62, 29, 42, 180, 0, 9, 16, 43, 46, 162, 0, 39, 28, 42, 29, 6, 182, 0, 111, 4]
abbrev dktX13_carries_0 : List UInt8 := dkwX13_carries_0 ++ dktX13_carries_1
theorem dksX13_carries_0 : cX13_carries.data.toList.drop 0 = dktX13_carries_0 := by decide +kernel
theorem dksX13_carries_1 : cX13_carries.data.toList.drop 23 = dktX13_carries_1 := dk_seg dksX13_carries_0 23 rfl rfl
theorem dksX13_carries_2 : cX13_carries.data.toList.drop 45 = dktX13_carries_2 := dk_seg dksX13_carries_1 22 rfl rfl
theorem dX13_carries_0 : decode cX13_carries 0 = .ok (.iconst 0, 1) := dk_3 (dk_at dksX13_carries_0 0 rfl rfl)
theorem dX13_carries_1 : decode cX13_carries 1 = .ok (.istore_n 2, 1) := dk_61 (dk_at dksX13_carries_0 1 rfl rfl)
theorem dX13_carries_2 : decode cX13_carries 2 = .ok (.iconst 0, 1) := dk_3 (dk_at dksX13_carries_0 2 rfl rfl)
theorem dX13_carries_3 : decode cX13_carries 3 = .ok (.istore_n 3, 1) := dk_62 (dk_at dksX13_carries_0 3 rfl rfl)
theorem dX13_carries_4 : decode cX13_carries 4 = .ok (.iload_n 3, 1) := dk_29 (dk_at dksX13_carries_0 4 rfl rfl)
theorem dX13_carries_5 : decode cX13_carries 5 = .ok (.aload_n 0, 1) := dk_42 (dk_at dksX13_carries_0 5 rfl rfl)
theorem dX13_carries_6 : decode cX13_carries 6 = .ok (.getfield 9, 3) := dk_180 0 9 (dk_at dksX13_carries_0 6 rfl rfl)
theorem dX13_carries_9 : decode cX13_carries 9 = .ok (.bipush 43, 2) := dk_16 43 (dk_at dksX13_carries_0 9 rfl rfl)
theorem dX13_carries_11 : decode cX13_carries 11 = .ok (.iaload, 1) := dk_46 (dk_at dksX13_carries_0 11 rfl rfl)
theorem dX13_carries_12 : decode cX13_carries 12 = .ok (.if_icmp .ge 39, 3) := dk_162 0 39 (dk_at dksX13_carries_0 12 rfl rfl)
theorem dX13_carries_15 : decode cX13_carries 15 = .ok (.iload_n 2, 1) := dk_28 (dk_at dksX13_carries_0 15 rfl rfl)
theorem dX13_carries_16 : decode cX13_carries 16 = .ok (.aload_n 0, 1) := dk_42 (dk_at dksX13_carries_0 16 rfl rfl)
theorem dX13_carries_17 : decode cX13_carries 17 = .ok (.iload_n 3, 1) := dk_29 (dk_at dksX13_carries_0 17 rfl rfl)
theorem dX13_carries_18 : decode cX13_carries 18 = .ok (.iconst 3, 1) := dk_6 (dk_at dksX13_carries_0 18 rfl rfl)
theorem dX13_carries_19 : decode cX13_carries 19 = .ok (.invokevirtual 111, 3) := dk_182 0 111 (dk_at dksX13_carries_0 19 rfl rfl)
theorem dX13_carries_22 : decode cX13_carries 22 = .ok (.iconst 1, 1) := dk_4 (dk_at dksX13_carries_0 22 rfl rfl)
theorem dX13_carries_23 : decode cX13_carries 23 = .ok (.if_icmp .ne 19, 3) := dk_160 0 19 (dk_at dksX13_carries_1 0 rfl rfl)
theorem dX13_carries_26 : decode cX13_carries 26 = .ok (.aload_n 0, 1) := dk_42 (dk_at dksX13_carries_1 3 rfl rfl)
theorem dX13_carries_27 : decode cX13_carries 27 = .ok (.iload_n 3, 1) := dk_29 (dk_at dksX13_carries_1 4 rfl rfl)
theorem dX13_carries_28 : decode cX13_carries 28 = .ok (.iconst 4, 1) := dk_7 (dk_at dksX13_carries_1 5 rfl rfl)
theorem dX13_carries_29 : decode cX13_carries 29 = .ok (.invokevirtual 111, 3) := dk_182 0 111 (dk_at dksX13_carries_1 6 rfl rfl)
theorem dX13_carries_32 : decode cX13_carries 32 = .ok (.iload_n 1, 1) := dk_27 (dk_at dksX13_carries_1 9 rfl rfl)
theorem dX13_carries_33 : decode cX13_carries 33 = .ok (.if_icmp .ne 9, 3) := dk_160 0 9 (dk_at dksX13_carries_1 10 rfl rfl)
theorem dX13_carries_36 : decode cX13_carries 36 = .ok (.iconst 1, 1) := dk_4 (dk_at dksX13_carries_1 13 rfl rfl)
theorem dX13_carries_37 : decode cX13_carries 37 = .ok (.iload_n 3, 1) := dk_29 (dk_at dksX13_carries_1 14 rfl rfl)
theorem dX13_carries_38 : decode cX13_carries 38 = .ok (.ishl, 1) := dk_120 (dk_at dksX13_carries_1 15 rfl rfl)
theorem dX13_carries_39 : decode cX13_carries 39 = .ok (.goto 4, 3) := dk_167 0 4 (dk_at dksX13_carries_1 16 rfl rfl)
theorem dX13_carries_42 : decode cX13_carries 42 = .ok (.iconst 0, 1) := dk_3 (dk_at dksX13_carries_1 19 rfl rfl)
theorem dX13_carries_43 : decode cX13_carries 43 = .ok (.ior, 1) := dk_128 (dk_at dksX13_carries_1 20 rfl rfl)
theorem dX13_carries_44 : decode cX13_carries 44 = .ok (.istore_n 2, 1) := dk_61 (dk_at dksX13_carries_1 21 rfl rfl)
theorem dX13_carries_45 : decode cX13_carries 45 = .ok (.iinc 3 1, 3) := dk_132 3 1 (dk_at dksX13_carries_2 0 rfl rfl)
theorem dX13_carries_48 : decode cX13_carries 48 = .ok (.goto (-44), 3) := dk_167 255 212 (dk_at dksX13_carries_2 3 rfl rfl)
theorem dX13_carries_51 : decode cX13_carries 51 = .ok (.iload_n 2, 1) := dk_28 (dk_at dksX13_carries_2 6 rfl rfl)
theorem dX13_carries_52 : decode cX13_carries 52 = .ok (.ireturn, 1) := dk_172 (dk_at dksX13_carries_2 7 rfl rfl)
abbrev cX13_eIs : ByteArray := prog_16_method_17_code
def yX13_eIs : MethodName := ⟨RX13, "eIs", "(II)I"⟩
def dkwX13_eIs_0 : List UInt8 := [42, 180, 0, 9, 27, 28, 184, 0, 85, 46, 172]
abbrev dktX13_eIs_0 : List UInt8 := dkwX13_eIs_0 ++ []
theorem dksX13_eIs_0 : cX13_eIs.data.toList.drop 0 = dktX13_eIs_0 := by decide +kernel
theorem dX13_eIs_0 : decode cX13_eIs 0 = .ok (.aload_n 0, 1) := dk_42 (dk_at dksX13_eIs_0 0 rfl rfl)
theorem dX13_eIs_1 : decode cX13_eIs 1 = .ok (.getfield 9, 3) := dk_180 0 9 (dk_at dksX13_eIs_0 1 rfl rfl)
theorem dX13_eIs_4 : decode cX13_eIs 4 = .ok (.iload_n 1, 1) := dk_27 (dk_at dksX13_eIs_0 4 rfl rfl)
theorem dX13_eIs_5 : decode cX13_eIs 5 = .ok (.iload_n 2, 1) := dk_28 (dk_at dksX13_eIs_0 5 rfl rfl)
theorem dX13_eIs_6 : decode cX13_eIs 6 = .ok (.invokestatic 85, 3) := dk_184 0 85 (dk_at dksX13_eIs_0 6 rfl rfl)
theorem dX13_eIs_9 : decode cX13_eIs 9 = .ok (.iaload, 1) := dk_46 (dk_at dksX13_eIs_0 9 rfl rfl)
theorem dX13_eIs_10 : decode cX13_eIs 10 = .ok (.ireturn, 1) := dk_172 (dk_at dksX13_eIs_0 10 rfl rfl)
abbrev cX13_eAt : ByteArray := prog_16_method_16_code
def yX13_eAt : MethodName := ⟨RX13, "eAt", "(II)I"⟩
def dkwX13_eAt_0 : List UInt8 := [16, 86, 8, 26, 104, 96, 27, 96, 172]
abbrev dktX13_eAt_0 : List UInt8 := dkwX13_eAt_0 ++ []
theorem dksX13_eAt_0 : cX13_eAt.data.toList.drop 0 = dktX13_eAt_0 := by decide +kernel
theorem dX13_eAt_0 : decode cX13_eAt 0 = .ok (.bipush 86, 2) := dk_16 86 (dk_at dksX13_eAt_0 0 rfl rfl)
theorem dX13_eAt_2 : decode cX13_eAt 2 = .ok (.iconst 5, 1) := dk_8 (dk_at dksX13_eAt_0 2 rfl rfl)
theorem dX13_eAt_3 : decode cX13_eAt 3 = .ok (.iload_n 0, 1) := dk_26 (dk_at dksX13_eAt_0 3 rfl rfl)
theorem dX13_eAt_4 : decode cX13_eAt 4 = .ok (.imul, 1) := dk_104 (dk_at dksX13_eAt_0 4 rfl rfl)
theorem dX13_eAt_5 : decode cX13_eAt 5 = .ok (.iadd, 1) := dk_96 (dk_at dksX13_eAt_0 5 rfl rfl)
theorem dX13_eAt_6 : decode cX13_eAt 6 = .ok (.iload_n 1, 1) := dk_27 (dk_at dksX13_eAt_0 6 rfl rfl)
theorem dX13_eAt_7 : decode cX13_eAt 7 = .ok (.iadd, 1) := dk_96 (dk_at dksX13_eAt_0 7 rfl rfl)
theorem dX13_eAt_8 : decode cX13_eAt 8 = .ok (.ireturn, 1) := dk_172 (dk_at dksX13_eAt_0 8 rfl rfl)
abbrev cX13_weighs : ByteArray := prog_16_method_26_code
def yX13_weighs : MethodName := ⟨RX13, "weighs", "(I)I"⟩
def dkwX13_weighs_1 : List UInt8 := [42, 29, 3, 182, 0, 111, 167, 0, 4, 3, 96, 61, 132, 3, 1, 167, 255, 221, 28, 172]
abbrev dktX13_weighs_1 : List UInt8 := dkwX13_weighs_1 ++ []
def dkwX13_weighs_0 : List UInt8 := [3, 61, 3, 62, 29, 42, 180, 0, 9, 16, 43, 46, 162, 0, 30, 28, 27, 29, 184, 0, 114, 153, 0, 12]
abbrev dktX13_weighs_0 : List UInt8 := dkwX13_weighs_0 ++ dktX13_weighs_1
theorem dksX13_weighs_0 : cX13_weighs.data.toList.drop 0 = dktX13_weighs_0 := by decide +kernel
theorem dksX13_weighs_1 : cX13_weighs.data.toList.drop 24 = dktX13_weighs_1 := dk_seg dksX13_weighs_0 24 rfl rfl
theorem dX13_weighs_0 : decode cX13_weighs 0 = .ok (.iconst 0, 1) := dk_3 (dk_at dksX13_weighs_0 0 rfl rfl)
theorem dX13_weighs_1 : decode cX13_weighs 1 = .ok (.istore_n 2, 1) := dk_61 (dk_at dksX13_weighs_0 1 rfl rfl)
theorem dX13_weighs_2 : decode cX13_weighs 2 = .ok (.iconst 0, 1) := dk_3 (dk_at dksX13_weighs_0 2 rfl rfl)
theorem dX13_weighs_3 : decode cX13_weighs 3 = .ok (.istore_n 3, 1) := dk_62 (dk_at dksX13_weighs_0 3 rfl rfl)
theorem dX13_weighs_4 : decode cX13_weighs 4 = .ok (.iload_n 3, 1) := dk_29 (dk_at dksX13_weighs_0 4 rfl rfl)
theorem dX13_weighs_5 : decode cX13_weighs 5 = .ok (.aload_n 0, 1) := dk_42 (dk_at dksX13_weighs_0 5 rfl rfl)
theorem dX13_weighs_6 : decode cX13_weighs 6 = .ok (.getfield 9, 3) := dk_180 0 9 (dk_at dksX13_weighs_0 6 rfl rfl)
theorem dX13_weighs_9 : decode cX13_weighs 9 = .ok (.bipush 43, 2) := dk_16 43 (dk_at dksX13_weighs_0 9 rfl rfl)
theorem dX13_weighs_11 : decode cX13_weighs 11 = .ok (.iaload, 1) := dk_46 (dk_at dksX13_weighs_0 11 rfl rfl)
theorem dX13_weighs_12 : decode cX13_weighs 12 = .ok (.if_icmp .ge 30, 3) := dk_162 0 30 (dk_at dksX13_weighs_0 12 rfl rfl)
theorem dX13_weighs_15 : decode cX13_weighs 15 = .ok (.iload_n 2, 1) := dk_28 (dk_at dksX13_weighs_0 15 rfl rfl)
theorem dX13_weighs_16 : decode cX13_weighs 16 = .ok (.iload_n 1, 1) := dk_27 (dk_at dksX13_weighs_0 16 rfl rfl)
theorem dX13_weighs_17 : decode cX13_weighs 17 = .ok (.iload_n 3, 1) := dk_29 (dk_at dksX13_weighs_0 17 rfl rfl)
theorem dX13_weighs_18 : decode cX13_weighs 18 = .ok (.invokestatic 114, 3) := dk_184 0 114 (dk_at dksX13_weighs_0 18 rfl rfl)
theorem dX13_weighs_21 : decode cX13_weighs 21 = .ok (.ifCond .eq 12, 3) := dk_153 0 12 (dk_at dksX13_weighs_0 21 rfl rfl)
theorem dX13_weighs_24 : decode cX13_weighs 24 = .ok (.aload_n 0, 1) := dk_42 (dk_at dksX13_weighs_1 0 rfl rfl)
theorem dX13_weighs_25 : decode cX13_weighs 25 = .ok (.iload_n 3, 1) := dk_29 (dk_at dksX13_weighs_1 1 rfl rfl)
theorem dX13_weighs_26 : decode cX13_weighs 26 = .ok (.iconst 0, 1) := dk_3 (dk_at dksX13_weighs_1 2 rfl rfl)
theorem dX13_weighs_27 : decode cX13_weighs 27 = .ok (.invokevirtual 111, 3) := dk_182 0 111 (dk_at dksX13_weighs_1 3 rfl rfl)
theorem dX13_weighs_30 : decode cX13_weighs 30 = .ok (.goto 4, 3) := dk_167 0 4 (dk_at dksX13_weighs_1 6 rfl rfl)
theorem dX13_weighs_33 : decode cX13_weighs 33 = .ok (.iconst 0, 1) := dk_3 (dk_at dksX13_weighs_1 9 rfl rfl)
theorem dX13_weighs_34 : decode cX13_weighs 34 = .ok (.iadd, 1) := dk_96 (dk_at dksX13_weighs_1 10 rfl rfl)
theorem dX13_weighs_35 : decode cX13_weighs 35 = .ok (.istore_n 2, 1) := dk_61 (dk_at dksX13_weighs_1 11 rfl rfl)
theorem dX13_weighs_36 : decode cX13_weighs 36 = .ok (.iinc 3 1, 3) := dk_132 3 1 (dk_at dksX13_weighs_1 12 rfl rfl)
theorem dX13_weighs_39 : decode cX13_weighs 39 = .ok (.goto (-35), 3) := dk_167 255 221 (dk_at dksX13_weighs_1 15 rfl rfl)
theorem dX13_weighs_42 : decode cX13_weighs 42 = .ok (.iload_n 2, 1) := dk_28 (dk_at dksX13_weighs_1 18 rfl rfl)
theorem dX13_weighs_43 : decode cX13_weighs 43 = .ok (.ireturn, 1) := dk_172 (dk_at dksX13_weighs_1 19 rfl rfl)
abbrev cX13_has : ByteArray := prog_16_method_7_code
def yX13_has : MethodName := ⟨RX13, "has", "(II)Z"⟩
def dkwX13_has_0 : List UInt8 := [26, 27, 122, 4, 126, 4, 160, 0, 7, 4, 167, 0, 4, 3, 172]
abbrev dktX13_has_0 : List UInt8 := dkwX13_has_0 ++ []
theorem dksX13_has_0 : cX13_has.data.toList.drop 0 = dktX13_has_0 := by decide +kernel
theorem dX13_has_0 : decode cX13_has 0 = .ok (.iload_n 0, 1) := dk_26 (dk_at dksX13_has_0 0 rfl rfl)
theorem dX13_has_1 : decode cX13_has 1 = .ok (.iload_n 1, 1) := dk_27 (dk_at dksX13_has_0 1 rfl rfl)
theorem dX13_has_2 : decode cX13_has 2 = .ok (.ishr, 1) := dk_122 (dk_at dksX13_has_0 2 rfl rfl)
theorem dX13_has_3 : decode cX13_has 3 = .ok (.iconst 1, 1) := dk_4 (dk_at dksX13_has_0 3 rfl rfl)
theorem dX13_has_4 : decode cX13_has 4 = .ok (.iand, 1) := dk_126 (dk_at dksX13_has_0 4 rfl rfl)
theorem dX13_has_5 : decode cX13_has 5 = .ok (.iconst 1, 1) := dk_4 (dk_at dksX13_has_0 5 rfl rfl)
theorem dX13_has_6 : decode cX13_has 6 = .ok (.if_icmp .ne 7, 3) := dk_160 0 7 (dk_at dksX13_has_0 6 rfl rfl)
theorem dX13_has_9 : decode cX13_has 9 = .ok (.iconst 1, 1) := dk_4 (dk_at dksX13_has_0 9 rfl rfl)
theorem dX13_has_10 : decode cX13_has 10 = .ok (.goto 4, 3) := dk_167 0 4 (dk_at dksX13_has_0 10 rfl rfl)
theorem dX13_has_13 : decode cX13_has 13 = .ok (.iconst 0, 1) := dk_3 (dk_at dksX13_has_0 13 rfl rfl)
theorem dX13_has_14 : decode cX13_has 14 = .ok (.ireturn, 1) := dk_172 (dk_at dksX13_has_0 14 rfl rfl)
abbrev cX13_change : ByteArray := prog_16_method_28_code
def yX13_change : MethodName := ⟨RX13, "change", "(III)I"⟩
def dkwX13_change_3 : List UInt8 := [153, 0, 16, 42, 27, 28, 184, 0, 81, 29, 182, 0, 133, 167, 0, 9, 42, 18, 72, 182, 0, 92, 172]
abbrev dktX13_change_3 : List UInt8 := dkwX13_change_3 ++ []
def dkwX13_change_2 : List UInt8 := [184, 0, 77, 153, 0, 7, 4, 167, 0, 4, 3, 54, 4, 42, 27, 182, 0, 117, 153, 0, 21, 21, 4]
abbrev dktX13_change_2 : List UInt8 := dkwX13_change_2 ++ dktX13_change_3
def dkwX13_change_1 : List UInt8 := [5, 160, 0, 13, 29, 4, 16, 99, 184, 0, 77, 154, 0, 18, 28, 6, 160, 0, 17, 29, 3, 18, 132]
abbrev dktX13_change_1 : List UInt8 := dkwX13_change_1 ++ dktX13_change_2
def dkwX13_change_0 : List UInt8 := [28, 154, 0, 10, 29, 184, 0, 88, 154, 0, 45, 28, 4, 160, 0, 10, 29, 184, 0, 129, 154, 0, 33, 28]
abbrev dktX13_change_0 : List UInt8 := dkwX13_change_0 ++ dktX13_change_1
theorem dksX13_change_0 : cX13_change.data.toList.drop 0 = dktX13_change_0 := by decide +kernel
theorem dksX13_change_1 : cX13_change.data.toList.drop 24 = dktX13_change_1 := dk_seg dksX13_change_0 24 rfl rfl
theorem dksX13_change_2 : cX13_change.data.toList.drop 47 = dktX13_change_2 := dk_seg dksX13_change_1 23 rfl rfl
theorem dksX13_change_3 : cX13_change.data.toList.drop 70 = dktX13_change_3 := dk_seg dksX13_change_2 23 rfl rfl
theorem dX13_change_0 : decode cX13_change 0 = .ok (.iload_n 2, 1) := dk_28 (dk_at dksX13_change_0 0 rfl rfl)
theorem dX13_change_1 : decode cX13_change 1 = .ok (.ifCond .ne 10, 3) := dk_154 0 10 (dk_at dksX13_change_0 1 rfl rfl)
theorem dX13_change_4 : decode cX13_change 4 = .ok (.iload_n 3, 1) := dk_29 (dk_at dksX13_change_0 4 rfl rfl)
theorem dX13_change_5 : decode cX13_change 5 = .ok (.invokestatic 88, 3) := dk_184 0 88 (dk_at dksX13_change_0 5 rfl rfl)
theorem dX13_change_8 : decode cX13_change 8 = .ok (.ifCond .ne 45, 3) := dk_154 0 45 (dk_at dksX13_change_0 8 rfl rfl)
theorem dX13_change_11 : decode cX13_change 11 = .ok (.iload_n 2, 1) := dk_28 (dk_at dksX13_change_0 11 rfl rfl)
theorem dX13_change_12 : decode cX13_change 12 = .ok (.iconst 1, 1) := dk_4 (dk_at dksX13_change_0 12 rfl rfl)
theorem dX13_change_13 : decode cX13_change 13 = .ok (.if_icmp .ne 10, 3) := dk_160 0 10 (dk_at dksX13_change_0 13 rfl rfl)
theorem dX13_change_16 : decode cX13_change 16 = .ok (.iload_n 3, 1) := dk_29 (dk_at dksX13_change_0 16 rfl rfl)
theorem dX13_change_17 : decode cX13_change 17 = .ok (.invokestatic 129, 3) := dk_184 0 129 (dk_at dksX13_change_0 17 rfl rfl)
theorem dX13_change_20 : decode cX13_change 20 = .ok (.ifCond .ne 33, 3) := dk_154 0 33 (dk_at dksX13_change_0 20 rfl rfl)
theorem dX13_change_23 : decode cX13_change 23 = .ok (.iload_n 2, 1) := dk_28 (dk_at dksX13_change_0 23 rfl rfl)
theorem dX13_change_24 : decode cX13_change 24 = .ok (.iconst 2, 1) := dk_5 (dk_at dksX13_change_1 0 rfl rfl)
theorem dX13_change_25 : decode cX13_change 25 = .ok (.if_icmp .ne 13, 3) := dk_160 0 13 (dk_at dksX13_change_1 1 rfl rfl)
theorem dX13_change_28 : decode cX13_change 28 = .ok (.iload_n 3, 1) := dk_29 (dk_at dksX13_change_1 4 rfl rfl)
theorem dX13_change_29 : decode cX13_change 29 = .ok (.iconst 1, 1) := dk_4 (dk_at dksX13_change_1 5 rfl rfl)
theorem dX13_change_30 : decode cX13_change 30 = .ok (.bipush 99, 2) := dk_16 99 (dk_at dksX13_change_1 6 rfl rfl)
theorem dX13_change_32 : decode cX13_change 32 = .ok (.invokestatic 77, 3) := dk_184 0 77 (dk_at dksX13_change_1 8 rfl rfl)
theorem dX13_change_35 : decode cX13_change 35 = .ok (.ifCond .ne 18, 3) := dk_154 0 18 (dk_at dksX13_change_1 11 rfl rfl)
theorem dX13_change_38 : decode cX13_change 38 = .ok (.iload_n 2, 1) := dk_28 (dk_at dksX13_change_1 14 rfl rfl)
theorem dX13_change_39 : decode cX13_change 39 = .ok (.iconst 3, 1) := dk_6 (dk_at dksX13_change_1 15 rfl rfl)
theorem dX13_change_40 : decode cX13_change 40 = .ok (.if_icmp .ne 17, 3) := dk_160 0 17 (dk_at dksX13_change_1 16 rfl rfl)
theorem dX13_change_43 : decode cX13_change 43 = .ok (.iload_n 3, 1) := dk_29 (dk_at dksX13_change_1 19 rfl rfl)
theorem dX13_change_44 : decode cX13_change 44 = .ok (.iconst 0, 1) := dk_3 (dk_at dksX13_change_1 20 rfl rfl)
theorem dX13_change_45 : decode cX13_change 45 = .ok (.ldc 132, 2) := dk_18 132 (dk_at dksX13_change_1 21 rfl rfl)
theorem dX13_change_47 : decode cX13_change 47 = .ok (.invokestatic 77, 3) := dk_184 0 77 (dk_at dksX13_change_2 0 rfl rfl)
theorem dX13_change_50 : decode cX13_change 50 = .ok (.ifCond .eq 7, 3) := dk_153 0 7 (dk_at dksX13_change_2 3 rfl rfl)
theorem dX13_change_53 : decode cX13_change 53 = .ok (.iconst 1, 1) := dk_4 (dk_at dksX13_change_2 6 rfl rfl)
theorem dX13_change_54 : decode cX13_change 54 = .ok (.goto 4, 3) := dk_167 0 4 (dk_at dksX13_change_2 7 rfl rfl)
theorem dX13_change_57 : decode cX13_change 57 = .ok (.iconst 0, 1) := dk_3 (dk_at dksX13_change_2 10 rfl rfl)
theorem dX13_change_58 : decode cX13_change 58 = .ok (.istore 4, 2) := dk_54 4 (dk_at dksX13_change_2 11 rfl rfl)
theorem dX13_change_60 : decode cX13_change 60 = .ok (.aload_n 0, 1) := dk_42 (dk_at dksX13_change_2 13 rfl rfl)
theorem dX13_change_61 : decode cX13_change 61 = .ok (.iload_n 1, 1) := dk_27 (dk_at dksX13_change_2 14 rfl rfl)
theorem dX13_change_62 : decode cX13_change 62 = .ok (.invokevirtual 117, 3) := dk_182 0 117 (dk_at dksX13_change_2 15 rfl rfl)
theorem dX13_change_65 : decode cX13_change 65 = .ok (.ifCond .eq 21, 3) := dk_153 0 21 (dk_at dksX13_change_2 18 rfl rfl)
theorem dX13_change_68 : decode cX13_change 68 = .ok (.iload 4, 2) := dk_21 4 (dk_at dksX13_change_2 21 rfl rfl)
theorem dX13_change_70 : decode cX13_change 70 = .ok (.ifCond .eq 16, 3) := dk_153 0 16 (dk_at dksX13_change_3 0 rfl rfl)
theorem dX13_change_73 : decode cX13_change 73 = .ok (.aload_n 0, 1) := dk_42 (dk_at dksX13_change_3 3 rfl rfl)
theorem dX13_change_74 : decode cX13_change 74 = .ok (.iload_n 1, 1) := dk_27 (dk_at dksX13_change_3 4 rfl rfl)
theorem dX13_change_75 : decode cX13_change 75 = .ok (.iload_n 2, 1) := dk_28 (dk_at dksX13_change_3 5 rfl rfl)
theorem dX13_change_76 : decode cX13_change 76 = .ok (.invokestatic 81, 3) := dk_184 0 81 (dk_at dksX13_change_3 6 rfl rfl)
theorem dX13_change_79 : decode cX13_change 79 = .ok (.iload_n 3, 1) := dk_29 (dk_at dksX13_change_3 9 rfl rfl)
theorem dX13_change_80 : decode cX13_change 80 = .ok (.invokevirtual 133, 3) := dk_182 0 133 (dk_at dksX13_change_3 10 rfl rfl)
theorem dX13_change_83 : decode cX13_change 83 = .ok (.goto 9, 3) := dk_167 0 9 (dk_at dksX13_change_3 13 rfl rfl)
theorem dX13_change_86 : decode cX13_change 86 = .ok (.aload_n 0, 1) := dk_42 (dk_at dksX13_change_3 16 rfl rfl)
theorem dX13_change_87 : decode cX13_change 87 = .ok (.ldc 72, 2) := dk_18 72 (dk_at dksX13_change_3 17 rfl rfl)
theorem dX13_change_89 : decode cX13_change 89 = .ok (.invokevirtual 92, 3) := dk_182 0 92 (dk_at dksX13_change_3 19 rfl rfl)
theorem dX13_change_92 : decode cX13_change 92 = .ok (.ireturn, 1) := dk_172 (dk_at dksX13_change_3 22 rfl rfl)
abbrev cX13_isPlace : ByteArray := prog_16_method_9_code
def yX13_isPlace : MethodName := ⟨RX13, "isPlace", "(I)Z"⟩
def dkwX13_isPlace_0 : List UInt8 := [26, 3, 16, 6, 184, 0, 77, 172]
abbrev dktX13_isPlace_0 : List UInt8 := dkwX13_isPlace_0 ++ []
theorem dksX13_isPlace_0 : cX13_isPlace.data.toList.drop 0 = dktX13_isPlace_0 := by decide +kernel
theorem dX13_isPlace_0 : decode cX13_isPlace 0 = .ok (.iload_n 0, 1) := dk_26 (dk_at dksX13_isPlace_0 0 rfl rfl)
theorem dX13_isPlace_1 : decode cX13_isPlace 1 = .ok (.iconst 0, 1) := dk_3 (dk_at dksX13_isPlace_0 1 rfl rfl)
theorem dX13_isPlace_2 : decode cX13_isPlace 2 = .ok (.bipush 6, 2) := dk_16 6 (dk_at dksX13_isPlace_0 2 rfl rfl)
theorem dX13_isPlace_4 : decode cX13_isPlace 4 = .ok (.invokestatic 77, 3) := dk_184 0 77 (dk_at dksX13_isPlace_0 4 rfl rfl)
theorem dX13_isPlace_7 : decode cX13_isPlace 7 = .ok (.ireturn, 1) := dk_172 (dk_at dksX13_isPlace_0 7 rfl rfl)
abbrev cX13_become : ByteArray := prog_16_method_4_code
def yX13_become : MethodName := ⟨RX13, "become", "(II)I"⟩
def dkwX13_become_0 : List UInt8 := [42, 180, 0, 9, 27, 46, 62, 42, 180, 0, 9, 27, 28, 79, 29, 172]
abbrev dktX13_become_0 : List UInt8 := dkwX13_become_0 ++ []
theorem dksX13_become_0 : cX13_become.data.toList.drop 0 = dktX13_become_0 := by decide +kernel
theorem dX13_become_0 : decode cX13_become 0 = .ok (.aload_n 0, 1) := dk_42 (dk_at dksX13_become_0 0 rfl rfl)
theorem dX13_become_1 : decode cX13_become 1 = .ok (.getfield 9, 3) := dk_180 0 9 (dk_at dksX13_become_0 1 rfl rfl)
theorem dX13_become_4 : decode cX13_become 4 = .ok (.iload_n 1, 1) := dk_27 (dk_at dksX13_become_0 4 rfl rfl)
theorem dX13_become_5 : decode cX13_become 5 = .ok (.iaload, 1) := dk_46 (dk_at dksX13_become_0 5 rfl rfl)
theorem dX13_become_6 : decode cX13_become 6 = .ok (.istore_n 3, 1) := dk_62 (dk_at dksX13_become_0 6 rfl rfl)
theorem dX13_become_7 : decode cX13_become 7 = .ok (.aload_n 0, 1) := dk_42 (dk_at dksX13_become_0 7 rfl rfl)
theorem dX13_become_8 : decode cX13_become 8 = .ok (.getfield 9, 3) := dk_180 0 9 (dk_at dksX13_become_0 8 rfl rfl)
theorem dX13_become_11 : decode cX13_become 11 = .ok (.iload_n 1, 1) := dk_27 (dk_at dksX13_become_0 11 rfl rfl)
theorem dX13_become_12 : decode cX13_become 12 = .ok (.iload_n 2, 1) := dk_28 (dk_at dksX13_become_0 12 rfl rfl)
theorem dX13_become_13 : decode cX13_become 13 = .ok (.iastore, 1) := dk_79 (dk_at dksX13_become_0 13 rfl rfl)
theorem dX13_become_14 : decode cX13_become 14 = .ok (.iload_n 3, 1) := dk_29 (dk_at dksX13_become_0 14 rfl rfl)
theorem dX13_become_15 : decode cX13_become 15 = .ok (.ireturn, 1) := dk_172 (dk_at dksX13_become_0 15 rfl rfl)
abbrev cX13_way : ByteArray := prog_16_method_31_code
def yX13_way : MethodName := ⟨RX13, "way", "(IIII)I"⟩
def dkwX13_way_2 : List UInt8 := [21, 5, 153, 0, 15, 42, 27, 28, 29, 21, 4, 182, 0, 147, 167, 0, 9, 42, 18, 72, 182, 0, 92, 172]
abbrev dktX13_way_2 : List UInt8 := dkwX13_way_2 ++ []
def dkwX13_way_1 : List UInt8 := [184, 0, 77, 153, 0, 17, 21, 4, 3, 4, 184, 0, 77, 153, 0, 7, 4, 167, 0, 4, 3, 54, 5]
abbrev dktX13_way_1 : List UInt8 := dkwX13_way_1 ++ dktX13_way_2
def dkwX13_way_0 : List UInt8 := [27, 184, 0, 129, 153, 0, 39, 28, 184, 0, 129, 153, 0, 32, 27, 28, 159, 0, 27, 29, 3, 16, 99]
abbrev dktX13_way_0 : List UInt8 := dkwX13_way_0 ++ dktX13_way_1
theorem dksX13_way_0 : cX13_way.data.toList.drop 0 = dktX13_way_0 := by decide +kernel
theorem dksX13_way_1 : cX13_way.data.toList.drop 23 = dktX13_way_1 := dk_seg dksX13_way_0 23 rfl rfl
theorem dksX13_way_2 : cX13_way.data.toList.drop 46 = dktX13_way_2 := dk_seg dksX13_way_1 23 rfl rfl
theorem dX13_way_0 : decode cX13_way 0 = .ok (.iload_n 1, 1) := dk_27 (dk_at dksX13_way_0 0 rfl rfl)
theorem dX13_way_1 : decode cX13_way 1 = .ok (.invokestatic 129, 3) := dk_184 0 129 (dk_at dksX13_way_0 1 rfl rfl)
theorem dX13_way_4 : decode cX13_way 4 = .ok (.ifCond .eq 39, 3) := dk_153 0 39 (dk_at dksX13_way_0 4 rfl rfl)
theorem dX13_way_7 : decode cX13_way 7 = .ok (.iload_n 2, 1) := dk_28 (dk_at dksX13_way_0 7 rfl rfl)
theorem dX13_way_8 : decode cX13_way 8 = .ok (.invokestatic 129, 3) := dk_184 0 129 (dk_at dksX13_way_0 8 rfl rfl)
theorem dX13_way_11 : decode cX13_way 11 = .ok (.ifCond .eq 32, 3) := dk_153 0 32 (dk_at dksX13_way_0 11 rfl rfl)
theorem dX13_way_14 : decode cX13_way 14 = .ok (.iload_n 1, 1) := dk_27 (dk_at dksX13_way_0 14 rfl rfl)
theorem dX13_way_15 : decode cX13_way 15 = .ok (.iload_n 2, 1) := dk_28 (dk_at dksX13_way_0 15 rfl rfl)
theorem dX13_way_16 : decode cX13_way 16 = .ok (.if_icmp .eq 27, 3) := dk_159 0 27 (dk_at dksX13_way_0 16 rfl rfl)
theorem dX13_way_19 : decode cX13_way 19 = .ok (.iload_n 3, 1) := dk_29 (dk_at dksX13_way_0 19 rfl rfl)
theorem dX13_way_20 : decode cX13_way 20 = .ok (.iconst 0, 1) := dk_3 (dk_at dksX13_way_0 20 rfl rfl)
theorem dX13_way_21 : decode cX13_way 21 = .ok (.bipush 99, 2) := dk_16 99 (dk_at dksX13_way_0 21 rfl rfl)
theorem dX13_way_23 : decode cX13_way 23 = .ok (.invokestatic 77, 3) := dk_184 0 77 (dk_at dksX13_way_1 0 rfl rfl)
theorem dX13_way_26 : decode cX13_way 26 = .ok (.ifCond .eq 17, 3) := dk_153 0 17 (dk_at dksX13_way_1 3 rfl rfl)
theorem dX13_way_29 : decode cX13_way 29 = .ok (.iload 4, 2) := dk_21 4 (dk_at dksX13_way_1 6 rfl rfl)
theorem dX13_way_31 : decode cX13_way 31 = .ok (.iconst 0, 1) := dk_3 (dk_at dksX13_way_1 8 rfl rfl)
theorem dX13_way_32 : decode cX13_way 32 = .ok (.iconst 1, 1) := dk_4 (dk_at dksX13_way_1 9 rfl rfl)
theorem dX13_way_33 : decode cX13_way 33 = .ok (.invokestatic 77, 3) := dk_184 0 77 (dk_at dksX13_way_1 10 rfl rfl)
theorem dX13_way_36 : decode cX13_way 36 = .ok (.ifCond .eq 7, 3) := dk_153 0 7 (dk_at dksX13_way_1 13 rfl rfl)
theorem dX13_way_39 : decode cX13_way 39 = .ok (.iconst 1, 1) := dk_4 (dk_at dksX13_way_1 16 rfl rfl)
theorem dX13_way_40 : decode cX13_way 40 = .ok (.goto 4, 3) := dk_167 0 4 (dk_at dksX13_way_1 17 rfl rfl)
theorem dX13_way_43 : decode cX13_way 43 = .ok (.iconst 0, 1) := dk_3 (dk_at dksX13_way_1 20 rfl rfl)
theorem dX13_way_44 : decode cX13_way 44 = .ok (.istore 5, 2) := dk_54 5 (dk_at dksX13_way_1 21 rfl rfl)
theorem dX13_way_46 : decode cX13_way 46 = .ok (.iload 5, 2) := dk_21 5 (dk_at dksX13_way_2 0 rfl rfl)
theorem dX13_way_48 : decode cX13_way 48 = .ok (.ifCond .eq 15, 3) := dk_153 0 15 (dk_at dksX13_way_2 2 rfl rfl)
theorem dX13_way_51 : decode cX13_way 51 = .ok (.aload_n 0, 1) := dk_42 (dk_at dksX13_way_2 5 rfl rfl)
theorem dX13_way_52 : decode cX13_way 52 = .ok (.iload_n 1, 1) := dk_27 (dk_at dksX13_way_2 6 rfl rfl)
theorem dX13_way_53 : decode cX13_way 53 = .ok (.iload_n 2, 1) := dk_28 (dk_at dksX13_way_2 7 rfl rfl)
theorem dX13_way_54 : decode cX13_way 54 = .ok (.iload_n 3, 1) := dk_29 (dk_at dksX13_way_2 8 rfl rfl)
theorem dX13_way_55 : decode cX13_way 55 = .ok (.iload 4, 2) := dk_21 4 (dk_at dksX13_way_2 9 rfl rfl)
theorem dX13_way_57 : decode cX13_way 57 = .ok (.invokevirtual 147, 3) := dk_182 0 147 (dk_at dksX13_way_2 11 rfl rfl)
theorem dX13_way_60 : decode cX13_way 60 = .ok (.goto 9, 3) := dk_167 0 9 (dk_at dksX13_way_2 14 rfl rfl)
theorem dX13_way_63 : decode cX13_way 63 = .ok (.aload_n 0, 1) := dk_42 (dk_at dksX13_way_2 17 rfl rfl)
theorem dX13_way_64 : decode cX13_way 64 = .ok (.ldc 72, 2) := dk_18 72 (dk_at dksX13_way_2 18 rfl rfl)
theorem dX13_way_66 : decode cX13_way 66 = .ok (.invokevirtual 92, 3) := dk_182 0 92 (dk_at dksX13_way_2 20 rfl rfl)
theorem dX13_way_69 : decode cX13_way 69 = .ok (.ireturn, 1) := dk_172 (dk_at dksX13_way_2 23 rfl rfl)
abbrev cX13_wayIs : ByteArray := prog_16_method_30_code
def yX13_wayIs : MethodName := ⟨RX13, "wayIs", "(IIII)I"⟩
def dkwX13_wayIs_1 : List UInt8 := [172]
abbrev dktX13_wayIs_1 : List UInt8 := dkwX13_wayIs_1 ++ []
def dkwX13_wayIs_0 : List UInt8 := [42, 180, 0, 9, 27, 28, 184, 0, 144, 4, 96, 21, 4, 79, 42, 27, 28, 184, 0, 144, 29, 182, 0, 133]
abbrev dktX13_wayIs_0 : List UInt8 := dkwX13_wayIs_0 ++ dktX13_wayIs_1
theorem dksX13_wayIs_0 : cX13_wayIs.data.toList.drop 0 = dktX13_wayIs_0 := by decide +kernel
theorem dksX13_wayIs_1 : cX13_wayIs.data.toList.drop 24 = dktX13_wayIs_1 := dk_seg dksX13_wayIs_0 24 rfl rfl
theorem dX13_wayIs_0 : decode cX13_wayIs 0 = .ok (.aload_n 0, 1) := dk_42 (dk_at dksX13_wayIs_0 0 rfl rfl)
theorem dX13_wayIs_1 : decode cX13_wayIs 1 = .ok (.getfield 9, 3) := dk_180 0 9 (dk_at dksX13_wayIs_0 1 rfl rfl)
theorem dX13_wayIs_4 : decode cX13_wayIs 4 = .ok (.iload_n 1, 1) := dk_27 (dk_at dksX13_wayIs_0 4 rfl rfl)
theorem dX13_wayIs_5 : decode cX13_wayIs 5 = .ok (.iload_n 2, 1) := dk_28 (dk_at dksX13_wayIs_0 5 rfl rfl)
theorem dX13_wayIs_6 : decode cX13_wayIs 6 = .ok (.invokestatic 144, 3) := dk_184 0 144 (dk_at dksX13_wayIs_0 6 rfl rfl)
theorem dX13_wayIs_9 : decode cX13_wayIs 9 = .ok (.iconst 1, 1) := dk_4 (dk_at dksX13_wayIs_0 9 rfl rfl)
theorem dX13_wayIs_10 : decode cX13_wayIs 10 = .ok (.iadd, 1) := dk_96 (dk_at dksX13_wayIs_0 10 rfl rfl)
theorem dX13_wayIs_11 : decode cX13_wayIs 11 = .ok (.iload 4, 2) := dk_21 4 (dk_at dksX13_wayIs_0 11 rfl rfl)
theorem dX13_wayIs_13 : decode cX13_wayIs 13 = .ok (.iastore, 1) := dk_79 (dk_at dksX13_wayIs_0 13 rfl rfl)
theorem dX13_wayIs_14 : decode cX13_wayIs 14 = .ok (.aload_n 0, 1) := dk_42 (dk_at dksX13_wayIs_0 14 rfl rfl)
theorem dX13_wayIs_15 : decode cX13_wayIs 15 = .ok (.iload_n 1, 1) := dk_27 (dk_at dksX13_wayIs_0 15 rfl rfl)
theorem dX13_wayIs_16 : decode cX13_wayIs 16 = .ok (.iload_n 2, 1) := dk_28 (dk_at dksX13_wayIs_0 16 rfl rfl)
theorem dX13_wayIs_17 : decode cX13_wayIs 17 = .ok (.invokestatic 144, 3) := dk_184 0 144 (dk_at dksX13_wayIs_0 17 rfl rfl)
theorem dX13_wayIs_20 : decode cX13_wayIs 20 = .ok (.iload_n 3, 1) := dk_29 (dk_at dksX13_wayIs_0 20 rfl rfl)
theorem dX13_wayIs_21 : decode cX13_wayIs 21 = .ok (.invokevirtual 133, 3) := dk_182 0 133 (dk_at dksX13_wayIs_0 21 rfl rfl)
theorem dX13_wayIs_24 : decode cX13_wayIs 24 = .ok (.ireturn, 1) := dk_172 (dk_at dksX13_wayIs_1 0 rfl rfl)
abbrev cX13_wayAt : ByteArray := prog_16_method_29_code
def yX13_wayAt : MethodName := ⟨RX13, "wayAt", "(II)I"⟩
def dkwX13_wayAt_1 : List UInt8 := [28, 100, 4, 100, 104, 96, 172]
abbrev dktX13_wayAt_1 : List UInt8 := dkwX13_wayAt_1 ++ []
def dkwX13_wayAt_0 : List UInt8 := [26, 27, 184, 0, 136, 61, 26, 27, 184, 0, 141, 62, 3, 5, 28, 16, 13, 28, 100, 104, 5, 108, 29, 96]
abbrev dktX13_wayAt_0 : List UInt8 := dkwX13_wayAt_0 ++ dktX13_wayAt_1
theorem dksX13_wayAt_0 : cX13_wayAt.data.toList.drop 0 = dktX13_wayAt_0 := by decide +kernel
theorem dksX13_wayAt_1 : cX13_wayAt.data.toList.drop 24 = dktX13_wayAt_1 := dk_seg dksX13_wayAt_0 24 rfl rfl
theorem dX13_wayAt_0 : decode cX13_wayAt 0 = .ok (.iload_n 0, 1) := dk_26 (dk_at dksX13_wayAt_0 0 rfl rfl)
theorem dX13_wayAt_1 : decode cX13_wayAt 1 = .ok (.iload_n 1, 1) := dk_27 (dk_at dksX13_wayAt_0 1 rfl rfl)
theorem dX13_wayAt_2 : decode cX13_wayAt 2 = .ok (.invokestatic 136, 3) := dk_184 0 136 (dk_at dksX13_wayAt_0 2 rfl rfl)
theorem dX13_wayAt_5 : decode cX13_wayAt 5 = .ok (.istore_n 2, 1) := dk_61 (dk_at dksX13_wayAt_0 5 rfl rfl)
theorem dX13_wayAt_6 : decode cX13_wayAt 6 = .ok (.iload_n 0, 1) := dk_26 (dk_at dksX13_wayAt_0 6 rfl rfl)
theorem dX13_wayAt_7 : decode cX13_wayAt 7 = .ok (.iload_n 1, 1) := dk_27 (dk_at dksX13_wayAt_0 7 rfl rfl)
theorem dX13_wayAt_8 : decode cX13_wayAt 8 = .ok (.invokestatic 141, 3) := dk_184 0 141 (dk_at dksX13_wayAt_0 8 rfl rfl)
theorem dX13_wayAt_11 : decode cX13_wayAt 11 = .ok (.istore_n 3, 1) := dk_62 (dk_at dksX13_wayAt_0 11 rfl rfl)
theorem dX13_wayAt_12 : decode cX13_wayAt 12 = .ok (.iconst 0, 1) := dk_3 (dk_at dksX13_wayAt_0 12 rfl rfl)
theorem dX13_wayAt_13 : decode cX13_wayAt 13 = .ok (.iconst 2, 1) := dk_5 (dk_at dksX13_wayAt_0 13 rfl rfl)
theorem dX13_wayAt_14 : decode cX13_wayAt 14 = .ok (.iload_n 2, 1) := dk_28 (dk_at dksX13_wayAt_0 14 rfl rfl)
theorem dX13_wayAt_15 : decode cX13_wayAt 15 = .ok (.bipush 13, 2) := dk_16 13 (dk_at dksX13_wayAt_0 15 rfl rfl)
theorem dX13_wayAt_17 : decode cX13_wayAt 17 = .ok (.iload_n 2, 1) := dk_28 (dk_at dksX13_wayAt_0 17 rfl rfl)
theorem dX13_wayAt_18 : decode cX13_wayAt 18 = .ok (.isub, 1) := dk_100 (dk_at dksX13_wayAt_0 18 rfl rfl)
theorem dX13_wayAt_19 : decode cX13_wayAt 19 = .ok (.imul, 1) := dk_104 (dk_at dksX13_wayAt_0 19 rfl rfl)
theorem dX13_wayAt_20 : decode cX13_wayAt 20 = .ok (.iconst 2, 1) := dk_5 (dk_at dksX13_wayAt_0 20 rfl rfl)
theorem dX13_wayAt_21 : decode cX13_wayAt 21 = .ok (.idiv, 1) := dk_108 (dk_at dksX13_wayAt_0 21 rfl rfl)
theorem dX13_wayAt_22 : decode cX13_wayAt 22 = .ok (.iload_n 3, 1) := dk_29 (dk_at dksX13_wayAt_0 22 rfl rfl)
theorem dX13_wayAt_23 : decode cX13_wayAt 23 = .ok (.iadd, 1) := dk_96 (dk_at dksX13_wayAt_0 23 rfl rfl)
theorem dX13_wayAt_24 : decode cX13_wayAt 24 = .ok (.iload_n 2, 1) := dk_28 (dk_at dksX13_wayAt_1 0 rfl rfl)
theorem dX13_wayAt_25 : decode cX13_wayAt 25 = .ok (.isub, 1) := dk_100 (dk_at dksX13_wayAt_1 1 rfl rfl)
theorem dX13_wayAt_26 : decode cX13_wayAt 26 = .ok (.iconst 1, 1) := dk_4 (dk_at dksX13_wayAt_1 2 rfl rfl)
theorem dX13_wayAt_27 : decode cX13_wayAt 27 = .ok (.isub, 1) := dk_100 (dk_at dksX13_wayAt_1 3 rfl rfl)
theorem dX13_wayAt_28 : decode cX13_wayAt 28 = .ok (.imul, 1) := dk_104 (dk_at dksX13_wayAt_1 4 rfl rfl)
theorem dX13_wayAt_29 : decode cX13_wayAt 29 = .ok (.iadd, 1) := dk_96 (dk_at dksX13_wayAt_1 5 rfl rfl)
theorem dX13_wayAt_30 : decode cX13_wayAt 30 = .ok (.ireturn, 1) := dk_172 (dk_at dksX13_wayAt_1 6 rfl rfl)
abbrev cX13_wayOf : ByteArray := prog_16_method_32_code
def yX13_wayOf : MethodName := ⟨RX13, "wayOf", "(III)I"⟩
def dkwX13_wayOf_2 : List UInt8 := [184, 0, 144, 29, 96, 46, 167, 0, 9, 42, 18, 72, 182, 0, 92, 172]
abbrev dktX13_wayOf_2 : List UInt8 := dkwX13_wayOf_2 ++ []
def dkwX13_wayOf_1 : List UInt8 := [184, 0, 77, 153, 0, 7, 4, 167, 0, 4, 3, 54, 4, 21, 4, 153, 0, 18, 42, 180, 0, 9, 27, 28]
abbrev dktX13_wayOf_1 : List UInt8 := dkwX13_wayOf_1 ++ dktX13_wayOf_2
def dkwX13_wayOf_0 : List UInt8 := [27, 184, 0, 129, 153, 0, 28, 28, 184, 0, 129, 153, 0, 21, 27, 28, 159, 0, 16, 29, 3, 4]
abbrev dktX13_wayOf_0 : List UInt8 := dkwX13_wayOf_0 ++ dktX13_wayOf_1
theorem dksX13_wayOf_0 : cX13_wayOf.data.toList.drop 0 = dktX13_wayOf_0 := by decide +kernel
theorem dksX13_wayOf_1 : cX13_wayOf.data.toList.drop 22 = dktX13_wayOf_1 := dk_seg dksX13_wayOf_0 22 rfl rfl
theorem dksX13_wayOf_2 : cX13_wayOf.data.toList.drop 46 = dktX13_wayOf_2 := dk_seg dksX13_wayOf_1 24 rfl rfl
theorem dX13_wayOf_0 : decode cX13_wayOf 0 = .ok (.iload_n 1, 1) := dk_27 (dk_at dksX13_wayOf_0 0 rfl rfl)
theorem dX13_wayOf_1 : decode cX13_wayOf 1 = .ok (.invokestatic 129, 3) := dk_184 0 129 (dk_at dksX13_wayOf_0 1 rfl rfl)
theorem dX13_wayOf_4 : decode cX13_wayOf 4 = .ok (.ifCond .eq 28, 3) := dk_153 0 28 (dk_at dksX13_wayOf_0 4 rfl rfl)
theorem dX13_wayOf_7 : decode cX13_wayOf 7 = .ok (.iload_n 2, 1) := dk_28 (dk_at dksX13_wayOf_0 7 rfl rfl)
theorem dX13_wayOf_8 : decode cX13_wayOf 8 = .ok (.invokestatic 129, 3) := dk_184 0 129 (dk_at dksX13_wayOf_0 8 rfl rfl)
theorem dX13_wayOf_11 : decode cX13_wayOf 11 = .ok (.ifCond .eq 21, 3) := dk_153 0 21 (dk_at dksX13_wayOf_0 11 rfl rfl)
theorem dX13_wayOf_14 : decode cX13_wayOf 14 = .ok (.iload_n 1, 1) := dk_27 (dk_at dksX13_wayOf_0 14 rfl rfl)
theorem dX13_wayOf_15 : decode cX13_wayOf 15 = .ok (.iload_n 2, 1) := dk_28 (dk_at dksX13_wayOf_0 15 rfl rfl)
theorem dX13_wayOf_16 : decode cX13_wayOf 16 = .ok (.if_icmp .eq 16, 3) := dk_159 0 16 (dk_at dksX13_wayOf_0 16 rfl rfl)
theorem dX13_wayOf_19 : decode cX13_wayOf 19 = .ok (.iload_n 3, 1) := dk_29 (dk_at dksX13_wayOf_0 19 rfl rfl)
theorem dX13_wayOf_20 : decode cX13_wayOf 20 = .ok (.iconst 0, 1) := dk_3 (dk_at dksX13_wayOf_0 20 rfl rfl)
theorem dX13_wayOf_21 : decode cX13_wayOf 21 = .ok (.iconst 1, 1) := dk_4 (dk_at dksX13_wayOf_0 21 rfl rfl)
theorem dX13_wayOf_22 : decode cX13_wayOf 22 = .ok (.invokestatic 77, 3) := dk_184 0 77 (dk_at dksX13_wayOf_1 0 rfl rfl)
theorem dX13_wayOf_25 : decode cX13_wayOf 25 = .ok (.ifCond .eq 7, 3) := dk_153 0 7 (dk_at dksX13_wayOf_1 3 rfl rfl)
theorem dX13_wayOf_28 : decode cX13_wayOf 28 = .ok (.iconst 1, 1) := dk_4 (dk_at dksX13_wayOf_1 6 rfl rfl)
theorem dX13_wayOf_29 : decode cX13_wayOf 29 = .ok (.goto 4, 3) := dk_167 0 4 (dk_at dksX13_wayOf_1 7 rfl rfl)
theorem dX13_wayOf_32 : decode cX13_wayOf 32 = .ok (.iconst 0, 1) := dk_3 (dk_at dksX13_wayOf_1 10 rfl rfl)
theorem dX13_wayOf_33 : decode cX13_wayOf 33 = .ok (.istore 4, 2) := dk_54 4 (dk_at dksX13_wayOf_1 11 rfl rfl)
theorem dX13_wayOf_35 : decode cX13_wayOf 35 = .ok (.iload 4, 2) := dk_21 4 (dk_at dksX13_wayOf_1 13 rfl rfl)
theorem dX13_wayOf_37 : decode cX13_wayOf 37 = .ok (.ifCond .eq 18, 3) := dk_153 0 18 (dk_at dksX13_wayOf_1 15 rfl rfl)
theorem dX13_wayOf_40 : decode cX13_wayOf 40 = .ok (.aload_n 0, 1) := dk_42 (dk_at dksX13_wayOf_1 18 rfl rfl)
theorem dX13_wayOf_41 : decode cX13_wayOf 41 = .ok (.getfield 9, 3) := dk_180 0 9 (dk_at dksX13_wayOf_1 19 rfl rfl)
theorem dX13_wayOf_44 : decode cX13_wayOf 44 = .ok (.iload_n 1, 1) := dk_27 (dk_at dksX13_wayOf_1 22 rfl rfl)
theorem dX13_wayOf_45 : decode cX13_wayOf 45 = .ok (.iload_n 2, 1) := dk_28 (dk_at dksX13_wayOf_1 23 rfl rfl)
theorem dX13_wayOf_46 : decode cX13_wayOf 46 = .ok (.invokestatic 144, 3) := dk_184 0 144 (dk_at dksX13_wayOf_2 0 rfl rfl)
theorem dX13_wayOf_49 : decode cX13_wayOf 49 = .ok (.iload_n 3, 1) := dk_29 (dk_at dksX13_wayOf_2 3 rfl rfl)
theorem dX13_wayOf_50 : decode cX13_wayOf 50 = .ok (.iadd, 1) := dk_96 (dk_at dksX13_wayOf_2 4 rfl rfl)
theorem dX13_wayOf_51 : decode cX13_wayOf 51 = .ok (.iaload, 1) := dk_46 (dk_at dksX13_wayOf_2 5 rfl rfl)
theorem dX13_wayOf_52 : decode cX13_wayOf 52 = .ok (.goto 9, 3) := dk_167 0 9 (dk_at dksX13_wayOf_2 6 rfl rfl)
theorem dX13_wayOf_55 : decode cX13_wayOf 55 = .ok (.aload_n 0, 1) := dk_42 (dk_at dksX13_wayOf_2 9 rfl rfl)
theorem dX13_wayOf_56 : decode cX13_wayOf 56 = .ok (.ldc 72, 2) := dk_18 72 (dk_at dksX13_wayOf_2 10 rfl rfl)
theorem dX13_wayOf_58 : decode cX13_wayOf 58 = .ok (.invokevirtual 92, 3) := dk_182 0 92 (dk_at dksX13_wayOf_2 12 rfl rfl)
theorem dX13_wayOf_61 : decode cX13_wayOf 61 = .ok (.ireturn, 1) := dk_172 (dk_at dksX13_wayOf_2 15 rfl rfl)
abbrev cX13_errand : ByteArray := prog_16_method_34_code
def yX13_errand : MethodName := ⟨RX13, "errand", "(III)I"⟩
def dkwX13_errand_2 : List UInt8 := [42, 18, 96, 182, 0, 92, 167, 0, 10, 42, 27, 28, 29, 182, 0, 151, 172]
abbrev dktX13_errand_2 : List UInt8 := dkwX13_errand_2 ++ []
def dkwX13_errand_1 : List UInt8 := [28, 29, 160, 0, 10, 42, 18, 72, 182, 0, 92, 172, 42, 180, 0, 9, 16, 43, 46, 16, 8, 160, 0, 12]
abbrev dktX13_errand_1 : List UInt8 := dkwX13_errand_1 ++ dktX13_errand_2
def dkwX13_errand_0 : List UInt8 := [27, 4, 16, 60, 184, 0, 77, 153, 0, 22, 28, 184, 0, 129, 153, 0, 15, 29, 184, 0, 129, 153, 0, 8]
abbrev dktX13_errand_0 : List UInt8 := dkwX13_errand_0 ++ dktX13_errand_1
theorem dksX13_errand_0 : cX13_errand.data.toList.drop 0 = dktX13_errand_0 := by decide +kernel
theorem dksX13_errand_1 : cX13_errand.data.toList.drop 24 = dktX13_errand_1 := dk_seg dksX13_errand_0 24 rfl rfl
theorem dksX13_errand_2 : cX13_errand.data.toList.drop 48 = dktX13_errand_2 := dk_seg dksX13_errand_1 24 rfl rfl
theorem dX13_errand_0 : decode cX13_errand 0 = .ok (.iload_n 1, 1) := dk_27 (dk_at dksX13_errand_0 0 rfl rfl)
theorem dX13_errand_1 : decode cX13_errand 1 = .ok (.iconst 1, 1) := dk_4 (dk_at dksX13_errand_0 1 rfl rfl)
theorem dX13_errand_2 : decode cX13_errand 2 = .ok (.bipush 60, 2) := dk_16 60 (dk_at dksX13_errand_0 2 rfl rfl)
theorem dX13_errand_4 : decode cX13_errand 4 = .ok (.invokestatic 77, 3) := dk_184 0 77 (dk_at dksX13_errand_0 4 rfl rfl)
theorem dX13_errand_7 : decode cX13_errand 7 = .ok (.ifCond .eq 22, 3) := dk_153 0 22 (dk_at dksX13_errand_0 7 rfl rfl)
theorem dX13_errand_10 : decode cX13_errand 10 = .ok (.iload_n 2, 1) := dk_28 (dk_at dksX13_errand_0 10 rfl rfl)
theorem dX13_errand_11 : decode cX13_errand 11 = .ok (.invokestatic 129, 3) := dk_184 0 129 (dk_at dksX13_errand_0 11 rfl rfl)
theorem dX13_errand_14 : decode cX13_errand 14 = .ok (.ifCond .eq 15, 3) := dk_153 0 15 (dk_at dksX13_errand_0 14 rfl rfl)
theorem dX13_errand_17 : decode cX13_errand 17 = .ok (.iload_n 3, 1) := dk_29 (dk_at dksX13_errand_0 17 rfl rfl)
theorem dX13_errand_18 : decode cX13_errand 18 = .ok (.invokestatic 129, 3) := dk_184 0 129 (dk_at dksX13_errand_0 18 rfl rfl)
theorem dX13_errand_21 : decode cX13_errand 21 = .ok (.ifCond .eq 8, 3) := dk_153 0 8 (dk_at dksX13_errand_0 21 rfl rfl)
theorem dX13_errand_24 : decode cX13_errand 24 = .ok (.iload_n 2, 1) := dk_28 (dk_at dksX13_errand_1 0 rfl rfl)
theorem dX13_errand_25 : decode cX13_errand 25 = .ok (.iload_n 3, 1) := dk_29 (dk_at dksX13_errand_1 1 rfl rfl)
theorem dX13_errand_26 : decode cX13_errand 26 = .ok (.if_icmp .ne 10, 3) := dk_160 0 10 (dk_at dksX13_errand_1 2 rfl rfl)
theorem dX13_errand_29 : decode cX13_errand 29 = .ok (.aload_n 0, 1) := dk_42 (dk_at dksX13_errand_1 5 rfl rfl)
theorem dX13_errand_30 : decode cX13_errand 30 = .ok (.ldc 72, 2) := dk_18 72 (dk_at dksX13_errand_1 6 rfl rfl)
theorem dX13_errand_32 : decode cX13_errand 32 = .ok (.invokevirtual 92, 3) := dk_182 0 92 (dk_at dksX13_errand_1 8 rfl rfl)
theorem dX13_errand_35 : decode cX13_errand 35 = .ok (.ireturn, 1) := dk_172 (dk_at dksX13_errand_1 11 rfl rfl)
theorem dX13_errand_36 : decode cX13_errand 36 = .ok (.aload_n 0, 1) := dk_42 (dk_at dksX13_errand_1 12 rfl rfl)
theorem dX13_errand_37 : decode cX13_errand 37 = .ok (.getfield 9, 3) := dk_180 0 9 (dk_at dksX13_errand_1 13 rfl rfl)
theorem dX13_errand_40 : decode cX13_errand 40 = .ok (.bipush 43, 2) := dk_16 43 (dk_at dksX13_errand_1 16 rfl rfl)
theorem dX13_errand_42 : decode cX13_errand 42 = .ok (.iaload, 1) := dk_46 (dk_at dksX13_errand_1 18 rfl rfl)
theorem dX13_errand_43 : decode cX13_errand 43 = .ok (.bipush 8, 2) := dk_16 8 (dk_at dksX13_errand_1 19 rfl rfl)
theorem dX13_errand_45 : decode cX13_errand 45 = .ok (.if_icmp .ne 12, 3) := dk_160 0 12 (dk_at dksX13_errand_1 21 rfl rfl)
theorem dX13_errand_48 : decode cX13_errand 48 = .ok (.aload_n 0, 1) := dk_42 (dk_at dksX13_errand_2 0 rfl rfl)
theorem dX13_errand_49 : decode cX13_errand 49 = .ok (.ldc 96, 2) := dk_18 96 (dk_at dksX13_errand_2 1 rfl rfl)
theorem dX13_errand_51 : decode cX13_errand 51 = .ok (.invokevirtual 92, 3) := dk_182 0 92 (dk_at dksX13_errand_2 3 rfl rfl)
theorem dX13_errand_54 : decode cX13_errand 54 = .ok (.goto 10, 3) := dk_167 0 10 (dk_at dksX13_errand_2 6 rfl rfl)
theorem dX13_errand_57 : decode cX13_errand 57 = .ok (.aload_n 0, 1) := dk_42 (dk_at dksX13_errand_2 9 rfl rfl)
theorem dX13_errand_58 : decode cX13_errand 58 = .ok (.iload_n 1, 1) := dk_27 (dk_at dksX13_errand_2 10 rfl rfl)
theorem dX13_errand_59 : decode cX13_errand 59 = .ok (.iload_n 2, 1) := dk_28 (dk_at dksX13_errand_2 11 rfl rfl)
theorem dX13_errand_60 : decode cX13_errand 60 = .ok (.iload_n 3, 1) := dk_29 (dk_at dksX13_errand_2 12 rfl rfl)
theorem dX13_errand_61 : decode cX13_errand 61 = .ok (.invokevirtual 151, 3) := dk_182 0 151 (dk_at dksX13_errand_2 13 rfl rfl)
theorem dX13_errand_64 : decode cX13_errand 64 = .ok (.ireturn, 1) := dk_172 (dk_at dksX13_errand_2 16 rfl rfl)
abbrev cX13_newErrand : ByteArray := prog_16_method_33_code
def yX13_newErrand : MethodName := ⟨RX13, "newErrand", "(III)I"⟩
def dkwX13_newErrand_3 : List UInt8 := [180, 0, 9, 16, 43, 92, 46, 4, 96, 79, 21, 4, 172]
abbrev dktX13_newErrand_3 : List UInt8 := dkwX13_newErrand_3 ++ []
def dkwX13_newErrand_2 : List UInt8 := [180, 0, 9, 21, 4, 6, 184, 0, 85, 3, 79, 42, 180, 0, 9, 21, 4, 7, 184, 0, 85, 2, 79, 42]
abbrev dktX13_newErrand_2 : List UInt8 := dkwX13_newErrand_2 ++ dktX13_newErrand_3
def dkwX13_newErrand_1 : List UInt8 := [180, 0, 9, 21, 4, 4, 184, 0, 85, 28, 79, 42, 180, 0, 9, 21, 4, 5, 184, 0, 85, 29, 79, 42]
abbrev dktX13_newErrand_1 : List UInt8 := dkwX13_newErrand_1 ++ dktX13_newErrand_2
def dkwX13_newErrand_0 : List UInt8 := [42, 180, 0, 9, 16, 43, 46, 54, 4, 42, 180, 0, 9, 21, 4, 3, 184, 0, 85, 27, 79, 42]
abbrev dktX13_newErrand_0 : List UInt8 := dkwX13_newErrand_0 ++ dktX13_newErrand_1
theorem dksX13_newErrand_0 : cX13_newErrand.data.toList.drop 0 = dktX13_newErrand_0 := by decide +kernel
theorem dksX13_newErrand_1 : cX13_newErrand.data.toList.drop 22 = dktX13_newErrand_1 := dk_seg dksX13_newErrand_0 22 rfl rfl
theorem dksX13_newErrand_2 : cX13_newErrand.data.toList.drop 46 = dktX13_newErrand_2 := dk_seg dksX13_newErrand_1 24 rfl rfl
theorem dksX13_newErrand_3 : cX13_newErrand.data.toList.drop 70 = dktX13_newErrand_3 := dk_seg dksX13_newErrand_2 24 rfl rfl
theorem dX13_newErrand_0 : decode cX13_newErrand 0 = .ok (.aload_n 0, 1) := dk_42 (dk_at dksX13_newErrand_0 0 rfl rfl)
theorem dX13_newErrand_1 : decode cX13_newErrand 1 = .ok (.getfield 9, 3) := dk_180 0 9 (dk_at dksX13_newErrand_0 1 rfl rfl)
theorem dX13_newErrand_4 : decode cX13_newErrand 4 = .ok (.bipush 43, 2) := dk_16 43 (dk_at dksX13_newErrand_0 4 rfl rfl)
theorem dX13_newErrand_6 : decode cX13_newErrand 6 = .ok (.iaload, 1) := dk_46 (dk_at dksX13_newErrand_0 6 rfl rfl)
theorem dX13_newErrand_7 : decode cX13_newErrand 7 = .ok (.istore 4, 2) := dk_54 4 (dk_at dksX13_newErrand_0 7 rfl rfl)
theorem dX13_newErrand_9 : decode cX13_newErrand 9 = .ok (.aload_n 0, 1) := dk_42 (dk_at dksX13_newErrand_0 9 rfl rfl)
theorem dX13_newErrand_10 : decode cX13_newErrand 10 = .ok (.getfield 9, 3) := dk_180 0 9 (dk_at dksX13_newErrand_0 10 rfl rfl)
theorem dX13_newErrand_13 : decode cX13_newErrand 13 = .ok (.iload 4, 2) := dk_21 4 (dk_at dksX13_newErrand_0 13 rfl rfl)
theorem dX13_newErrand_15 : decode cX13_newErrand 15 = .ok (.iconst 0, 1) := dk_3 (dk_at dksX13_newErrand_0 15 rfl rfl)
theorem dX13_newErrand_16 : decode cX13_newErrand 16 = .ok (.invokestatic 85, 3) := dk_184 0 85 (dk_at dksX13_newErrand_0 16 rfl rfl)
theorem dX13_newErrand_19 : decode cX13_newErrand 19 = .ok (.iload_n 1, 1) := dk_27 (dk_at dksX13_newErrand_0 19 rfl rfl)
theorem dX13_newErrand_20 : decode cX13_newErrand 20 = .ok (.iastore, 1) := dk_79 (dk_at dksX13_newErrand_0 20 rfl rfl)
theorem dX13_newErrand_21 : decode cX13_newErrand 21 = .ok (.aload_n 0, 1) := dk_42 (dk_at dksX13_newErrand_0 21 rfl rfl)
theorem dX13_newErrand_22 : decode cX13_newErrand 22 = .ok (.getfield 9, 3) := dk_180 0 9 (dk_at dksX13_newErrand_1 0 rfl rfl)
theorem dX13_newErrand_25 : decode cX13_newErrand 25 = .ok (.iload 4, 2) := dk_21 4 (dk_at dksX13_newErrand_1 3 rfl rfl)
theorem dX13_newErrand_27 : decode cX13_newErrand 27 = .ok (.iconst 1, 1) := dk_4 (dk_at dksX13_newErrand_1 5 rfl rfl)
theorem dX13_newErrand_28 : decode cX13_newErrand 28 = .ok (.invokestatic 85, 3) := dk_184 0 85 (dk_at dksX13_newErrand_1 6 rfl rfl)
theorem dX13_newErrand_31 : decode cX13_newErrand 31 = .ok (.iload_n 2, 1) := dk_28 (dk_at dksX13_newErrand_1 9 rfl rfl)
theorem dX13_newErrand_32 : decode cX13_newErrand 32 = .ok (.iastore, 1) := dk_79 (dk_at dksX13_newErrand_1 10 rfl rfl)
theorem dX13_newErrand_33 : decode cX13_newErrand 33 = .ok (.aload_n 0, 1) := dk_42 (dk_at dksX13_newErrand_1 11 rfl rfl)
theorem dX13_newErrand_34 : decode cX13_newErrand 34 = .ok (.getfield 9, 3) := dk_180 0 9 (dk_at dksX13_newErrand_1 12 rfl rfl)
theorem dX13_newErrand_37 : decode cX13_newErrand 37 = .ok (.iload 4, 2) := dk_21 4 (dk_at dksX13_newErrand_1 15 rfl rfl)
theorem dX13_newErrand_39 : decode cX13_newErrand 39 = .ok (.iconst 2, 1) := dk_5 (dk_at dksX13_newErrand_1 17 rfl rfl)
theorem dX13_newErrand_40 : decode cX13_newErrand 40 = .ok (.invokestatic 85, 3) := dk_184 0 85 (dk_at dksX13_newErrand_1 18 rfl rfl)
theorem dX13_newErrand_43 : decode cX13_newErrand 43 = .ok (.iload_n 3, 1) := dk_29 (dk_at dksX13_newErrand_1 21 rfl rfl)
theorem dX13_newErrand_44 : decode cX13_newErrand 44 = .ok (.iastore, 1) := dk_79 (dk_at dksX13_newErrand_1 22 rfl rfl)
theorem dX13_newErrand_45 : decode cX13_newErrand 45 = .ok (.aload_n 0, 1) := dk_42 (dk_at dksX13_newErrand_1 23 rfl rfl)
theorem dX13_newErrand_46 : decode cX13_newErrand 46 = .ok (.getfield 9, 3) := dk_180 0 9 (dk_at dksX13_newErrand_2 0 rfl rfl)
theorem dX13_newErrand_49 : decode cX13_newErrand 49 = .ok (.iload 4, 2) := dk_21 4 (dk_at dksX13_newErrand_2 3 rfl rfl)
theorem dX13_newErrand_51 : decode cX13_newErrand 51 = .ok (.iconst 3, 1) := dk_6 (dk_at dksX13_newErrand_2 5 rfl rfl)
theorem dX13_newErrand_52 : decode cX13_newErrand 52 = .ok (.invokestatic 85, 3) := dk_184 0 85 (dk_at dksX13_newErrand_2 6 rfl rfl)
theorem dX13_newErrand_55 : decode cX13_newErrand 55 = .ok (.iconst 0, 1) := dk_3 (dk_at dksX13_newErrand_2 9 rfl rfl)
theorem dX13_newErrand_56 : decode cX13_newErrand 56 = .ok (.iastore, 1) := dk_79 (dk_at dksX13_newErrand_2 10 rfl rfl)
theorem dX13_newErrand_57 : decode cX13_newErrand 57 = .ok (.aload_n 0, 1) := dk_42 (dk_at dksX13_newErrand_2 11 rfl rfl)
theorem dX13_newErrand_58 : decode cX13_newErrand 58 = .ok (.getfield 9, 3) := dk_180 0 9 (dk_at dksX13_newErrand_2 12 rfl rfl)
theorem dX13_newErrand_61 : decode cX13_newErrand 61 = .ok (.iload 4, 2) := dk_21 4 (dk_at dksX13_newErrand_2 15 rfl rfl)
theorem dX13_newErrand_63 : decode cX13_newErrand 63 = .ok (.iconst 4, 1) := dk_7 (dk_at dksX13_newErrand_2 17 rfl rfl)
theorem dX13_newErrand_64 : decode cX13_newErrand 64 = .ok (.invokestatic 85, 3) := dk_184 0 85 (dk_at dksX13_newErrand_2 18 rfl rfl)
theorem dX13_newErrand_67 : decode cX13_newErrand 67 = .ok (.iconst (-1), 1) := dk_2 (dk_at dksX13_newErrand_2 21 rfl rfl)
theorem dX13_newErrand_68 : decode cX13_newErrand 68 = .ok (.iastore, 1) := dk_79 (dk_at dksX13_newErrand_2 22 rfl rfl)
theorem dX13_newErrand_69 : decode cX13_newErrand 69 = .ok (.aload_n 0, 1) := dk_42 (dk_at dksX13_newErrand_2 23 rfl rfl)
theorem dX13_newErrand_70 : decode cX13_newErrand 70 = .ok (.getfield 9, 3) := dk_180 0 9 (dk_at dksX13_newErrand_3 0 rfl rfl)
theorem dX13_newErrand_73 : decode cX13_newErrand 73 = .ok (.bipush 43, 2) := dk_16 43 (dk_at dksX13_newErrand_3 3 rfl rfl)
theorem dX13_newErrand_75 : decode cX13_newErrand 75 = .ok (.dup2, 1) := dk_92 (dk_at dksX13_newErrand_3 5 rfl rfl)
theorem dX13_newErrand_76 : decode cX13_newErrand 76 = .ok (.iaload, 1) := dk_46 (dk_at dksX13_newErrand_3 6 rfl rfl)
theorem dX13_newErrand_77 : decode cX13_newErrand 77 = .ok (.iconst 1, 1) := dk_4 (dk_at dksX13_newErrand_3 7 rfl rfl)
theorem dX13_newErrand_78 : decode cX13_newErrand 78 = .ok (.iadd, 1) := dk_96 (dk_at dksX13_newErrand_3 8 rfl rfl)
theorem dX13_newErrand_79 : decode cX13_newErrand 79 = .ok (.iastore, 1) := dk_79 (dk_at dksX13_newErrand_3 9 rfl rfl)
theorem dX13_newErrand_80 : decode cX13_newErrand 80 = .ok (.iload 4, 2) := dk_21 4 (dk_at dksX13_newErrand_3 10 rfl rfl)
theorem dX13_newErrand_82 : decode cX13_newErrand 82 = .ok (.ireturn, 1) := dk_172 (dk_at dksX13_newErrand_3 12 rfl rfl)
abbrev cX13_errandOf : ByteArray := prog_16_method_35_code
def yX13_errandOf : MethodName := ⟨RX13, "errandOf", "(II)I"⟩
def dkwX13_errandOf_2 : List UInt8 := [18, 160, 182, 0, 92, 167, 0, 4, 29, 172]
abbrev dktX13_errandOf_2 : List UInt8 := dkwX13_errandOf_2 ++ []
def dkwX13_errandOf_1 : List UInt8 := [28, 8, 162, 0, 10, 42, 27, 28, 182, 0, 111, 172, 42, 27, 182, 0, 157, 62, 29, 156, 0, 12, 42]
abbrev dktX13_errandOf_1 : List UInt8 := dkwX13_errandOf_1 ++ dktX13_errandOf_2
def dkwX13_errandOf_0 : List UInt8 := [42, 27, 182, 0, 154, 153, 0, 12, 28, 3, 8, 184, 0, 77, 154, 0, 10, 42, 18, 72, 182, 0, 92, 172]
abbrev dktX13_errandOf_0 : List UInt8 := dkwX13_errandOf_0 ++ dktX13_errandOf_1
theorem dksX13_errandOf_0 : cX13_errandOf.data.toList.drop 0 = dktX13_errandOf_0 := by decide +kernel
theorem dksX13_errandOf_1 : cX13_errandOf.data.toList.drop 24 = dktX13_errandOf_1 := dk_seg dksX13_errandOf_0 24 rfl rfl
theorem dksX13_errandOf_2 : cX13_errandOf.data.toList.drop 47 = dktX13_errandOf_2 := dk_seg dksX13_errandOf_1 23 rfl rfl
theorem dX13_errandOf_0 : decode cX13_errandOf 0 = .ok (.aload_n 0, 1) := dk_42 (dk_at dksX13_errandOf_0 0 rfl rfl)
theorem dX13_errandOf_1 : decode cX13_errandOf 1 = .ok (.iload_n 1, 1) := dk_27 (dk_at dksX13_errandOf_0 1 rfl rfl)
theorem dX13_errandOf_2 : decode cX13_errandOf 2 = .ok (.invokevirtual 154, 3) := dk_182 0 154 (dk_at dksX13_errandOf_0 2 rfl rfl)
theorem dX13_errandOf_5 : decode cX13_errandOf 5 = .ok (.ifCond .eq 12, 3) := dk_153 0 12 (dk_at dksX13_errandOf_0 5 rfl rfl)
theorem dX13_errandOf_8 : decode cX13_errandOf 8 = .ok (.iload_n 2, 1) := dk_28 (dk_at dksX13_errandOf_0 8 rfl rfl)
theorem dX13_errandOf_9 : decode cX13_errandOf 9 = .ok (.iconst 0, 1) := dk_3 (dk_at dksX13_errandOf_0 9 rfl rfl)
theorem dX13_errandOf_10 : decode cX13_errandOf 10 = .ok (.iconst 5, 1) := dk_8 (dk_at dksX13_errandOf_0 10 rfl rfl)
theorem dX13_errandOf_11 : decode cX13_errandOf 11 = .ok (.invokestatic 77, 3) := dk_184 0 77 (dk_at dksX13_errandOf_0 11 rfl rfl)
theorem dX13_errandOf_14 : decode cX13_errandOf 14 = .ok (.ifCond .ne 10, 3) := dk_154 0 10 (dk_at dksX13_errandOf_0 14 rfl rfl)
theorem dX13_errandOf_17 : decode cX13_errandOf 17 = .ok (.aload_n 0, 1) := dk_42 (dk_at dksX13_errandOf_0 17 rfl rfl)
theorem dX13_errandOf_18 : decode cX13_errandOf 18 = .ok (.ldc 72, 2) := dk_18 72 (dk_at dksX13_errandOf_0 18 rfl rfl)
theorem dX13_errandOf_20 : decode cX13_errandOf 20 = .ok (.invokevirtual 92, 3) := dk_182 0 92 (dk_at dksX13_errandOf_0 20 rfl rfl)
theorem dX13_errandOf_23 : decode cX13_errandOf 23 = .ok (.ireturn, 1) := dk_172 (dk_at dksX13_errandOf_0 23 rfl rfl)
theorem dX13_errandOf_24 : decode cX13_errandOf 24 = .ok (.iload_n 2, 1) := dk_28 (dk_at dksX13_errandOf_1 0 rfl rfl)
theorem dX13_errandOf_25 : decode cX13_errandOf 25 = .ok (.iconst 5, 1) := dk_8 (dk_at dksX13_errandOf_1 1 rfl rfl)
theorem dX13_errandOf_26 : decode cX13_errandOf 26 = .ok (.if_icmp .ge 10, 3) := dk_162 0 10 (dk_at dksX13_errandOf_1 2 rfl rfl)
theorem dX13_errandOf_29 : decode cX13_errandOf 29 = .ok (.aload_n 0, 1) := dk_42 (dk_at dksX13_errandOf_1 5 rfl rfl)
theorem dX13_errandOf_30 : decode cX13_errandOf 30 = .ok (.iload_n 1, 1) := dk_27 (dk_at dksX13_errandOf_1 6 rfl rfl)
theorem dX13_errandOf_31 : decode cX13_errandOf 31 = .ok (.iload_n 2, 1) := dk_28 (dk_at dksX13_errandOf_1 7 rfl rfl)
theorem dX13_errandOf_32 : decode cX13_errandOf 32 = .ok (.invokevirtual 111, 3) := dk_182 0 111 (dk_at dksX13_errandOf_1 8 rfl rfl)
theorem dX13_errandOf_35 : decode cX13_errandOf 35 = .ok (.ireturn, 1) := dk_172 (dk_at dksX13_errandOf_1 11 rfl rfl)
theorem dX13_errandOf_36 : decode cX13_errandOf 36 = .ok (.aload_n 0, 1) := dk_42 (dk_at dksX13_errandOf_1 12 rfl rfl)
theorem dX13_errandOf_37 : decode cX13_errandOf 37 = .ok (.iload_n 1, 1) := dk_27 (dk_at dksX13_errandOf_1 13 rfl rfl)
theorem dX13_errandOf_38 : decode cX13_errandOf 38 = .ok (.invokevirtual 157, 3) := dk_182 0 157 (dk_at dksX13_errandOf_1 14 rfl rfl)
theorem dX13_errandOf_41 : decode cX13_errandOf 41 = .ok (.istore_n 3, 1) := dk_62 (dk_at dksX13_errandOf_1 17 rfl rfl)
theorem dX13_errandOf_42 : decode cX13_errandOf 42 = .ok (.iload_n 3, 1) := dk_29 (dk_at dksX13_errandOf_1 18 rfl rfl)
theorem dX13_errandOf_43 : decode cX13_errandOf 43 = .ok (.ifCond .ge 12, 3) := dk_156 0 12 (dk_at dksX13_errandOf_1 19 rfl rfl)
theorem dX13_errandOf_46 : decode cX13_errandOf 46 = .ok (.aload_n 0, 1) := dk_42 (dk_at dksX13_errandOf_1 22 rfl rfl)
theorem dX13_errandOf_47 : decode cX13_errandOf 47 = .ok (.ldc 160, 2) := dk_18 160 (dk_at dksX13_errandOf_2 0 rfl rfl)
theorem dX13_errandOf_49 : decode cX13_errandOf 49 = .ok (.invokevirtual 92, 3) := dk_182 0 92 (dk_at dksX13_errandOf_2 2 rfl rfl)
theorem dX13_errandOf_52 : decode cX13_errandOf 52 = .ok (.goto 4, 3) := dk_167 0 4 (dk_at dksX13_errandOf_2 5 rfl rfl)
theorem dX13_errandOf_55 : decode cX13_errandOf 55 = .ok (.iload_n 3, 1) := dk_29 (dk_at dksX13_errandOf_2 8 rfl rfl)
theorem dX13_errandOf_56 : decode cX13_errandOf 56 = .ok (.ireturn, 1) := dk_172 (dk_at dksX13_errandOf_2 9 rfl rfl)
abbrev cX13_isErrand : ByteArray := prog_16_method_11_code
def yX13_isErrand : MethodName := ⟨RX13, "isErrand", "(I)Z"⟩
def dkwX13_isErrand_0 : List UInt8 := [27, 3, 42, 180, 0, 9, 16, 43, 46, 4, 100, 184, 0, 77, 172]
abbrev dktX13_isErrand_0 : List UInt8 := dkwX13_isErrand_0 ++ []
theorem dksX13_isErrand_0 : cX13_isErrand.data.toList.drop 0 = dktX13_isErrand_0 := by decide +kernel
theorem dX13_isErrand_0 : decode cX13_isErrand 0 = .ok (.iload_n 1, 1) := dk_27 (dk_at dksX13_isErrand_0 0 rfl rfl)
theorem dX13_isErrand_1 : decode cX13_isErrand 1 = .ok (.iconst 0, 1) := dk_3 (dk_at dksX13_isErrand_0 1 rfl rfl)
theorem dX13_isErrand_2 : decode cX13_isErrand 2 = .ok (.aload_n 0, 1) := dk_42 (dk_at dksX13_isErrand_0 2 rfl rfl)
theorem dX13_isErrand_3 : decode cX13_isErrand 3 = .ok (.getfield 9, 3) := dk_180 0 9 (dk_at dksX13_isErrand_0 3 rfl rfl)
theorem dX13_isErrand_6 : decode cX13_isErrand 6 = .ok (.bipush 43, 2) := dk_16 43 (dk_at dksX13_isErrand_0 6 rfl rfl)
theorem dX13_isErrand_8 : decode cX13_isErrand 8 = .ok (.iaload, 1) := dk_46 (dk_at dksX13_isErrand_0 8 rfl rfl)
theorem dX13_isErrand_9 : decode cX13_isErrand 9 = .ok (.iconst 1, 1) := dk_4 (dk_at dksX13_isErrand_0 9 rfl rfl)
theorem dX13_isErrand_10 : decode cX13_isErrand 10 = .ok (.isub, 1) := dk_100 (dk_at dksX13_isErrand_0 10 rfl rfl)
theorem dX13_isErrand_11 : decode cX13_isErrand 11 = .ok (.invokestatic 77, 3) := dk_184 0 77 (dk_at dksX13_isErrand_0 11 rfl rfl)
theorem dX13_isErrand_14 : decode cX13_isErrand 14 = .ok (.ireturn, 1) := dk_172 (dk_at dksX13_isErrand_0 14 rfl rfl)
abbrev cX13_worthOf : ByteArray := prog_16_method_43_code
def yX13_worthOf : MethodName := ⟨RX13, "worthOf", "(I)I"⟩
def dkwX13_worthOf_1 : List UInt8 := [2, 167, 0, 11, 42, 27, 3, 182, 0, 111, 28, 104, 172]
abbrev dktX13_worthOf_1 : List UInt8 := dkwX13_worthOf_1 ++ []
def dkwX13_worthOf_0 : List UInt8 := [42, 3, 42, 27, 4, 182, 0, 111, 42, 27, 5, 182, 0, 111, 182, 0, 178, 61, 28, 18, 170, 161, 0, 7]
abbrev dktX13_worthOf_0 : List UInt8 := dkwX13_worthOf_0 ++ dktX13_worthOf_1
theorem dksX13_worthOf_0 : cX13_worthOf.data.toList.drop 0 = dktX13_worthOf_0 := by decide +kernel
theorem dksX13_worthOf_1 : cX13_worthOf.data.toList.drop 24 = dktX13_worthOf_1 := dk_seg dksX13_worthOf_0 24 rfl rfl
theorem dX13_worthOf_0 : decode cX13_worthOf 0 = .ok (.aload_n 0, 1) := dk_42 (dk_at dksX13_worthOf_0 0 rfl rfl)
theorem dX13_worthOf_1 : decode cX13_worthOf 1 = .ok (.iconst 0, 1) := dk_3 (dk_at dksX13_worthOf_0 1 rfl rfl)
theorem dX13_worthOf_2 : decode cX13_worthOf 2 = .ok (.aload_n 0, 1) := dk_42 (dk_at dksX13_worthOf_0 2 rfl rfl)
theorem dX13_worthOf_3 : decode cX13_worthOf 3 = .ok (.iload_n 1, 1) := dk_27 (dk_at dksX13_worthOf_0 3 rfl rfl)
theorem dX13_worthOf_4 : decode cX13_worthOf 4 = .ok (.iconst 1, 1) := dk_4 (dk_at dksX13_worthOf_0 4 rfl rfl)
theorem dX13_worthOf_5 : decode cX13_worthOf 5 = .ok (.invokevirtual 111, 3) := dk_182 0 111 (dk_at dksX13_worthOf_0 5 rfl rfl)
theorem dX13_worthOf_8 : decode cX13_worthOf 8 = .ok (.aload_n 0, 1) := dk_42 (dk_at dksX13_worthOf_0 8 rfl rfl)
theorem dX13_worthOf_9 : decode cX13_worthOf 9 = .ok (.iload_n 1, 1) := dk_27 (dk_at dksX13_worthOf_0 9 rfl rfl)
theorem dX13_worthOf_10 : decode cX13_worthOf 10 = .ok (.iconst 2, 1) := dk_5 (dk_at dksX13_worthOf_0 10 rfl rfl)
theorem dX13_worthOf_11 : decode cX13_worthOf 11 = .ok (.invokevirtual 111, 3) := dk_182 0 111 (dk_at dksX13_worthOf_0 11 rfl rfl)
theorem dX13_worthOf_14 : decode cX13_worthOf 14 = .ok (.invokevirtual 178, 3) := dk_182 0 178 (dk_at dksX13_worthOf_0 14 rfl rfl)
theorem dX13_worthOf_17 : decode cX13_worthOf 17 = .ok (.istore_n 2, 1) := dk_61 (dk_at dksX13_worthOf_0 17 rfl rfl)
theorem dX13_worthOf_18 : decode cX13_worthOf 18 = .ok (.iload_n 2, 1) := dk_28 (dk_at dksX13_worthOf_0 18 rfl rfl)
theorem dX13_worthOf_19 : decode cX13_worthOf 19 = .ok (.ldc 170, 2) := dk_18 170 (dk_at dksX13_worthOf_0 19 rfl rfl)
theorem dX13_worthOf_21 : decode cX13_worthOf 21 = .ok (.if_icmp .lt 7, 3) := dk_161 0 7 (dk_at dksX13_worthOf_0 21 rfl rfl)
theorem dX13_worthOf_24 : decode cX13_worthOf 24 = .ok (.iconst (-1), 1) := dk_2 (dk_at dksX13_worthOf_1 0 rfl rfl)
theorem dX13_worthOf_25 : decode cX13_worthOf 25 = .ok (.goto 11, 3) := dk_167 0 11 (dk_at dksX13_worthOf_1 1 rfl rfl)
theorem dX13_worthOf_28 : decode cX13_worthOf 28 = .ok (.aload_n 0, 1) := dk_42 (dk_at dksX13_worthOf_1 4 rfl rfl)
theorem dX13_worthOf_29 : decode cX13_worthOf 29 = .ok (.iload_n 1, 1) := dk_27 (dk_at dksX13_worthOf_1 5 rfl rfl)
theorem dX13_worthOf_30 : decode cX13_worthOf 30 = .ok (.iconst 0, 1) := dk_3 (dk_at dksX13_worthOf_1 6 rfl rfl)
theorem dX13_worthOf_31 : decode cX13_worthOf 31 = .ok (.invokevirtual 111, 3) := dk_182 0 111 (dk_at dksX13_worthOf_1 7 rfl rfl)
theorem dX13_worthOf_34 : decode cX13_worthOf 34 = .ok (.iload_n 2, 1) := dk_28 (dk_at dksX13_worthOf_1 10 rfl rfl)
theorem dX13_worthOf_35 : decode cX13_worthOf 35 = .ok (.imul, 1) := dk_104 (dk_at dksX13_worthOf_1 11 rfl rfl)
theorem dX13_worthOf_36 : decode cX13_worthOf 36 = .ok (.ireturn, 1) := dk_172 (dk_at dksX13_worthOf_1 12 rfl rfl)
abbrev cX13_farFor : ByteArray := prog_16_method_41_code
def yX13_farFor : MethodName := ⟨RX13, "farFor", "(III)I"⟩
def dkwX13_farFor_0 : List UInt8 := [42, 27, 182, 0, 174, 42, 180, 0, 22, 16, 7, 28, 104, 29, 96, 46, 172]
abbrev dktX13_farFor_0 : List UInt8 := dkwX13_farFor_0 ++ []
theorem dksX13_farFor_0 : cX13_farFor.data.toList.drop 0 = dktX13_farFor_0 := by decide +kernel
theorem dX13_farFor_0 : decode cX13_farFor 0 = .ok (.aload_n 0, 1) := dk_42 (dk_at dksX13_farFor_0 0 rfl rfl)
theorem dX13_farFor_1 : decode cX13_farFor 1 = .ok (.iload_n 1, 1) := dk_27 (dk_at dksX13_farFor_0 1 rfl rfl)
theorem dX13_farFor_2 : decode cX13_farFor 2 = .ok (.invokevirtual 174, 3) := dk_182 0 174 (dk_at dksX13_farFor_0 2 rfl rfl)
theorem dX13_farFor_5 : decode cX13_farFor 5 = .ok (.aload_n 0, 1) := dk_42 (dk_at dksX13_farFor_0 5 rfl rfl)
theorem dX13_farFor_6 : decode cX13_farFor 6 = .ok (.getfield 22, 3) := dk_180 0 22 (dk_at dksX13_farFor_0 6 rfl rfl)
theorem dX13_farFor_9 : decode cX13_farFor 9 = .ok (.bipush 7, 2) := dk_16 7 (dk_at dksX13_farFor_0 9 rfl rfl)
theorem dX13_farFor_11 : decode cX13_farFor 11 = .ok (.iload_n 2, 1) := dk_28 (dk_at dksX13_farFor_0 11 rfl rfl)
theorem dX13_farFor_12 : decode cX13_farFor 12 = .ok (.imul, 1) := dk_104 (dk_at dksX13_farFor_0 12 rfl rfl)
theorem dX13_farFor_13 : decode cX13_farFor 13 = .ok (.iload_n 3, 1) := dk_29 (dk_at dksX13_farFor_0 13 rfl rfl)
theorem dX13_farFor_14 : decode cX13_farFor 14 = .ok (.iadd, 1) := dk_96 (dk_at dksX13_farFor_0 14 rfl rfl)
theorem dX13_farFor_15 : decode cX13_farFor 15 = .ok (.iaload, 1) := dk_46 (dk_at dksX13_farFor_0 15 rfl rfl)
theorem dX13_farFor_16 : decode cX13_farFor 16 = .ok (.ireturn, 1) := dk_172 (dk_at dksX13_farFor_0 16 rfl rfl)
abbrev cX13_findFar : ByteArray := prog_16_method_40_code
def yX13_findFar : MethodName := ⟨RX13, "findFar", "(I)V"⟩
def dkwX13_findFar_7 : List UInt8 := [167, 255, 166, 177]
abbrev dktX13_findFar_7 : List UInt8 := dkwX13_findFar_7 ++ []
def dkwX13_findFar_6 : List UInt8 := [21, 4, 96, 46, 96, 184, 0, 136, 79, 132, 4, 1, 167, 255, 195, 132, 3, 1, 167, 255, 180, 132, 2, 1]
abbrev dktX13_findFar_6 : List UInt8 := dkwX13_findFar_6 ++ dktX13_findFar_7
def dkwX13_findFar_5 : List UInt8 := [21, 4, 96, 46, 42, 180, 0, 22, 16, 7, 29, 104, 28, 96, 46, 42, 180, 0, 22, 16, 7, 28, 104]
abbrev dktX13_findFar_5 : List UInt8 := dkwX13_findFar_5 ++ dktX13_findFar_6
def dkwX13_findFar_4 : List UInt8 := [16, 7, 162, 0, 60, 42, 180, 0, 22, 16, 7, 29, 104, 21, 4, 96, 42, 180, 0, 22, 16, 7, 29, 104]
abbrev dktX13_findFar_4 : List UInt8 := dkwX13_findFar_4 ++ dktX13_findFar_5
def dkwX13_findFar_3 : List UInt8 := [167, 255, 188, 3, 61, 28, 16, 7, 162, 0, 90, 3, 62, 29, 16, 7, 162, 0, 76, 3, 54, 4, 21, 4]
abbrev dktX13_findFar_3 : List UInt8 := dkwX13_findFar_3 ++ dktX13_findFar_4
def dkwX13_findFar_2 : List UInt8 := [18, 170, 167, 0, 10, 42, 27, 28, 29, 182, 0, 171, 79, 132, 3, 1, 167, 255, 202, 132, 2, 1]
abbrev dktX13_findFar_2 : List UInt8 := dkwX13_findFar_2 ++ dktX13_findFar_3
def dkwX13_findFar_1 : List UInt8 := [29, 96, 28, 29, 160, 0, 7, 3, 167, 0, 28, 42, 180, 0, 9, 28, 29, 184, 0, 144, 46, 154, 0, 8]
abbrev dktX13_findFar_1 : List UInt8 := dkwX13_findFar_1 ++ dktX13_findFar_2
def dkwX13_findFar_0 : List UInt8 := [3, 61, 28, 16, 7, 162, 0, 68, 3, 62, 29, 16, 7, 162, 0, 54, 42, 180, 0, 22, 16, 7, 28, 104]
abbrev dktX13_findFar_0 : List UInt8 := dkwX13_findFar_0 ++ dktX13_findFar_1
theorem dksX13_findFar_0 : cX13_findFar.data.toList.drop 0 = dktX13_findFar_0 := by decide +kernel
theorem dksX13_findFar_1 : cX13_findFar.data.toList.drop 24 = dktX13_findFar_1 := dk_seg dksX13_findFar_0 24 rfl rfl
theorem dksX13_findFar_2 : cX13_findFar.data.toList.drop 48 = dktX13_findFar_2 := dk_seg dksX13_findFar_1 24 rfl rfl
theorem dksX13_findFar_3 : cX13_findFar.data.toList.drop 70 = dktX13_findFar_3 := dk_seg dksX13_findFar_2 22 rfl rfl
theorem dksX13_findFar_4 : cX13_findFar.data.toList.drop 94 = dktX13_findFar_4 := dk_seg dksX13_findFar_3 24 rfl rfl
theorem dksX13_findFar_5 : cX13_findFar.data.toList.drop 118 = dktX13_findFar_5 := dk_seg dksX13_findFar_4 24 rfl rfl
theorem dksX13_findFar_6 : cX13_findFar.data.toList.drop 141 = dktX13_findFar_6 := dk_seg dksX13_findFar_5 23 rfl rfl
theorem dksX13_findFar_7 : cX13_findFar.data.toList.drop 165 = dktX13_findFar_7 := dk_seg dksX13_findFar_6 24 rfl rfl
theorem dX13_findFar_0 : decode cX13_findFar 0 = .ok (.iconst 0, 1) := dk_3 (dk_at dksX13_findFar_0 0 rfl rfl)
theorem dX13_findFar_1 : decode cX13_findFar 1 = .ok (.istore_n 2, 1) := dk_61 (dk_at dksX13_findFar_0 1 rfl rfl)
theorem dX13_findFar_2 : decode cX13_findFar 2 = .ok (.iload_n 2, 1) := dk_28 (dk_at dksX13_findFar_0 2 rfl rfl)
theorem dX13_findFar_3 : decode cX13_findFar 3 = .ok (.bipush 7, 2) := dk_16 7 (dk_at dksX13_findFar_0 3 rfl rfl)
theorem dX13_findFar_5 : decode cX13_findFar 5 = .ok (.if_icmp .ge 68, 3) := dk_162 0 68 (dk_at dksX13_findFar_0 5 rfl rfl)
theorem dX13_findFar_8 : decode cX13_findFar 8 = .ok (.iconst 0, 1) := dk_3 (dk_at dksX13_findFar_0 8 rfl rfl)
theorem dX13_findFar_9 : decode cX13_findFar 9 = .ok (.istore_n 3, 1) := dk_62 (dk_at dksX13_findFar_0 9 rfl rfl)
theorem dX13_findFar_10 : decode cX13_findFar 10 = .ok (.iload_n 3, 1) := dk_29 (dk_at dksX13_findFar_0 10 rfl rfl)
theorem dX13_findFar_11 : decode cX13_findFar 11 = .ok (.bipush 7, 2) := dk_16 7 (dk_at dksX13_findFar_0 11 rfl rfl)
theorem dX13_findFar_13 : decode cX13_findFar 13 = .ok (.if_icmp .ge 54, 3) := dk_162 0 54 (dk_at dksX13_findFar_0 13 rfl rfl)
theorem dX13_findFar_16 : decode cX13_findFar 16 = .ok (.aload_n 0, 1) := dk_42 (dk_at dksX13_findFar_0 16 rfl rfl)
theorem dX13_findFar_17 : decode cX13_findFar 17 = .ok (.getfield 22, 3) := dk_180 0 22 (dk_at dksX13_findFar_0 17 rfl rfl)
theorem dX13_findFar_20 : decode cX13_findFar 20 = .ok (.bipush 7, 2) := dk_16 7 (dk_at dksX13_findFar_0 20 rfl rfl)
theorem dX13_findFar_22 : decode cX13_findFar 22 = .ok (.iload_n 2, 1) := dk_28 (dk_at dksX13_findFar_0 22 rfl rfl)
theorem dX13_findFar_23 : decode cX13_findFar 23 = .ok (.imul, 1) := dk_104 (dk_at dksX13_findFar_0 23 rfl rfl)
theorem dX13_findFar_24 : decode cX13_findFar 24 = .ok (.iload_n 3, 1) := dk_29 (dk_at dksX13_findFar_1 0 rfl rfl)
theorem dX13_findFar_25 : decode cX13_findFar 25 = .ok (.iadd, 1) := dk_96 (dk_at dksX13_findFar_1 1 rfl rfl)
theorem dX13_findFar_26 : decode cX13_findFar 26 = .ok (.iload_n 2, 1) := dk_28 (dk_at dksX13_findFar_1 2 rfl rfl)
theorem dX13_findFar_27 : decode cX13_findFar 27 = .ok (.iload_n 3, 1) := dk_29 (dk_at dksX13_findFar_1 3 rfl rfl)
theorem dX13_findFar_28 : decode cX13_findFar 28 = .ok (.if_icmp .ne 7, 3) := dk_160 0 7 (dk_at dksX13_findFar_1 4 rfl rfl)
theorem dX13_findFar_31 : decode cX13_findFar 31 = .ok (.iconst 0, 1) := dk_3 (dk_at dksX13_findFar_1 7 rfl rfl)
theorem dX13_findFar_32 : decode cX13_findFar 32 = .ok (.goto 28, 3) := dk_167 0 28 (dk_at dksX13_findFar_1 8 rfl rfl)
theorem dX13_findFar_35 : decode cX13_findFar 35 = .ok (.aload_n 0, 1) := dk_42 (dk_at dksX13_findFar_1 11 rfl rfl)
theorem dX13_findFar_36 : decode cX13_findFar 36 = .ok (.getfield 9, 3) := dk_180 0 9 (dk_at dksX13_findFar_1 12 rfl rfl)
theorem dX13_findFar_39 : decode cX13_findFar 39 = .ok (.iload_n 2, 1) := dk_28 (dk_at dksX13_findFar_1 15 rfl rfl)
theorem dX13_findFar_40 : decode cX13_findFar 40 = .ok (.iload_n 3, 1) := dk_29 (dk_at dksX13_findFar_1 16 rfl rfl)
theorem dX13_findFar_41 : decode cX13_findFar 41 = .ok (.invokestatic 144, 3) := dk_184 0 144 (dk_at dksX13_findFar_1 17 rfl rfl)
theorem dX13_findFar_44 : decode cX13_findFar 44 = .ok (.iaload, 1) := dk_46 (dk_at dksX13_findFar_1 20 rfl rfl)
theorem dX13_findFar_45 : decode cX13_findFar 45 = .ok (.ifCond .ne 8, 3) := dk_154 0 8 (dk_at dksX13_findFar_1 21 rfl rfl)
theorem dX13_findFar_48 : decode cX13_findFar 48 = .ok (.ldc 170, 2) := dk_18 170 (dk_at dksX13_findFar_2 0 rfl rfl)
theorem dX13_findFar_50 : decode cX13_findFar 50 = .ok (.goto 10, 3) := dk_167 0 10 (dk_at dksX13_findFar_2 2 rfl rfl)
theorem dX13_findFar_53 : decode cX13_findFar 53 = .ok (.aload_n 0, 1) := dk_42 (dk_at dksX13_findFar_2 5 rfl rfl)
theorem dX13_findFar_54 : decode cX13_findFar 54 = .ok (.iload_n 1, 1) := dk_27 (dk_at dksX13_findFar_2 6 rfl rfl)
theorem dX13_findFar_55 : decode cX13_findFar 55 = .ok (.iload_n 2, 1) := dk_28 (dk_at dksX13_findFar_2 7 rfl rfl)
theorem dX13_findFar_56 : decode cX13_findFar 56 = .ok (.iload_n 3, 1) := dk_29 (dk_at dksX13_findFar_2 8 rfl rfl)
theorem dX13_findFar_57 : decode cX13_findFar 57 = .ok (.invokevirtual 171, 3) := dk_182 0 171 (dk_at dksX13_findFar_2 9 rfl rfl)
theorem dX13_findFar_60 : decode cX13_findFar 60 = .ok (.iastore, 1) := dk_79 (dk_at dksX13_findFar_2 12 rfl rfl)
theorem dX13_findFar_61 : decode cX13_findFar 61 = .ok (.iinc 3 1, 3) := dk_132 3 1 (dk_at dksX13_findFar_2 13 rfl rfl)
theorem dX13_findFar_64 : decode cX13_findFar 64 = .ok (.goto (-54), 3) := dk_167 255 202 (dk_at dksX13_findFar_2 16 rfl rfl)
theorem dX13_findFar_67 : decode cX13_findFar 67 = .ok (.iinc 2 1, 3) := dk_132 2 1 (dk_at dksX13_findFar_2 19 rfl rfl)
theorem dX13_findFar_70 : decode cX13_findFar 70 = .ok (.goto (-68), 3) := dk_167 255 188 (dk_at dksX13_findFar_3 0 rfl rfl)
theorem dX13_findFar_73 : decode cX13_findFar 73 = .ok (.iconst 0, 1) := dk_3 (dk_at dksX13_findFar_3 3 rfl rfl)
theorem dX13_findFar_74 : decode cX13_findFar 74 = .ok (.istore_n 2, 1) := dk_61 (dk_at dksX13_findFar_3 4 rfl rfl)
theorem dX13_findFar_75 : decode cX13_findFar 75 = .ok (.iload_n 2, 1) := dk_28 (dk_at dksX13_findFar_3 5 rfl rfl)
theorem dX13_findFar_76 : decode cX13_findFar 76 = .ok (.bipush 7, 2) := dk_16 7 (dk_at dksX13_findFar_3 6 rfl rfl)
theorem dX13_findFar_78 : decode cX13_findFar 78 = .ok (.if_icmp .ge 90, 3) := dk_162 0 90 (dk_at dksX13_findFar_3 8 rfl rfl)
theorem dX13_findFar_81 : decode cX13_findFar 81 = .ok (.iconst 0, 1) := dk_3 (dk_at dksX13_findFar_3 11 rfl rfl)
theorem dX13_findFar_82 : decode cX13_findFar 82 = .ok (.istore_n 3, 1) := dk_62 (dk_at dksX13_findFar_3 12 rfl rfl)
theorem dX13_findFar_83 : decode cX13_findFar 83 = .ok (.iload_n 3, 1) := dk_29 (dk_at dksX13_findFar_3 13 rfl rfl)
theorem dX13_findFar_84 : decode cX13_findFar 84 = .ok (.bipush 7, 2) := dk_16 7 (dk_at dksX13_findFar_3 14 rfl rfl)
theorem dX13_findFar_86 : decode cX13_findFar 86 = .ok (.if_icmp .ge 76, 3) := dk_162 0 76 (dk_at dksX13_findFar_3 16 rfl rfl)
theorem dX13_findFar_89 : decode cX13_findFar 89 = .ok (.iconst 0, 1) := dk_3 (dk_at dksX13_findFar_3 19 rfl rfl)
theorem dX13_findFar_90 : decode cX13_findFar 90 = .ok (.istore 4, 2) := dk_54 4 (dk_at dksX13_findFar_3 20 rfl rfl)
theorem dX13_findFar_92 : decode cX13_findFar 92 = .ok (.iload 4, 2) := dk_21 4 (dk_at dksX13_findFar_3 22 rfl rfl)
theorem dX13_findFar_94 : decode cX13_findFar 94 = .ok (.bipush 7, 2) := dk_16 7 (dk_at dksX13_findFar_4 0 rfl rfl)
theorem dX13_findFar_96 : decode cX13_findFar 96 = .ok (.if_icmp .ge 60, 3) := dk_162 0 60 (dk_at dksX13_findFar_4 2 rfl rfl)
theorem dX13_findFar_99 : decode cX13_findFar 99 = .ok (.aload_n 0, 1) := dk_42 (dk_at dksX13_findFar_4 5 rfl rfl)
theorem dX13_findFar_100 : decode cX13_findFar 100 = .ok (.getfield 22, 3) := dk_180 0 22 (dk_at dksX13_findFar_4 6 rfl rfl)
theorem dX13_findFar_103 : decode cX13_findFar 103 = .ok (.bipush 7, 2) := dk_16 7 (dk_at dksX13_findFar_4 9 rfl rfl)
theorem dX13_findFar_105 : decode cX13_findFar 105 = .ok (.iload_n 3, 1) := dk_29 (dk_at dksX13_findFar_4 11 rfl rfl)
theorem dX13_findFar_106 : decode cX13_findFar 106 = .ok (.imul, 1) := dk_104 (dk_at dksX13_findFar_4 12 rfl rfl)
theorem dX13_findFar_107 : decode cX13_findFar 107 = .ok (.iload 4, 2) := dk_21 4 (dk_at dksX13_findFar_4 13 rfl rfl)
theorem dX13_findFar_109 : decode cX13_findFar 109 = .ok (.iadd, 1) := dk_96 (dk_at dksX13_findFar_4 15 rfl rfl)
theorem dX13_findFar_110 : decode cX13_findFar 110 = .ok (.aload_n 0, 1) := dk_42 (dk_at dksX13_findFar_4 16 rfl rfl)
theorem dX13_findFar_111 : decode cX13_findFar 111 = .ok (.getfield 22, 3) := dk_180 0 22 (dk_at dksX13_findFar_4 17 rfl rfl)
theorem dX13_findFar_114 : decode cX13_findFar 114 = .ok (.bipush 7, 2) := dk_16 7 (dk_at dksX13_findFar_4 20 rfl rfl)
theorem dX13_findFar_116 : decode cX13_findFar 116 = .ok (.iload_n 3, 1) := dk_29 (dk_at dksX13_findFar_4 22 rfl rfl)
theorem dX13_findFar_117 : decode cX13_findFar 117 = .ok (.imul, 1) := dk_104 (dk_at dksX13_findFar_4 23 rfl rfl)
theorem dX13_findFar_118 : decode cX13_findFar 118 = .ok (.iload 4, 2) := dk_21 4 (dk_at dksX13_findFar_5 0 rfl rfl)
theorem dX13_findFar_120 : decode cX13_findFar 120 = .ok (.iadd, 1) := dk_96 (dk_at dksX13_findFar_5 2 rfl rfl)
theorem dX13_findFar_121 : decode cX13_findFar 121 = .ok (.iaload, 1) := dk_46 (dk_at dksX13_findFar_5 3 rfl rfl)
theorem dX13_findFar_122 : decode cX13_findFar 122 = .ok (.aload_n 0, 1) := dk_42 (dk_at dksX13_findFar_5 4 rfl rfl)
theorem dX13_findFar_123 : decode cX13_findFar 123 = .ok (.getfield 22, 3) := dk_180 0 22 (dk_at dksX13_findFar_5 5 rfl rfl)
theorem dX13_findFar_126 : decode cX13_findFar 126 = .ok (.bipush 7, 2) := dk_16 7 (dk_at dksX13_findFar_5 8 rfl rfl)
theorem dX13_findFar_128 : decode cX13_findFar 128 = .ok (.iload_n 3, 1) := dk_29 (dk_at dksX13_findFar_5 10 rfl rfl)
theorem dX13_findFar_129 : decode cX13_findFar 129 = .ok (.imul, 1) := dk_104 (dk_at dksX13_findFar_5 11 rfl rfl)
theorem dX13_findFar_130 : decode cX13_findFar 130 = .ok (.iload_n 2, 1) := dk_28 (dk_at dksX13_findFar_5 12 rfl rfl)
theorem dX13_findFar_131 : decode cX13_findFar 131 = .ok (.iadd, 1) := dk_96 (dk_at dksX13_findFar_5 13 rfl rfl)
theorem dX13_findFar_132 : decode cX13_findFar 132 = .ok (.iaload, 1) := dk_46 (dk_at dksX13_findFar_5 14 rfl rfl)
theorem dX13_findFar_133 : decode cX13_findFar 133 = .ok (.aload_n 0, 1) := dk_42 (dk_at dksX13_findFar_5 15 rfl rfl)
theorem dX13_findFar_134 : decode cX13_findFar 134 = .ok (.getfield 22, 3) := dk_180 0 22 (dk_at dksX13_findFar_5 16 rfl rfl)
theorem dX13_findFar_137 : decode cX13_findFar 137 = .ok (.bipush 7, 2) := dk_16 7 (dk_at dksX13_findFar_5 19 rfl rfl)
theorem dX13_findFar_139 : decode cX13_findFar 139 = .ok (.iload_n 2, 1) := dk_28 (dk_at dksX13_findFar_5 21 rfl rfl)
theorem dX13_findFar_140 : decode cX13_findFar 140 = .ok (.imul, 1) := dk_104 (dk_at dksX13_findFar_5 22 rfl rfl)
theorem dX13_findFar_141 : decode cX13_findFar 141 = .ok (.iload 4, 2) := dk_21 4 (dk_at dksX13_findFar_6 0 rfl rfl)
theorem dX13_findFar_143 : decode cX13_findFar 143 = .ok (.iadd, 1) := dk_96 (dk_at dksX13_findFar_6 2 rfl rfl)
theorem dX13_findFar_144 : decode cX13_findFar 144 = .ok (.iaload, 1) := dk_46 (dk_at dksX13_findFar_6 3 rfl rfl)
theorem dX13_findFar_145 : decode cX13_findFar 145 = .ok (.iadd, 1) := dk_96 (dk_at dksX13_findFar_6 4 rfl rfl)
theorem dX13_findFar_146 : decode cX13_findFar 146 = .ok (.invokestatic 136, 3) := dk_184 0 136 (dk_at dksX13_findFar_6 5 rfl rfl)
theorem dX13_findFar_149 : decode cX13_findFar 149 = .ok (.iastore, 1) := dk_79 (dk_at dksX13_findFar_6 8 rfl rfl)
theorem dX13_findFar_150 : decode cX13_findFar 150 = .ok (.iinc 4 1, 3) := dk_132 4 1 (dk_at dksX13_findFar_6 9 rfl rfl)
theorem dX13_findFar_153 : decode cX13_findFar 153 = .ok (.goto (-61), 3) := dk_167 255 195 (dk_at dksX13_findFar_6 12 rfl rfl)
theorem dX13_findFar_156 : decode cX13_findFar 156 = .ok (.iinc 3 1, 3) := dk_132 3 1 (dk_at dksX13_findFar_6 15 rfl rfl)
theorem dX13_findFar_159 : decode cX13_findFar 159 = .ok (.goto (-76), 3) := dk_167 255 180 (dk_at dksX13_findFar_6 18 rfl rfl)
theorem dX13_findFar_162 : decode cX13_findFar 162 = .ok (.iinc 2 1, 3) := dk_132 2 1 (dk_at dksX13_findFar_6 21 rfl rfl)
theorem dX13_findFar_165 : decode cX13_findFar 165 = .ok (.goto (-90), 3) := dk_167 255 166 (dk_at dksX13_findFar_7 0 rfl rfl)
theorem dX13_findFar_168 : decode cX13_findFar 168 = .ok (.return_, 1) := dk_177 (dk_at dksX13_findFar_7 3 rfl rfl)
abbrev cX13_counts : ByteArray := prog_16_method_39_code
def yX13_counts : MethodName := ⟨RX13, "counts", "(III)I"⟩
def dkwX13_counts_2 : List UInt8 := [27, 16, 6, 160, 0, 14, 4, 21, 4, 5, 108, 184, 0, 141, 167, 0, 7, 5, 21, 4, 104, 172]
abbrev dktX13_counts_2 : List UInt8 := dkwX13_counts_2 ++ []
def dkwX13_counts_1 : List UInt8 := [4, 160, 0, 7, 4, 167, 0, 4, 3, 54, 5, 21, 5, 153, 0, 8, 27, 8, 160, 0, 6, 21, 4, 172]
abbrev dktX13_counts_1 : List UInt8 := dkwX13_counts_1 ++ dktX13_counts_2
def dkwX13_counts_0 : List UInt8 := [42, 180, 0, 9, 28, 29, 184, 0, 144, 46, 54, 4, 42, 180, 0, 9, 28, 29, 184, 0, 144, 4, 96, 46]
abbrev dktX13_counts_0 : List UInt8 := dkwX13_counts_0 ++ dktX13_counts_1
theorem dksX13_counts_0 : cX13_counts.data.toList.drop 0 = dktX13_counts_0 := by decide +kernel
theorem dksX13_counts_1 : cX13_counts.data.toList.drop 24 = dktX13_counts_1 := dk_seg dksX13_counts_0 24 rfl rfl
theorem dksX13_counts_2 : cX13_counts.data.toList.drop 48 = dktX13_counts_2 := dk_seg dksX13_counts_1 24 rfl rfl
theorem dX13_counts_0 : decode cX13_counts 0 = .ok (.aload_n 0, 1) := dk_42 (dk_at dksX13_counts_0 0 rfl rfl)
theorem dX13_counts_1 : decode cX13_counts 1 = .ok (.getfield 9, 3) := dk_180 0 9 (dk_at dksX13_counts_0 1 rfl rfl)
theorem dX13_counts_4 : decode cX13_counts 4 = .ok (.iload_n 2, 1) := dk_28 (dk_at dksX13_counts_0 4 rfl rfl)
theorem dX13_counts_5 : decode cX13_counts 5 = .ok (.iload_n 3, 1) := dk_29 (dk_at dksX13_counts_0 5 rfl rfl)
theorem dX13_counts_6 : decode cX13_counts 6 = .ok (.invokestatic 144, 3) := dk_184 0 144 (dk_at dksX13_counts_0 6 rfl rfl)
theorem dX13_counts_9 : decode cX13_counts 9 = .ok (.iaload, 1) := dk_46 (dk_at dksX13_counts_0 9 rfl rfl)
theorem dX13_counts_10 : decode cX13_counts 10 = .ok (.istore 4, 2) := dk_54 4 (dk_at dksX13_counts_0 10 rfl rfl)
theorem dX13_counts_12 : decode cX13_counts 12 = .ok (.aload_n 0, 1) := dk_42 (dk_at dksX13_counts_0 12 rfl rfl)
theorem dX13_counts_13 : decode cX13_counts 13 = .ok (.getfield 9, 3) := dk_180 0 9 (dk_at dksX13_counts_0 13 rfl rfl)
theorem dX13_counts_16 : decode cX13_counts 16 = .ok (.iload_n 2, 1) := dk_28 (dk_at dksX13_counts_0 16 rfl rfl)
theorem dX13_counts_17 : decode cX13_counts 17 = .ok (.iload_n 3, 1) := dk_29 (dk_at dksX13_counts_0 17 rfl rfl)
theorem dX13_counts_18 : decode cX13_counts 18 = .ok (.invokestatic 144, 3) := dk_184 0 144 (dk_at dksX13_counts_0 18 rfl rfl)
theorem dX13_counts_21 : decode cX13_counts 21 = .ok (.iconst 1, 1) := dk_4 (dk_at dksX13_counts_0 21 rfl rfl)
theorem dX13_counts_22 : decode cX13_counts 22 = .ok (.iadd, 1) := dk_96 (dk_at dksX13_counts_0 22 rfl rfl)
theorem dX13_counts_23 : decode cX13_counts 23 = .ok (.iaload, 1) := dk_46 (dk_at dksX13_counts_0 23 rfl rfl)
theorem dX13_counts_24 : decode cX13_counts 24 = .ok (.iconst 1, 1) := dk_4 (dk_at dksX13_counts_1 0 rfl rfl)
theorem dX13_counts_25 : decode cX13_counts 25 = .ok (.if_icmp .ne 7, 3) := dk_160 0 7 (dk_at dksX13_counts_1 1 rfl rfl)
theorem dX13_counts_28 : decode cX13_counts 28 = .ok (.iconst 1, 1) := dk_4 (dk_at dksX13_counts_1 4 rfl rfl)
theorem dX13_counts_29 : decode cX13_counts 29 = .ok (.goto 4, 3) := dk_167 0 4 (dk_at dksX13_counts_1 5 rfl rfl)
theorem dX13_counts_32 : decode cX13_counts 32 = .ok (.iconst 0, 1) := dk_3 (dk_at dksX13_counts_1 8 rfl rfl)
theorem dX13_counts_33 : decode cX13_counts 33 = .ok (.istore 5, 2) := dk_54 5 (dk_at dksX13_counts_1 9 rfl rfl)
theorem dX13_counts_35 : decode cX13_counts 35 = .ok (.iload 5, 2) := dk_21 5 (dk_at dksX13_counts_1 11 rfl rfl)
theorem dX13_counts_37 : decode cX13_counts 37 = .ok (.ifCond .eq 8, 3) := dk_153 0 8 (dk_at dksX13_counts_1 13 rfl rfl)
theorem dX13_counts_40 : decode cX13_counts 40 = .ok (.iload_n 1, 1) := dk_27 (dk_at dksX13_counts_1 16 rfl rfl)
theorem dX13_counts_41 : decode cX13_counts 41 = .ok (.iconst 5, 1) := dk_8 (dk_at dksX13_counts_1 17 rfl rfl)
theorem dX13_counts_42 : decode cX13_counts 42 = .ok (.if_icmp .ne 6, 3) := dk_160 0 6 (dk_at dksX13_counts_1 18 rfl rfl)
theorem dX13_counts_45 : decode cX13_counts 45 = .ok (.iload 4, 2) := dk_21 4 (dk_at dksX13_counts_1 21 rfl rfl)
theorem dX13_counts_47 : decode cX13_counts 47 = .ok (.ireturn, 1) := dk_172 (dk_at dksX13_counts_1 23 rfl rfl)
theorem dX13_counts_48 : decode cX13_counts 48 = .ok (.iload_n 1, 1) := dk_27 (dk_at dksX13_counts_2 0 rfl rfl)
theorem dX13_counts_49 : decode cX13_counts 49 = .ok (.bipush 6, 2) := dk_16 6 (dk_at dksX13_counts_2 1 rfl rfl)
theorem dX13_counts_51 : decode cX13_counts 51 = .ok (.if_icmp .ne 14, 3) := dk_160 0 14 (dk_at dksX13_counts_2 3 rfl rfl)
theorem dX13_counts_54 : decode cX13_counts 54 = .ok (.iconst 1, 1) := dk_4 (dk_at dksX13_counts_2 6 rfl rfl)
theorem dX13_counts_55 : decode cX13_counts 55 = .ok (.iload 4, 2) := dk_21 4 (dk_at dksX13_counts_2 7 rfl rfl)
theorem dX13_counts_57 : decode cX13_counts 57 = .ok (.iconst 2, 1) := dk_5 (dk_at dksX13_counts_2 9 rfl rfl)
theorem dX13_counts_58 : decode cX13_counts 58 = .ok (.idiv, 1) := dk_108 (dk_at dksX13_counts_2 10 rfl rfl)
theorem dX13_counts_59 : decode cX13_counts 59 = .ok (.invokestatic 141, 3) := dk_184 0 141 (dk_at dksX13_counts_2 11 rfl rfl)
theorem dX13_counts_62 : decode cX13_counts 62 = .ok (.goto 7, 3) := dk_167 0 7 (dk_at dksX13_counts_2 14 rfl rfl)
theorem dX13_counts_65 : decode cX13_counts 65 = .ok (.iconst 2, 1) := dk_5 (dk_at dksX13_counts_2 17 rfl rfl)
theorem dX13_counts_66 : decode cX13_counts 66 = .ok (.iload 4, 2) := dk_21 4 (dk_at dksX13_counts_2 18 rfl rfl)
theorem dX13_counts_68 : decode cX13_counts 68 = .ok (.imul, 1) := dk_104 (dk_at dksX13_counts_2 20 rfl rfl)
theorem dX13_counts_69 : decode cX13_counts 69 = .ok (.ireturn, 1) := dk_172 (dk_at dksX13_counts_2 21 rfl rfl)
abbrev cX13_ware : ByteArray := prog_16_method_37_code
def yX13_ware : MethodName := ⟨RX13, "ware", "(I)I"⟩
def dkwX13_ware_1 : List UInt8 := [46, 16, 6, 160, 0, 12, 42, 18, 96, 182, 0, 92, 167, 0, 8, 42, 27, 182, 0, 164, 172]
abbrev dktX13_ware_1 : List UInt8 := dkwX13_ware_1 ++ []
def dkwX13_ware_0 : List UInt8 := [27, 4, 17, 39, 15, 184, 0, 77, 154, 0, 10, 42, 18, 72, 182, 0, 92, 172, 42, 180, 0, 9, 16, 44]
abbrev dktX13_ware_0 : List UInt8 := dkwX13_ware_0 ++ dktX13_ware_1
theorem dksX13_ware_0 : cX13_ware.data.toList.drop 0 = dktX13_ware_0 := by decide +kernel
theorem dksX13_ware_1 : cX13_ware.data.toList.drop 24 = dktX13_ware_1 := dk_seg dksX13_ware_0 24 rfl rfl
theorem dX13_ware_0 : decode cX13_ware 0 = .ok (.iload_n 1, 1) := dk_27 (dk_at dksX13_ware_0 0 rfl rfl)
theorem dX13_ware_1 : decode cX13_ware 1 = .ok (.iconst 1, 1) := dk_4 (dk_at dksX13_ware_0 1 rfl rfl)
theorem dX13_ware_2 : decode cX13_ware 2 = .ok (.sipush 9999, 3) := dk_17 39 15 (dk_at dksX13_ware_0 2 rfl rfl)
theorem dX13_ware_5 : decode cX13_ware 5 = .ok (.invokestatic 77, 3) := dk_184 0 77 (dk_at dksX13_ware_0 5 rfl rfl)
theorem dX13_ware_8 : decode cX13_ware 8 = .ok (.ifCond .ne 10, 3) := dk_154 0 10 (dk_at dksX13_ware_0 8 rfl rfl)
theorem dX13_ware_11 : decode cX13_ware 11 = .ok (.aload_n 0, 1) := dk_42 (dk_at dksX13_ware_0 11 rfl rfl)
theorem dX13_ware_12 : decode cX13_ware 12 = .ok (.ldc 72, 2) := dk_18 72 (dk_at dksX13_ware_0 12 rfl rfl)
theorem dX13_ware_14 : decode cX13_ware 14 = .ok (.invokevirtual 92, 3) := dk_182 0 92 (dk_at dksX13_ware_0 14 rfl rfl)
theorem dX13_ware_17 : decode cX13_ware 17 = .ok (.ireturn, 1) := dk_172 (dk_at dksX13_ware_0 17 rfl rfl)
theorem dX13_ware_18 : decode cX13_ware 18 = .ok (.aload_n 0, 1) := dk_42 (dk_at dksX13_ware_0 18 rfl rfl)
theorem dX13_ware_19 : decode cX13_ware 19 = .ok (.getfield 9, 3) := dk_180 0 9 (dk_at dksX13_ware_0 19 rfl rfl)
theorem dX13_ware_22 : decode cX13_ware 22 = .ok (.bipush 44, 2) := dk_16 44 (dk_at dksX13_ware_0 22 rfl rfl)
theorem dX13_ware_24 : decode cX13_ware 24 = .ok (.iaload, 1) := dk_46 (dk_at dksX13_ware_1 0 rfl rfl)
theorem dX13_ware_25 : decode cX13_ware 25 = .ok (.bipush 6, 2) := dk_16 6 (dk_at dksX13_ware_1 1 rfl rfl)
theorem dX13_ware_27 : decode cX13_ware 27 = .ok (.if_icmp .ne 12, 3) := dk_160 0 12 (dk_at dksX13_ware_1 3 rfl rfl)
theorem dX13_ware_30 : decode cX13_ware 30 = .ok (.aload_n 0, 1) := dk_42 (dk_at dksX13_ware_1 6 rfl rfl)
theorem dX13_ware_31 : decode cX13_ware 31 = .ok (.ldc 96, 2) := dk_18 96 (dk_at dksX13_ware_1 7 rfl rfl)
theorem dX13_ware_33 : decode cX13_ware 33 = .ok (.invokevirtual 92, 3) := dk_182 0 92 (dk_at dksX13_ware_1 9 rfl rfl)
theorem dX13_ware_36 : decode cX13_ware 36 = .ok (.goto 8, 3) := dk_167 0 8 (dk_at dksX13_ware_1 12 rfl rfl)
theorem dX13_ware_39 : decode cX13_ware 39 = .ok (.aload_n 0, 1) := dk_42 (dk_at dksX13_ware_1 15 rfl rfl)
theorem dX13_ware_40 : decode cX13_ware 40 = .ok (.iload_n 1, 1) := dk_27 (dk_at dksX13_ware_1 16 rfl rfl)
theorem dX13_ware_41 : decode cX13_ware 41 = .ok (.invokevirtual 164, 3) := dk_182 0 164 (dk_at dksX13_ware_1 17 rfl rfl)
theorem dX13_ware_44 : decode cX13_ware 44 = .ok (.ireturn, 1) := dk_172 (dk_at dksX13_ware_1 20 rfl rfl)
abbrev cX13_newWare : ByteArray := prog_16_method_36_code
def yX13_newWare : MethodName := ⟨RX13, "newWare", "(I)I"⟩
def dkwX13_newWare_1 : List UInt8 := [4, 184, 0, 161, 2, 79, 42, 180, 0, 9, 16, 44, 92, 46, 4, 96, 79, 28, 172]
abbrev dktX13_newWare_1 : List UInt8 := dkwX13_newWare_1 ++ []
def dkwX13_newWare_0 : List UInt8 := [42, 180, 0, 9, 16, 44, 46, 61, 42, 180, 0, 9, 28, 3, 184, 0, 161, 27, 79, 42, 180, 0, 9, 28]
abbrev dktX13_newWare_0 : List UInt8 := dkwX13_newWare_0 ++ dktX13_newWare_1
theorem dksX13_newWare_0 : cX13_newWare.data.toList.drop 0 = dktX13_newWare_0 := by decide +kernel
theorem dksX13_newWare_1 : cX13_newWare.data.toList.drop 24 = dktX13_newWare_1 := dk_seg dksX13_newWare_0 24 rfl rfl
theorem dX13_newWare_0 : decode cX13_newWare 0 = .ok (.aload_n 0, 1) := dk_42 (dk_at dksX13_newWare_0 0 rfl rfl)
theorem dX13_newWare_1 : decode cX13_newWare 1 = .ok (.getfield 9, 3) := dk_180 0 9 (dk_at dksX13_newWare_0 1 rfl rfl)
theorem dX13_newWare_4 : decode cX13_newWare 4 = .ok (.bipush 44, 2) := dk_16 44 (dk_at dksX13_newWare_0 4 rfl rfl)
theorem dX13_newWare_6 : decode cX13_newWare 6 = .ok (.iaload, 1) := dk_46 (dk_at dksX13_newWare_0 6 rfl rfl)
theorem dX13_newWare_7 : decode cX13_newWare 7 = .ok (.istore_n 2, 1) := dk_61 (dk_at dksX13_newWare_0 7 rfl rfl)
theorem dX13_newWare_8 : decode cX13_newWare 8 = .ok (.aload_n 0, 1) := dk_42 (dk_at dksX13_newWare_0 8 rfl rfl)
theorem dX13_newWare_9 : decode cX13_newWare 9 = .ok (.getfield 9, 3) := dk_180 0 9 (dk_at dksX13_newWare_0 9 rfl rfl)
theorem dX13_newWare_12 : decode cX13_newWare 12 = .ok (.iload_n 2, 1) := dk_28 (dk_at dksX13_newWare_0 12 rfl rfl)
theorem dX13_newWare_13 : decode cX13_newWare 13 = .ok (.iconst 0, 1) := dk_3 (dk_at dksX13_newWare_0 13 rfl rfl)
theorem dX13_newWare_14 : decode cX13_newWare 14 = .ok (.invokestatic 161, 3) := dk_184 0 161 (dk_at dksX13_newWare_0 14 rfl rfl)
theorem dX13_newWare_17 : decode cX13_newWare 17 = .ok (.iload_n 1, 1) := dk_27 (dk_at dksX13_newWare_0 17 rfl rfl)
theorem dX13_newWare_18 : decode cX13_newWare 18 = .ok (.iastore, 1) := dk_79 (dk_at dksX13_newWare_0 18 rfl rfl)
theorem dX13_newWare_19 : decode cX13_newWare 19 = .ok (.aload_n 0, 1) := dk_42 (dk_at dksX13_newWare_0 19 rfl rfl)
theorem dX13_newWare_20 : decode cX13_newWare 20 = .ok (.getfield 9, 3) := dk_180 0 9 (dk_at dksX13_newWare_0 20 rfl rfl)
theorem dX13_newWare_23 : decode cX13_newWare 23 = .ok (.iload_n 2, 1) := dk_28 (dk_at dksX13_newWare_0 23 rfl rfl)
theorem dX13_newWare_24 : decode cX13_newWare 24 = .ok (.iconst 1, 1) := dk_4 (dk_at dksX13_newWare_1 0 rfl rfl)
theorem dX13_newWare_25 : decode cX13_newWare 25 = .ok (.invokestatic 161, 3) := dk_184 0 161 (dk_at dksX13_newWare_1 1 rfl rfl)
theorem dX13_newWare_28 : decode cX13_newWare 28 = .ok (.iconst (-1), 1) := dk_2 (dk_at dksX13_newWare_1 4 rfl rfl)
theorem dX13_newWare_29 : decode cX13_newWare 29 = .ok (.iastore, 1) := dk_79 (dk_at dksX13_newWare_1 5 rfl rfl)
theorem dX13_newWare_30 : decode cX13_newWare 30 = .ok (.aload_n 0, 1) := dk_42 (dk_at dksX13_newWare_1 6 rfl rfl)
theorem dX13_newWare_31 : decode cX13_newWare 31 = .ok (.getfield 9, 3) := dk_180 0 9 (dk_at dksX13_newWare_1 7 rfl rfl)
theorem dX13_newWare_34 : decode cX13_newWare 34 = .ok (.bipush 44, 2) := dk_16 44 (dk_at dksX13_newWare_1 10 rfl rfl)
theorem dX13_newWare_36 : decode cX13_newWare 36 = .ok (.dup2, 1) := dk_92 (dk_at dksX13_newWare_1 12 rfl rfl)
theorem dX13_newWare_37 : decode cX13_newWare 37 = .ok (.iaload, 1) := dk_46 (dk_at dksX13_newWare_1 13 rfl rfl)
theorem dX13_newWare_38 : decode cX13_newWare 38 = .ok (.iconst 1, 1) := dk_4 (dk_at dksX13_newWare_1 14 rfl rfl)
theorem dX13_newWare_39 : decode cX13_newWare 39 = .ok (.iadd, 1) := dk_96 (dk_at dksX13_newWare_1 15 rfl rfl)
theorem dX13_newWare_40 : decode cX13_newWare 40 = .ok (.iastore, 1) := dk_79 (dk_at dksX13_newWare_1 16 rfl rfl)
theorem dX13_newWare_41 : decode cX13_newWare 41 = .ok (.iload_n 2, 1) := dk_28 (dk_at dksX13_newWare_1 17 rfl rfl)
theorem dX13_newWare_42 : decode cX13_newWare 42 = .ok (.ireturn, 1) := dk_172 (dk_at dksX13_newWare_1 18 rfl rfl)
abbrev cX13_wAt : ByteArray := prog_16_method_18_code
def yX13_wAt : MethodName := ⟨RX13, "wAt", "(II)I"⟩
def dkwX13_wAt_0 : List UInt8 := [16, 126, 5, 26, 104, 96, 27, 96, 172]
abbrev dktX13_wAt_0 : List UInt8 := dkwX13_wAt_0 ++ []
theorem dksX13_wAt_0 : cX13_wAt.data.toList.drop 0 = dktX13_wAt_0 := by decide +kernel
theorem dX13_wAt_0 : decode cX13_wAt 0 = .ok (.bipush 126, 2) := dk_16 126 (dk_at dksX13_wAt_0 0 rfl rfl)
theorem dX13_wAt_2 : decode cX13_wAt 2 = .ok (.iconst 2, 1) := dk_5 (dk_at dksX13_wAt_0 2 rfl rfl)
theorem dX13_wAt_3 : decode cX13_wAt 3 = .ok (.iload_n 0, 1) := dk_26 (dk_at dksX13_wAt_0 3 rfl rfl)
theorem dX13_wAt_4 : decode cX13_wAt 4 = .ok (.imul, 1) := dk_104 (dk_at dksX13_wAt_0 4 rfl rfl)
theorem dX13_wAt_5 : decode cX13_wAt 5 = .ok (.iadd, 1) := dk_96 (dk_at dksX13_wAt_0 5 rfl rfl)
theorem dX13_wAt_6 : decode cX13_wAt 6 = .ok (.iload_n 1, 1) := dk_27 (dk_at dksX13_wAt_0 6 rfl rfl)
theorem dX13_wAt_7 : decode cX13_wAt 7 = .ok (.iadd, 1) := dk_96 (dk_at dksX13_wAt_0 7 rfl rfl)
theorem dX13_wAt_8 : decode cX13_wAt 8 = .ok (.ireturn, 1) := dk_172 (dk_at dksX13_wAt_0 8 rfl rfl)
abbrev cX13_wareOf : ByteArray := prog_16_method_38_code
def yX13_wareOf : MethodName := ⟨RX13, "wareOf", "(II)I"⟩
def dkwX13_wareOf_1 : List UInt8 := [184, 0, 161, 46, 167, 0, 9, 42, 18, 72, 182, 0, 92, 172]
abbrev dktX13_wareOf_1 : List UInt8 := dkwX13_wareOf_1 ++ []
def dkwX13_wareOf_0 : List UInt8 := [42, 27, 182, 0, 167, 153, 0, 25, 28, 3, 4, 184, 0, 77, 153, 0, 16, 42, 180, 0, 9, 27, 28]
abbrev dktX13_wareOf_0 : List UInt8 := dkwX13_wareOf_0 ++ dktX13_wareOf_1
theorem dksX13_wareOf_0 : cX13_wareOf.data.toList.drop 0 = dktX13_wareOf_0 := by decide +kernel
theorem dksX13_wareOf_1 : cX13_wareOf.data.toList.drop 23 = dktX13_wareOf_1 := dk_seg dksX13_wareOf_0 23 rfl rfl
theorem dX13_wareOf_0 : decode cX13_wareOf 0 = .ok (.aload_n 0, 1) := dk_42 (dk_at dksX13_wareOf_0 0 rfl rfl)
theorem dX13_wareOf_1 : decode cX13_wareOf 1 = .ok (.iload_n 1, 1) := dk_27 (dk_at dksX13_wareOf_0 1 rfl rfl)
theorem dX13_wareOf_2 : decode cX13_wareOf 2 = .ok (.invokevirtual 167, 3) := dk_182 0 167 (dk_at dksX13_wareOf_0 2 rfl rfl)
theorem dX13_wareOf_5 : decode cX13_wareOf 5 = .ok (.ifCond .eq 25, 3) := dk_153 0 25 (dk_at dksX13_wareOf_0 5 rfl rfl)
theorem dX13_wareOf_8 : decode cX13_wareOf 8 = .ok (.iload_n 2, 1) := dk_28 (dk_at dksX13_wareOf_0 8 rfl rfl)
theorem dX13_wareOf_9 : decode cX13_wareOf 9 = .ok (.iconst 0, 1) := dk_3 (dk_at dksX13_wareOf_0 9 rfl rfl)
theorem dX13_wareOf_10 : decode cX13_wareOf 10 = .ok (.iconst 1, 1) := dk_4 (dk_at dksX13_wareOf_0 10 rfl rfl)
theorem dX13_wareOf_11 : decode cX13_wareOf 11 = .ok (.invokestatic 77, 3) := dk_184 0 77 (dk_at dksX13_wareOf_0 11 rfl rfl)
theorem dX13_wareOf_14 : decode cX13_wareOf 14 = .ok (.ifCond .eq 16, 3) := dk_153 0 16 (dk_at dksX13_wareOf_0 14 rfl rfl)
theorem dX13_wareOf_17 : decode cX13_wareOf 17 = .ok (.aload_n 0, 1) := dk_42 (dk_at dksX13_wareOf_0 17 rfl rfl)
theorem dX13_wareOf_18 : decode cX13_wareOf 18 = .ok (.getfield 9, 3) := dk_180 0 9 (dk_at dksX13_wareOf_0 18 rfl rfl)
theorem dX13_wareOf_21 : decode cX13_wareOf 21 = .ok (.iload_n 1, 1) := dk_27 (dk_at dksX13_wareOf_0 21 rfl rfl)
theorem dX13_wareOf_22 : decode cX13_wareOf 22 = .ok (.iload_n 2, 1) := dk_28 (dk_at dksX13_wareOf_0 22 rfl rfl)
theorem dX13_wareOf_23 : decode cX13_wareOf 23 = .ok (.invokestatic 161, 3) := dk_184 0 161 (dk_at dksX13_wareOf_1 0 rfl rfl)
theorem dX13_wareOf_26 : decode cX13_wareOf 26 = .ok (.iaload, 1) := dk_46 (dk_at dksX13_wareOf_1 3 rfl rfl)
theorem dX13_wareOf_27 : decode cX13_wareOf 27 = .ok (.goto 9, 3) := dk_167 0 9 (dk_at dksX13_wareOf_1 4 rfl rfl)
theorem dX13_wareOf_30 : decode cX13_wareOf 30 = .ok (.aload_n 0, 1) := dk_42 (dk_at dksX13_wareOf_1 7 rfl rfl)
theorem dX13_wareOf_31 : decode cX13_wareOf 31 = .ok (.ldc 72, 2) := dk_18 72 (dk_at dksX13_wareOf_1 8 rfl rfl)
theorem dX13_wareOf_33 : decode cX13_wareOf 33 = .ok (.invokevirtual 92, 3) := dk_182 0 92 (dk_at dksX13_wareOf_1 10 rfl rfl)
theorem dX13_wareOf_36 : decode cX13_wareOf 36 = .ok (.ireturn, 1) := dk_172 (dk_at dksX13_wareOf_1 13 rfl rfl)
abbrev cX13_isWare : ByteArray := prog_16_method_12_code
def yX13_isWare : MethodName := ⟨RX13, "isWare", "(I)Z"⟩
def dkwX13_isWare_0 : List UInt8 := [27, 3, 42, 180, 0, 9, 16, 44, 46, 4, 100, 184, 0, 77, 172]
abbrev dktX13_isWare_0 : List UInt8 := dkwX13_isWare_0 ++ []
theorem dksX13_isWare_0 : cX13_isWare.data.toList.drop 0 = dktX13_isWare_0 := by decide +kernel
theorem dX13_isWare_0 : decode cX13_isWare 0 = .ok (.iload_n 1, 1) := dk_27 (dk_at dksX13_isWare_0 0 rfl rfl)
theorem dX13_isWare_1 : decode cX13_isWare 1 = .ok (.iconst 0, 1) := dk_3 (dk_at dksX13_isWare_0 1 rfl rfl)
theorem dX13_isWare_2 : decode cX13_isWare 2 = .ok (.aload_n 0, 1) := dk_42 (dk_at dksX13_isWare_0 2 rfl rfl)
theorem dX13_isWare_3 : decode cX13_isWare 3 = .ok (.getfield 9, 3) := dk_180 0 9 (dk_at dksX13_isWare_0 3 rfl rfl)
theorem dX13_isWare_6 : decode cX13_isWare 6 = .ok (.bipush 44, 2) := dk_16 44 (dk_at dksX13_isWare_0 6 rfl rfl)
theorem dX13_isWare_8 : decode cX13_isWare 8 = .ok (.iaload, 1) := dk_46 (dk_at dksX13_isWare_0 8 rfl rfl)
theorem dX13_isWare_9 : decode cX13_isWare 9 = .ok (.iconst 1, 1) := dk_4 (dk_at dksX13_isWare_0 9 rfl rfl)
theorem dX13_isWare_10 : decode cX13_isWare 10 = .ok (.isub, 1) := dk_100 (dk_at dksX13_isWare_0 10 rfl rfl)
theorem dX13_isWare_11 : decode cX13_isWare 11 = .ok (.invokestatic 77, 3) := dk_184 0 77 (dk_at dksX13_isWare_0 11 rfl rfl)
theorem dX13_isWare_14 : decode cX13_isWare 14 = .ok (.ireturn, 1) := dk_172 (dk_at dksX13_isWare_0 14 rfl rfl)
abbrev cX13_far : ByteArray := prog_16_method_42_code
def yX13_far : MethodName := ⟨RX13, "far", "(III)I"⟩
def dkwX13_far_2 : List UInt8 := [161, 0, 12, 42, 18, 160, 182, 0, 92, 167, 0, 5, 21, 4, 172]
abbrev dktX13_far_2 : List UInt8 := dkwX13_far_2 ++ []
def dkwX13_far_1 : List UInt8 := [18, 72, 182, 0, 92, 172, 42, 42, 27, 3, 182, 0, 104, 28, 29, 182, 0, 178, 54, 4, 21, 4, 18, 170]
abbrev dktX13_far_1 : List UInt8 := dkwX13_far_1 ++ dktX13_far_2
def dkwX13_far_0 : List UInt8 := [42, 27, 182, 0, 117, 153, 0, 17, 28, 184, 0, 129, 153, 0, 10, 29, 184, 0, 129, 154, 0, 10, 42]
abbrev dktX13_far_0 : List UInt8 := dkwX13_far_0 ++ dktX13_far_1
theorem dksX13_far_0 : cX13_far.data.toList.drop 0 = dktX13_far_0 := by decide +kernel
theorem dksX13_far_1 : cX13_far.data.toList.drop 23 = dktX13_far_1 := dk_seg dksX13_far_0 23 rfl rfl
theorem dksX13_far_2 : cX13_far.data.toList.drop 47 = dktX13_far_2 := dk_seg dksX13_far_1 24 rfl rfl
theorem dX13_far_0 : decode cX13_far 0 = .ok (.aload_n 0, 1) := dk_42 (dk_at dksX13_far_0 0 rfl rfl)
theorem dX13_far_1 : decode cX13_far 1 = .ok (.iload_n 1, 1) := dk_27 (dk_at dksX13_far_0 1 rfl rfl)
theorem dX13_far_2 : decode cX13_far 2 = .ok (.invokevirtual 117, 3) := dk_182 0 117 (dk_at dksX13_far_0 2 rfl rfl)
theorem dX13_far_5 : decode cX13_far 5 = .ok (.ifCond .eq 17, 3) := dk_153 0 17 (dk_at dksX13_far_0 5 rfl rfl)
theorem dX13_far_8 : decode cX13_far 8 = .ok (.iload_n 2, 1) := dk_28 (dk_at dksX13_far_0 8 rfl rfl)
theorem dX13_far_9 : decode cX13_far 9 = .ok (.invokestatic 129, 3) := dk_184 0 129 (dk_at dksX13_far_0 9 rfl rfl)
theorem dX13_far_12 : decode cX13_far 12 = .ok (.ifCond .eq 10, 3) := dk_153 0 10 (dk_at dksX13_far_0 12 rfl rfl)
theorem dX13_far_15 : decode cX13_far 15 = .ok (.iload_n 3, 1) := dk_29 (dk_at dksX13_far_0 15 rfl rfl)
theorem dX13_far_16 : decode cX13_far 16 = .ok (.invokestatic 129, 3) := dk_184 0 129 (dk_at dksX13_far_0 16 rfl rfl)
theorem dX13_far_19 : decode cX13_far 19 = .ok (.ifCond .ne 10, 3) := dk_154 0 10 (dk_at dksX13_far_0 19 rfl rfl)
theorem dX13_far_22 : decode cX13_far 22 = .ok (.aload_n 0, 1) := dk_42 (dk_at dksX13_far_0 22 rfl rfl)
theorem dX13_far_23 : decode cX13_far 23 = .ok (.ldc 72, 2) := dk_18 72 (dk_at dksX13_far_1 0 rfl rfl)
theorem dX13_far_25 : decode cX13_far 25 = .ok (.invokevirtual 92, 3) := dk_182 0 92 (dk_at dksX13_far_1 2 rfl rfl)
theorem dX13_far_28 : decode cX13_far 28 = .ok (.ireturn, 1) := dk_172 (dk_at dksX13_far_1 5 rfl rfl)
theorem dX13_far_29 : decode cX13_far 29 = .ok (.aload_n 0, 1) := dk_42 (dk_at dksX13_far_1 6 rfl rfl)
theorem dX13_far_30 : decode cX13_far 30 = .ok (.aload_n 0, 1) := dk_42 (dk_at dksX13_far_1 7 rfl rfl)
theorem dX13_far_31 : decode cX13_far 31 = .ok (.iload_n 1, 1) := dk_27 (dk_at dksX13_far_1 8 rfl rfl)
theorem dX13_far_32 : decode cX13_far 32 = .ok (.iconst 0, 1) := dk_3 (dk_at dksX13_far_1 9 rfl rfl)
theorem dX13_far_33 : decode cX13_far 33 = .ok (.invokevirtual 104, 3) := dk_182 0 104 (dk_at dksX13_far_1 10 rfl rfl)
theorem dX13_far_36 : decode cX13_far 36 = .ok (.iload_n 2, 1) := dk_28 (dk_at dksX13_far_1 13 rfl rfl)
theorem dX13_far_37 : decode cX13_far 37 = .ok (.iload_n 3, 1) := dk_29 (dk_at dksX13_far_1 14 rfl rfl)
theorem dX13_far_38 : decode cX13_far 38 = .ok (.invokevirtual 178, 3) := dk_182 0 178 (dk_at dksX13_far_1 15 rfl rfl)
theorem dX13_far_41 : decode cX13_far 41 = .ok (.istore 4, 2) := dk_54 4 (dk_at dksX13_far_1 18 rfl rfl)
theorem dX13_far_43 : decode cX13_far 43 = .ok (.iload 4, 2) := dk_21 4 (dk_at dksX13_far_1 20 rfl rfl)
theorem dX13_far_45 : decode cX13_far 45 = .ok (.ldc 170, 2) := dk_18 170 (dk_at dksX13_far_1 22 rfl rfl)
theorem dX13_far_47 : decode cX13_far 47 = .ok (.if_icmp .lt 12, 3) := dk_161 0 12 (dk_at dksX13_far_2 0 rfl rfl)
theorem dX13_far_50 : decode cX13_far 50 = .ok (.aload_n 0, 1) := dk_42 (dk_at dksX13_far_2 3 rfl rfl)
theorem dX13_far_51 : decode cX13_far 51 = .ok (.ldc 160, 2) := dk_18 160 (dk_at dksX13_far_2 4 rfl rfl)
theorem dX13_far_53 : decode cX13_far 53 = .ok (.invokevirtual 92, 3) := dk_182 0 92 (dk_at dksX13_far_2 6 rfl rfl)
theorem dX13_far_56 : decode cX13_far 56 = .ok (.goto 5, 3) := dk_167 0 5 (dk_at dksX13_far_2 9 rfl rfl)
theorem dX13_far_59 : decode cX13_far 59 = .ok (.iload 4, 2) := dk_21 4 (dk_at dksX13_far_2 12 rfl rfl)
theorem dX13_far_61 : decode cX13_far 61 = .ok (.ireturn, 1) := dk_172 (dk_at dksX13_far_2 14 rfl rfl)
abbrev cX13_first : ByteArray := prog_16_method_44_code
def yX13_first : MethodName := ⟨RX13, "first", "(II)I"⟩
def dkwX13_first_6 : List UInt8 := [96, 21, 5, 160, 0, 8, 21, 7, 167, 0, 5, 21, 6, 54, 6, 132, 7, 1, 167, 255, 173, 21, 6, 172]
abbrev dktX13_first_6 : List UInt8 := dkwX13_first_6 ++ []
def dkwX13_first_5 : List UInt8 := [153, 0, 35, 42, 21, 4, 29, 21, 7, 182, 0, 171, 42, 180, 0, 22, 16, 7, 21, 7, 104, 28, 96, 46]
abbrev dktX13_first_5 : List UInt8 := dkwX13_first_5 ++ dktX13_first_6
def dkwX13_first_4 : List UInt8 := [180, 0, 9, 21, 7, 29, 184, 0, 144, 46, 158, 0, 7, 4, 167, 0, 4, 3, 54, 8, 21, 8]
abbrev dktX13_first_4 : List UInt8 := dkwX13_first_4 ++ dktX13_first_5
def dkwX13_first_3 : List UInt8 := [54, 6, 3, 54, 7, 21, 7, 16, 7, 162, 0, 82, 21, 6, 156, 0, 77, 21, 7, 29, 159, 0, 21, 42]
abbrev dktX13_first_3 : List UInt8 := dkwX13_first_3 ++ dktX13_first_4
def dkwX13_first_2 : List UInt8 := [21, 5, 18, 170, 161, 0, 10, 42, 18, 160, 182, 0, 92, 172, 29, 28, 160, 0, 7, 28, 167, 0, 4, 2]
abbrev dktX13_first_2 : List UInt8 := dkwX13_first_2 ++ dktX13_first_3
def dkwX13_first_1 : List UInt8 := [4, 182, 0, 104, 62, 42, 27, 3, 182, 0, 104, 54, 4, 42, 21, 4, 29, 28, 182, 0, 178, 54, 5]
abbrev dktX13_first_1 : List UInt8 := dkwX13_first_1 ++ dktX13_first_2
def dkwX13_first_0 : List UInt8 := [42, 27, 182, 0, 117, 153, 0, 10, 28, 184, 0, 129, 154, 0, 10, 42, 18, 72, 182, 0, 92, 172, 42, 27]
abbrev dktX13_first_0 : List UInt8 := dkwX13_first_0 ++ dktX13_first_1
theorem dksX13_first_0 : cX13_first.data.toList.drop 0 = dktX13_first_0 := by decide +kernel
theorem dksX13_first_1 : cX13_first.data.toList.drop 24 = dktX13_first_1 := dk_seg dksX13_first_0 24 rfl rfl
theorem dksX13_first_2 : cX13_first.data.toList.drop 47 = dktX13_first_2 := dk_seg dksX13_first_1 23 rfl rfl
theorem dksX13_first_3 : cX13_first.data.toList.drop 71 = dktX13_first_3 := dk_seg dksX13_first_2 24 rfl rfl
theorem dksX13_first_4 : cX13_first.data.toList.drop 95 = dktX13_first_4 := dk_seg dksX13_first_3 24 rfl rfl
theorem dksX13_first_5 : cX13_first.data.toList.drop 117 = dktX13_first_5 := dk_seg dksX13_first_4 22 rfl rfl
theorem dksX13_first_6 : cX13_first.data.toList.drop 141 = dktX13_first_6 := dk_seg dksX13_first_5 24 rfl rfl
theorem dX13_first_0 : decode cX13_first 0 = .ok (.aload_n 0, 1) := dk_42 (dk_at dksX13_first_0 0 rfl rfl)
theorem dX13_first_1 : decode cX13_first 1 = .ok (.iload_n 1, 1) := dk_27 (dk_at dksX13_first_0 1 rfl rfl)
theorem dX13_first_2 : decode cX13_first 2 = .ok (.invokevirtual 117, 3) := dk_182 0 117 (dk_at dksX13_first_0 2 rfl rfl)
theorem dX13_first_5 : decode cX13_first 5 = .ok (.ifCond .eq 10, 3) := dk_153 0 10 (dk_at dksX13_first_0 5 rfl rfl)
theorem dX13_first_8 : decode cX13_first 8 = .ok (.iload_n 2, 1) := dk_28 (dk_at dksX13_first_0 8 rfl rfl)
theorem dX13_first_9 : decode cX13_first 9 = .ok (.invokestatic 129, 3) := dk_184 0 129 (dk_at dksX13_first_0 9 rfl rfl)
theorem dX13_first_12 : decode cX13_first 12 = .ok (.ifCond .ne 10, 3) := dk_154 0 10 (dk_at dksX13_first_0 12 rfl rfl)
theorem dX13_first_15 : decode cX13_first 15 = .ok (.aload_n 0, 1) := dk_42 (dk_at dksX13_first_0 15 rfl rfl)
theorem dX13_first_16 : decode cX13_first 16 = .ok (.ldc 72, 2) := dk_18 72 (dk_at dksX13_first_0 16 rfl rfl)
theorem dX13_first_18 : decode cX13_first 18 = .ok (.invokevirtual 92, 3) := dk_182 0 92 (dk_at dksX13_first_0 18 rfl rfl)
theorem dX13_first_21 : decode cX13_first 21 = .ok (.ireturn, 1) := dk_172 (dk_at dksX13_first_0 21 rfl rfl)
theorem dX13_first_22 : decode cX13_first 22 = .ok (.aload_n 0, 1) := dk_42 (dk_at dksX13_first_0 22 rfl rfl)
theorem dX13_first_23 : decode cX13_first 23 = .ok (.iload_n 1, 1) := dk_27 (dk_at dksX13_first_0 23 rfl rfl)
theorem dX13_first_24 : decode cX13_first 24 = .ok (.iconst 1, 1) := dk_4 (dk_at dksX13_first_1 0 rfl rfl)
theorem dX13_first_25 : decode cX13_first 25 = .ok (.invokevirtual 104, 3) := dk_182 0 104 (dk_at dksX13_first_1 1 rfl rfl)
theorem dX13_first_28 : decode cX13_first 28 = .ok (.istore_n 3, 1) := dk_62 (dk_at dksX13_first_1 4 rfl rfl)
theorem dX13_first_29 : decode cX13_first 29 = .ok (.aload_n 0, 1) := dk_42 (dk_at dksX13_first_1 5 rfl rfl)
theorem dX13_first_30 : decode cX13_first 30 = .ok (.iload_n 1, 1) := dk_27 (dk_at dksX13_first_1 6 rfl rfl)
theorem dX13_first_31 : decode cX13_first 31 = .ok (.iconst 0, 1) := dk_3 (dk_at dksX13_first_1 7 rfl rfl)
theorem dX13_first_32 : decode cX13_first 32 = .ok (.invokevirtual 104, 3) := dk_182 0 104 (dk_at dksX13_first_1 8 rfl rfl)
theorem dX13_first_35 : decode cX13_first 35 = .ok (.istore 4, 2) := dk_54 4 (dk_at dksX13_first_1 11 rfl rfl)
theorem dX13_first_37 : decode cX13_first 37 = .ok (.aload_n 0, 1) := dk_42 (dk_at dksX13_first_1 13 rfl rfl)
theorem dX13_first_38 : decode cX13_first 38 = .ok (.iload 4, 2) := dk_21 4 (dk_at dksX13_first_1 14 rfl rfl)
theorem dX13_first_40 : decode cX13_first 40 = .ok (.iload_n 3, 1) := dk_29 (dk_at dksX13_first_1 16 rfl rfl)
theorem dX13_first_41 : decode cX13_first 41 = .ok (.iload_n 2, 1) := dk_28 (dk_at dksX13_first_1 17 rfl rfl)
theorem dX13_first_42 : decode cX13_first 42 = .ok (.invokevirtual 178, 3) := dk_182 0 178 (dk_at dksX13_first_1 18 rfl rfl)
theorem dX13_first_45 : decode cX13_first 45 = .ok (.istore 5, 2) := dk_54 5 (dk_at dksX13_first_1 21 rfl rfl)
theorem dX13_first_47 : decode cX13_first 47 = .ok (.iload 5, 2) := dk_21 5 (dk_at dksX13_first_2 0 rfl rfl)
theorem dX13_first_49 : decode cX13_first 49 = .ok (.ldc 170, 2) := dk_18 170 (dk_at dksX13_first_2 2 rfl rfl)
theorem dX13_first_51 : decode cX13_first 51 = .ok (.if_icmp .lt 10, 3) := dk_161 0 10 (dk_at dksX13_first_2 4 rfl rfl)
theorem dX13_first_54 : decode cX13_first 54 = .ok (.aload_n 0, 1) := dk_42 (dk_at dksX13_first_2 7 rfl rfl)
theorem dX13_first_55 : decode cX13_first 55 = .ok (.ldc 160, 2) := dk_18 160 (dk_at dksX13_first_2 8 rfl rfl)
theorem dX13_first_57 : decode cX13_first 57 = .ok (.invokevirtual 92, 3) := dk_182 0 92 (dk_at dksX13_first_2 10 rfl rfl)
theorem dX13_first_60 : decode cX13_first 60 = .ok (.ireturn, 1) := dk_172 (dk_at dksX13_first_2 13 rfl rfl)
theorem dX13_first_61 : decode cX13_first 61 = .ok (.iload_n 3, 1) := dk_29 (dk_at dksX13_first_2 14 rfl rfl)
theorem dX13_first_62 : decode cX13_first 62 = .ok (.iload_n 2, 1) := dk_28 (dk_at dksX13_first_2 15 rfl rfl)
theorem dX13_first_63 : decode cX13_first 63 = .ok (.if_icmp .ne 7, 3) := dk_160 0 7 (dk_at dksX13_first_2 16 rfl rfl)
theorem dX13_first_66 : decode cX13_first 66 = .ok (.iload_n 2, 1) := dk_28 (dk_at dksX13_first_2 19 rfl rfl)
theorem dX13_first_67 : decode cX13_first 67 = .ok (.goto 4, 3) := dk_167 0 4 (dk_at dksX13_first_2 20 rfl rfl)
theorem dX13_first_70 : decode cX13_first 70 = .ok (.iconst (-1), 1) := dk_2 (dk_at dksX13_first_2 23 rfl rfl)
theorem dX13_first_71 : decode cX13_first 71 = .ok (.istore 6, 2) := dk_54 6 (dk_at dksX13_first_3 0 rfl rfl)
theorem dX13_first_73 : decode cX13_first 73 = .ok (.iconst 0, 1) := dk_3 (dk_at dksX13_first_3 2 rfl rfl)
theorem dX13_first_74 : decode cX13_first 74 = .ok (.istore 7, 2) := dk_54 7 (dk_at dksX13_first_3 3 rfl rfl)
theorem dX13_first_76 : decode cX13_first 76 = .ok (.iload 7, 2) := dk_21 7 (dk_at dksX13_first_3 5 rfl rfl)
theorem dX13_first_78 : decode cX13_first 78 = .ok (.bipush 7, 2) := dk_16 7 (dk_at dksX13_first_3 7 rfl rfl)
theorem dX13_first_80 : decode cX13_first 80 = .ok (.if_icmp .ge 82, 3) := dk_162 0 82 (dk_at dksX13_first_3 9 rfl rfl)
theorem dX13_first_83 : decode cX13_first 83 = .ok (.iload 6, 2) := dk_21 6 (dk_at dksX13_first_3 12 rfl rfl)
theorem dX13_first_85 : decode cX13_first 85 = .ok (.ifCond .ge 77, 3) := dk_156 0 77 (dk_at dksX13_first_3 14 rfl rfl)
theorem dX13_first_88 : decode cX13_first 88 = .ok (.iload 7, 2) := dk_21 7 (dk_at dksX13_first_3 17 rfl rfl)
theorem dX13_first_90 : decode cX13_first 90 = .ok (.iload_n 3, 1) := dk_29 (dk_at dksX13_first_3 19 rfl rfl)
theorem dX13_first_91 : decode cX13_first 91 = .ok (.if_icmp .eq 21, 3) := dk_159 0 21 (dk_at dksX13_first_3 20 rfl rfl)
theorem dX13_first_94 : decode cX13_first 94 = .ok (.aload_n 0, 1) := dk_42 (dk_at dksX13_first_3 23 rfl rfl)
theorem dX13_first_95 : decode cX13_first 95 = .ok (.getfield 9, 3) := dk_180 0 9 (dk_at dksX13_first_4 0 rfl rfl)
theorem dX13_first_98 : decode cX13_first 98 = .ok (.iload 7, 2) := dk_21 7 (dk_at dksX13_first_4 3 rfl rfl)
theorem dX13_first_100 : decode cX13_first 100 = .ok (.iload_n 3, 1) := dk_29 (dk_at dksX13_first_4 5 rfl rfl)
theorem dX13_first_101 : decode cX13_first 101 = .ok (.invokestatic 144, 3) := dk_184 0 144 (dk_at dksX13_first_4 6 rfl rfl)
theorem dX13_first_104 : decode cX13_first 104 = .ok (.iaload, 1) := dk_46 (dk_at dksX13_first_4 9 rfl rfl)
theorem dX13_first_105 : decode cX13_first 105 = .ok (.ifCond .le 7, 3) := dk_158 0 7 (dk_at dksX13_first_4 10 rfl rfl)
theorem dX13_first_108 : decode cX13_first 108 = .ok (.iconst 1, 1) := dk_4 (dk_at dksX13_first_4 13 rfl rfl)
theorem dX13_first_109 : decode cX13_first 109 = .ok (.goto 4, 3) := dk_167 0 4 (dk_at dksX13_first_4 14 rfl rfl)
theorem dX13_first_112 : decode cX13_first 112 = .ok (.iconst 0, 1) := dk_3 (dk_at dksX13_first_4 17 rfl rfl)
theorem dX13_first_113 : decode cX13_first 113 = .ok (.istore 8, 2) := dk_54 8 (dk_at dksX13_first_4 18 rfl rfl)
theorem dX13_first_115 : decode cX13_first 115 = .ok (.iload 8, 2) := dk_21 8 (dk_at dksX13_first_4 20 rfl rfl)
theorem dX13_first_117 : decode cX13_first 117 = .ok (.ifCond .eq 35, 3) := dk_153 0 35 (dk_at dksX13_first_5 0 rfl rfl)
theorem dX13_first_120 : decode cX13_first 120 = .ok (.aload_n 0, 1) := dk_42 (dk_at dksX13_first_5 3 rfl rfl)
theorem dX13_first_121 : decode cX13_first 121 = .ok (.iload 4, 2) := dk_21 4 (dk_at dksX13_first_5 4 rfl rfl)
theorem dX13_first_123 : decode cX13_first 123 = .ok (.iload_n 3, 1) := dk_29 (dk_at dksX13_first_5 6 rfl rfl)
theorem dX13_first_124 : decode cX13_first 124 = .ok (.iload 7, 2) := dk_21 7 (dk_at dksX13_first_5 7 rfl rfl)
theorem dX13_first_126 : decode cX13_first 126 = .ok (.invokevirtual 171, 3) := dk_182 0 171 (dk_at dksX13_first_5 9 rfl rfl)
theorem dX13_first_129 : decode cX13_first 129 = .ok (.aload_n 0, 1) := dk_42 (dk_at dksX13_first_5 12 rfl rfl)
theorem dX13_first_130 : decode cX13_first 130 = .ok (.getfield 22, 3) := dk_180 0 22 (dk_at dksX13_first_5 13 rfl rfl)
theorem dX13_first_133 : decode cX13_first 133 = .ok (.bipush 7, 2) := dk_16 7 (dk_at dksX13_first_5 16 rfl rfl)
theorem dX13_first_135 : decode cX13_first 135 = .ok (.iload 7, 2) := dk_21 7 (dk_at dksX13_first_5 18 rfl rfl)
theorem dX13_first_137 : decode cX13_first 137 = .ok (.imul, 1) := dk_104 (dk_at dksX13_first_5 20 rfl rfl)
theorem dX13_first_138 : decode cX13_first 138 = .ok (.iload_n 2, 1) := dk_28 (dk_at dksX13_first_5 21 rfl rfl)
theorem dX13_first_139 : decode cX13_first 139 = .ok (.iadd, 1) := dk_96 (dk_at dksX13_first_5 22 rfl rfl)
theorem dX13_first_140 : decode cX13_first 140 = .ok (.iaload, 1) := dk_46 (dk_at dksX13_first_5 23 rfl rfl)
theorem dX13_first_141 : decode cX13_first 141 = .ok (.iadd, 1) := dk_96 (dk_at dksX13_first_6 0 rfl rfl)
theorem dX13_first_142 : decode cX13_first 142 = .ok (.iload 5, 2) := dk_21 5 (dk_at dksX13_first_6 1 rfl rfl)
theorem dX13_first_144 : decode cX13_first 144 = .ok (.if_icmp .ne 8, 3) := dk_160 0 8 (dk_at dksX13_first_6 3 rfl rfl)
theorem dX13_first_147 : decode cX13_first 147 = .ok (.iload 7, 2) := dk_21 7 (dk_at dksX13_first_6 6 rfl rfl)
theorem dX13_first_149 : decode cX13_first 149 = .ok (.goto 5, 3) := dk_167 0 5 (dk_at dksX13_first_6 8 rfl rfl)
theorem dX13_first_152 : decode cX13_first 152 = .ok (.iload 6, 2) := dk_21 6 (dk_at dksX13_first_6 11 rfl rfl)
theorem dX13_first_154 : decode cX13_first 154 = .ok (.istore 6, 2) := dk_54 6 (dk_at dksX13_first_6 13 rfl rfl)
theorem dX13_first_156 : decode cX13_first 156 = .ok (.iinc 7 1, 3) := dk_132 7 1 (dk_at dksX13_first_6 15 rfl rfl)
theorem dX13_first_159 : decode cX13_first 159 = .ok (.goto (-83), 3) := dk_167 255 173 (dk_at dksX13_first_6 18 rfl rfl)
theorem dX13_first_162 : decode cX13_first 162 = .ok (.iload 6, 2) := dk_21 6 (dk_at dksX13_first_6 21 rfl rfl)
theorem dX13_first_164 : decode cX13_first 164 = .ok (.ireturn, 1) := dk_172 (dk_at dksX13_first_6 23 rfl rfl)
abbrev cX13_take : ByteArray := prog_16_method_48_code
def yX13_take : MethodName := ⟨RX13, "take", "(II)I"⟩
def dkwX13_take_3 : List UInt8 := [182, 0, 123, 182, 0, 126, 172]
abbrev dktX13_take_3 : List UInt8 := dkwX13_take_3 ++ []
def dkwX13_take_2 : List UInt8 := [182, 0, 185, 154, 0, 10, 42, 18, 96, 182, 0, 92, 172, 42, 27, 28, 182, 0, 188, 42, 42, 27]
abbrev dktX13_take_2 : List UInt8 := dkwX13_take_2 ++ dktX13_take_3
def dkwX13_take_1 : List UInt8 := [28, 42, 27, 4, 182, 0, 104, 182, 0, 181, 154, 0, 10, 42, 18, 184, 182, 0, 92, 172, 42, 27, 28]
abbrev dktX13_take_1 : List UInt8 := dkwX13_take_1 ++ dktX13_take_2
def dkwX13_take_0 : List UInt8 := [42, 27, 182, 0, 117, 153, 0, 11, 42, 28, 182, 0, 154, 154, 0, 10, 42, 18, 72, 182, 0, 92, 172, 42]
abbrev dktX13_take_0 : List UInt8 := dkwX13_take_0 ++ dktX13_take_1
theorem dksX13_take_0 : cX13_take.data.toList.drop 0 = dktX13_take_0 := by decide +kernel
theorem dksX13_take_1 : cX13_take.data.toList.drop 24 = dktX13_take_1 := dk_seg dksX13_take_0 24 rfl rfl
theorem dksX13_take_2 : cX13_take.data.toList.drop 47 = dktX13_take_2 := dk_seg dksX13_take_1 23 rfl rfl
theorem dksX13_take_3 : cX13_take.data.toList.drop 69 = dktX13_take_3 := dk_seg dksX13_take_2 22 rfl rfl
theorem dX13_take_0 : decode cX13_take 0 = .ok (.aload_n 0, 1) := dk_42 (dk_at dksX13_take_0 0 rfl rfl)
theorem dX13_take_1 : decode cX13_take 1 = .ok (.iload_n 1, 1) := dk_27 (dk_at dksX13_take_0 1 rfl rfl)
theorem dX13_take_2 : decode cX13_take 2 = .ok (.invokevirtual 117, 3) := dk_182 0 117 (dk_at dksX13_take_0 2 rfl rfl)
theorem dX13_take_5 : decode cX13_take 5 = .ok (.ifCond .eq 11, 3) := dk_153 0 11 (dk_at dksX13_take_0 5 rfl rfl)
theorem dX13_take_8 : decode cX13_take 8 = .ok (.aload_n 0, 1) := dk_42 (dk_at dksX13_take_0 8 rfl rfl)
theorem dX13_take_9 : decode cX13_take 9 = .ok (.iload_n 2, 1) := dk_28 (dk_at dksX13_take_0 9 rfl rfl)
theorem dX13_take_10 : decode cX13_take 10 = .ok (.invokevirtual 154, 3) := dk_182 0 154 (dk_at dksX13_take_0 10 rfl rfl)
theorem dX13_take_13 : decode cX13_take 13 = .ok (.ifCond .ne 10, 3) := dk_154 0 10 (dk_at dksX13_take_0 13 rfl rfl)
theorem dX13_take_16 : decode cX13_take 16 = .ok (.aload_n 0, 1) := dk_42 (dk_at dksX13_take_0 16 rfl rfl)
theorem dX13_take_17 : decode cX13_take 17 = .ok (.ldc 72, 2) := dk_18 72 (dk_at dksX13_take_0 17 rfl rfl)
theorem dX13_take_19 : decode cX13_take 19 = .ok (.invokevirtual 92, 3) := dk_182 0 92 (dk_at dksX13_take_0 19 rfl rfl)
theorem dX13_take_22 : decode cX13_take 22 = .ok (.ireturn, 1) := dk_172 (dk_at dksX13_take_0 22 rfl rfl)
theorem dX13_take_23 : decode cX13_take 23 = .ok (.aload_n 0, 1) := dk_42 (dk_at dksX13_take_0 23 rfl rfl)
theorem dX13_take_24 : decode cX13_take 24 = .ok (.iload_n 2, 1) := dk_28 (dk_at dksX13_take_1 0 rfl rfl)
theorem dX13_take_25 : decode cX13_take 25 = .ok (.aload_n 0, 1) := dk_42 (dk_at dksX13_take_1 1 rfl rfl)
theorem dX13_take_26 : decode cX13_take 26 = .ok (.iload_n 1, 1) := dk_27 (dk_at dksX13_take_1 2 rfl rfl)
theorem dX13_take_27 : decode cX13_take 27 = .ok (.iconst 1, 1) := dk_4 (dk_at dksX13_take_1 3 rfl rfl)
theorem dX13_take_28 : decode cX13_take 28 = .ok (.invokevirtual 104, 3) := dk_182 0 104 (dk_at dksX13_take_1 4 rfl rfl)
theorem dX13_take_31 : decode cX13_take 31 = .ok (.invokevirtual 181, 3) := dk_182 0 181 (dk_at dksX13_take_1 7 rfl rfl)
theorem dX13_take_34 : decode cX13_take 34 = .ok (.ifCond .ne 10, 3) := dk_154 0 10 (dk_at dksX13_take_1 10 rfl rfl)
theorem dX13_take_37 : decode cX13_take 37 = .ok (.aload_n 0, 1) := dk_42 (dk_at dksX13_take_1 13 rfl rfl)
theorem dX13_take_38 : decode cX13_take 38 = .ok (.ldc 184, 2) := dk_18 184 (dk_at dksX13_take_1 14 rfl rfl)
theorem dX13_take_40 : decode cX13_take 40 = .ok (.invokevirtual 92, 3) := dk_182 0 92 (dk_at dksX13_take_1 16 rfl rfl)
theorem dX13_take_43 : decode cX13_take 43 = .ok (.ireturn, 1) := dk_172 (dk_at dksX13_take_1 19 rfl rfl)
theorem dX13_take_44 : decode cX13_take 44 = .ok (.aload_n 0, 1) := dk_42 (dk_at dksX13_take_1 20 rfl rfl)
theorem dX13_take_45 : decode cX13_take 45 = .ok (.iload_n 1, 1) := dk_27 (dk_at dksX13_take_1 21 rfl rfl)
theorem dX13_take_46 : decode cX13_take 46 = .ok (.iload_n 2, 1) := dk_28 (dk_at dksX13_take_1 22 rfl rfl)
theorem dX13_take_47 : decode cX13_take 47 = .ok (.invokevirtual 185, 3) := dk_182 0 185 (dk_at dksX13_take_2 0 rfl rfl)
theorem dX13_take_50 : decode cX13_take 50 = .ok (.ifCond .ne 10, 3) := dk_154 0 10 (dk_at dksX13_take_2 3 rfl rfl)
theorem dX13_take_53 : decode cX13_take 53 = .ok (.aload_n 0, 1) := dk_42 (dk_at dksX13_take_2 6 rfl rfl)
theorem dX13_take_54 : decode cX13_take 54 = .ok (.ldc 96, 2) := dk_18 96 (dk_at dksX13_take_2 7 rfl rfl)
theorem dX13_take_56 : decode cX13_take 56 = .ok (.invokevirtual 92, 3) := dk_182 0 92 (dk_at dksX13_take_2 9 rfl rfl)
theorem dX13_take_59 : decode cX13_take 59 = .ok (.ireturn, 1) := dk_172 (dk_at dksX13_take_2 12 rfl rfl)
theorem dX13_take_60 : decode cX13_take 60 = .ok (.aload_n 0, 1) := dk_42 (dk_at dksX13_take_2 13 rfl rfl)
theorem dX13_take_61 : decode cX13_take 61 = .ok (.iload_n 1, 1) := dk_27 (dk_at dksX13_take_2 14 rfl rfl)
theorem dX13_take_62 : decode cX13_take 62 = .ok (.iload_n 2, 1) := dk_28 (dk_at dksX13_take_2 15 rfl rfl)
theorem dX13_take_63 : decode cX13_take 63 = .ok (.invokevirtual 188, 3) := dk_182 0 188 (dk_at dksX13_take_2 16 rfl rfl)
theorem dX13_take_66 : decode cX13_take 66 = .ok (.aload_n 0, 1) := dk_42 (dk_at dksX13_take_2 19 rfl rfl)
theorem dX13_take_67 : decode cX13_take 67 = .ok (.aload_n 0, 1) := dk_42 (dk_at dksX13_take_2 20 rfl rfl)
theorem dX13_take_68 : decode cX13_take 68 = .ok (.iload_n 1, 1) := dk_27 (dk_at dksX13_take_2 21 rfl rfl)
theorem dX13_take_69 : decode cX13_take 69 = .ok (.invokevirtual 123, 3) := dk_182 0 123 (dk_at dksX13_take_3 0 rfl rfl)
theorem dX13_take_72 : decode cX13_take 72 = .ok (.invokevirtual 126, 3) := dk_182 0 126 (dk_at dksX13_take_3 3 rfl rfl)
theorem dX13_take_75 : decode cX13_take 75 = .ok (.ireturn, 1) := dk_172 (dk_at dksX13_take_3 6 rfl rfl)
abbrev cX13_liesAt : ByteArray := prog_16_method_45_code
def yX13_liesAt : MethodName := ⟨RX13, "liesAt", "(II)Z"⟩
def dkwX13_liesAt_1 : List UInt8 := [172]
abbrev dktX13_liesAt_1 : List UInt8 := dkwX13_liesAt_1 ++ []
def dkwX13_liesAt_0 : List UInt8 := [42, 27, 6, 182, 0, 111, 154, 0, 17, 42, 27, 4, 182, 0, 111, 28, 160, 0, 7, 4, 167, 0, 4, 3]
abbrev dktX13_liesAt_0 : List UInt8 := dkwX13_liesAt_0 ++ dktX13_liesAt_1
theorem dksX13_liesAt_0 : cX13_liesAt.data.toList.drop 0 = dktX13_liesAt_0 := by decide +kernel
theorem dksX13_liesAt_1 : cX13_liesAt.data.toList.drop 24 = dktX13_liesAt_1 := dk_seg dksX13_liesAt_0 24 rfl rfl
theorem dX13_liesAt_0 : decode cX13_liesAt 0 = .ok (.aload_n 0, 1) := dk_42 (dk_at dksX13_liesAt_0 0 rfl rfl)
theorem dX13_liesAt_1 : decode cX13_liesAt 1 = .ok (.iload_n 1, 1) := dk_27 (dk_at dksX13_liesAt_0 1 rfl rfl)
theorem dX13_liesAt_2 : decode cX13_liesAt 2 = .ok (.iconst 3, 1) := dk_6 (dk_at dksX13_liesAt_0 2 rfl rfl)
theorem dX13_liesAt_3 : decode cX13_liesAt 3 = .ok (.invokevirtual 111, 3) := dk_182 0 111 (dk_at dksX13_liesAt_0 3 rfl rfl)
theorem dX13_liesAt_6 : decode cX13_liesAt 6 = .ok (.ifCond .ne 17, 3) := dk_154 0 17 (dk_at dksX13_liesAt_0 6 rfl rfl)
theorem dX13_liesAt_9 : decode cX13_liesAt 9 = .ok (.aload_n 0, 1) := dk_42 (dk_at dksX13_liesAt_0 9 rfl rfl)
theorem dX13_liesAt_10 : decode cX13_liesAt 10 = .ok (.iload_n 1, 1) := dk_27 (dk_at dksX13_liesAt_0 10 rfl rfl)
theorem dX13_liesAt_11 : decode cX13_liesAt 11 = .ok (.iconst 1, 1) := dk_4 (dk_at dksX13_liesAt_0 11 rfl rfl)
theorem dX13_liesAt_12 : decode cX13_liesAt 12 = .ok (.invokevirtual 111, 3) := dk_182 0 111 (dk_at dksX13_liesAt_0 12 rfl rfl)
theorem dX13_liesAt_15 : decode cX13_liesAt 15 = .ok (.iload_n 2, 1) := dk_28 (dk_at dksX13_liesAt_0 15 rfl rfl)
theorem dX13_liesAt_16 : decode cX13_liesAt 16 = .ok (.if_icmp .ne 7, 3) := dk_160 0 7 (dk_at dksX13_liesAt_0 16 rfl rfl)
theorem dX13_liesAt_19 : decode cX13_liesAt 19 = .ok (.iconst 1, 1) := dk_4 (dk_at dksX13_liesAt_0 19 rfl rfl)
theorem dX13_liesAt_20 : decode cX13_liesAt 20 = .ok (.goto 4, 3) := dk_167 0 4 (dk_at dksX13_liesAt_0 20 rfl rfl)
theorem dX13_liesAt_23 : decode cX13_liesAt 23 = .ok (.iconst 0, 1) := dk_3 (dk_at dksX13_liesAt_0 23 rfl rfl)
theorem dX13_liesAt_24 : decode cX13_liesAt 24 = .ok (.ireturn, 1) := dk_172 (dk_at dksX13_liesAt_1 0 rfl rfl)
abbrev cX13_fitsTo : ByteArray := prog_16_method_46_code
def yX13_fitsTo : MethodName := ⟨RX13, "fitsTo", "(II)Z"⟩
def dkwX13_fitsTo_1 : List UInt8 := [4, 167, 0, 4, 3, 172]
abbrev dktX13_fitsTo_1 : List UInt8 := dkwX13_fitsTo_1 ++ []
def dkwX13_fitsTo_0 : List UInt8 := [42, 42, 27, 182, 0, 123, 182, 0, 126, 42, 28, 3, 182, 0, 111, 96, 42, 27, 182, 0, 120, 163, 0, 7]
abbrev dktX13_fitsTo_0 : List UInt8 := dkwX13_fitsTo_0 ++ dktX13_fitsTo_1
theorem dksX13_fitsTo_0 : cX13_fitsTo.data.toList.drop 0 = dktX13_fitsTo_0 := by decide +kernel
theorem dksX13_fitsTo_1 : cX13_fitsTo.data.toList.drop 24 = dktX13_fitsTo_1 := dk_seg dksX13_fitsTo_0 24 rfl rfl
theorem dX13_fitsTo_0 : decode cX13_fitsTo 0 = .ok (.aload_n 0, 1) := dk_42 (dk_at dksX13_fitsTo_0 0 rfl rfl)
theorem dX13_fitsTo_1 : decode cX13_fitsTo 1 = .ok (.aload_n 0, 1) := dk_42 (dk_at dksX13_fitsTo_0 1 rfl rfl)
theorem dX13_fitsTo_2 : decode cX13_fitsTo 2 = .ok (.iload_n 1, 1) := dk_27 (dk_at dksX13_fitsTo_0 2 rfl rfl)
theorem dX13_fitsTo_3 : decode cX13_fitsTo 3 = .ok (.invokevirtual 123, 3) := dk_182 0 123 (dk_at dksX13_fitsTo_0 3 rfl rfl)
theorem dX13_fitsTo_6 : decode cX13_fitsTo 6 = .ok (.invokevirtual 126, 3) := dk_182 0 126 (dk_at dksX13_fitsTo_0 6 rfl rfl)
theorem dX13_fitsTo_9 : decode cX13_fitsTo 9 = .ok (.aload_n 0, 1) := dk_42 (dk_at dksX13_fitsTo_0 9 rfl rfl)
theorem dX13_fitsTo_10 : decode cX13_fitsTo 10 = .ok (.iload_n 2, 1) := dk_28 (dk_at dksX13_fitsTo_0 10 rfl rfl)
theorem dX13_fitsTo_11 : decode cX13_fitsTo 11 = .ok (.iconst 0, 1) := dk_3 (dk_at dksX13_fitsTo_0 11 rfl rfl)
theorem dX13_fitsTo_12 : decode cX13_fitsTo 12 = .ok (.invokevirtual 111, 3) := dk_182 0 111 (dk_at dksX13_fitsTo_0 12 rfl rfl)
theorem dX13_fitsTo_15 : decode cX13_fitsTo 15 = .ok (.iadd, 1) := dk_96 (dk_at dksX13_fitsTo_0 15 rfl rfl)
theorem dX13_fitsTo_16 : decode cX13_fitsTo 16 = .ok (.aload_n 0, 1) := dk_42 (dk_at dksX13_fitsTo_0 16 rfl rfl)
theorem dX13_fitsTo_17 : decode cX13_fitsTo 17 = .ok (.iload_n 1, 1) := dk_27 (dk_at dksX13_fitsTo_0 17 rfl rfl)
theorem dX13_fitsTo_18 : decode cX13_fitsTo 18 = .ok (.invokevirtual 120, 3) := dk_182 0 120 (dk_at dksX13_fitsTo_0 18 rfl rfl)
theorem dX13_fitsTo_21 : decode cX13_fitsTo 21 = .ok (.if_icmp .gt 7, 3) := dk_163 0 7 (dk_at dksX13_fitsTo_0 21 rfl rfl)
theorem dX13_fitsTo_24 : decode cX13_fitsTo 24 = .ok (.iconst 1, 1) := dk_4 (dk_at dksX13_fitsTo_1 0 rfl rfl)
theorem dX13_fitsTo_25 : decode cX13_fitsTo 25 = .ok (.goto 4, 3) := dk_167 0 4 (dk_at dksX13_fitsTo_1 1 rfl rfl)
theorem dX13_fitsTo_28 : decode cX13_fitsTo 28 = .ok (.iconst 0, 1) := dk_3 (dk_at dksX13_fitsTo_1 4 rfl rfl)
theorem dX13_fitsTo_29 : decode cX13_fitsTo 29 = .ok (.ireturn, 1) := dk_172 (dk_at dksX13_fitsTo_1 5 rfl rfl)
abbrev cX13_taken : ByteArray := prog_16_method_47_code
def yX13_taken : MethodName := ⟨RX13, "taken", "(II)V"⟩
def dkwX13_taken_0 : List UInt8 := [42, 180, 0, 9, 28, 6, 184, 0, 85, 4, 79, 42, 180, 0, 9, 28, 7, 184, 0, 85, 27, 79, 177]
abbrev dktX13_taken_0 : List UInt8 := dkwX13_taken_0 ++ []
theorem dksX13_taken_0 : cX13_taken.data.toList.drop 0 = dktX13_taken_0 := by decide +kernel
theorem dX13_taken_0 : decode cX13_taken 0 = .ok (.aload_n 0, 1) := dk_42 (dk_at dksX13_taken_0 0 rfl rfl)
theorem dX13_taken_1 : decode cX13_taken 1 = .ok (.getfield 9, 3) := dk_180 0 9 (dk_at dksX13_taken_0 1 rfl rfl)
theorem dX13_taken_4 : decode cX13_taken 4 = .ok (.iload_n 2, 1) := dk_28 (dk_at dksX13_taken_0 4 rfl rfl)
theorem dX13_taken_5 : decode cX13_taken 5 = .ok (.iconst 3, 1) := dk_6 (dk_at dksX13_taken_0 5 rfl rfl)
theorem dX13_taken_6 : decode cX13_taken 6 = .ok (.invokestatic 85, 3) := dk_184 0 85 (dk_at dksX13_taken_0 6 rfl rfl)
theorem dX13_taken_9 : decode cX13_taken 9 = .ok (.iconst 1, 1) := dk_4 (dk_at dksX13_taken_0 9 rfl rfl)
theorem dX13_taken_10 : decode cX13_taken 10 = .ok (.iastore, 1) := dk_79 (dk_at dksX13_taken_0 10 rfl rfl)
theorem dX13_taken_11 : decode cX13_taken 11 = .ok (.aload_n 0, 1) := dk_42 (dk_at dksX13_taken_0 11 rfl rfl)
theorem dX13_taken_12 : decode cX13_taken 12 = .ok (.getfield 9, 3) := dk_180 0 9 (dk_at dksX13_taken_0 12 rfl rfl)
theorem dX13_taken_15 : decode cX13_taken 15 = .ok (.iload_n 2, 1) := dk_28 (dk_at dksX13_taken_0 15 rfl rfl)
theorem dX13_taken_16 : decode cX13_taken 16 = .ok (.iconst 4, 1) := dk_7 (dk_at dksX13_taken_0 16 rfl rfl)
theorem dX13_taken_17 : decode cX13_taken 17 = .ok (.invokestatic 85, 3) := dk_184 0 85 (dk_at dksX13_taken_0 17 rfl rfl)
theorem dX13_taken_20 : decode cX13_taken 20 = .ok (.iload_n 1, 1) := dk_27 (dk_at dksX13_taken_0 20 rfl rfl)
theorem dX13_taken_21 : decode cX13_taken 21 = .ok (.iastore, 1) := dk_79 (dk_at dksX13_taken_0 21 rfl rfl)
theorem dX13_taken_22 : decode cX13_taken 22 = .ok (.return_, 1) := dk_177 (dk_at dksX13_taken_0 22 rfl rfl)
abbrev cX13_drop : ByteArray := prog_16_method_49_code
def yX13_drop : MethodName := ⟨RX13, "drop", "(II)I"⟩
def dkwX13_drop_4 : List UInt8 := [2, 79, 42, 42, 27, 182, 0, 123, 182, 0, 126, 172]
abbrev dktX13_drop_4 : List UInt8 := dkwX13_drop_4 ++ []
def dkwX13_drop_3 : List UInt8 := [182, 0, 104, 79, 42, 180, 0, 9, 28, 6, 184, 0, 85, 3, 79, 42, 180, 0, 9, 28, 7, 184, 0, 85]
abbrev dktX13_drop_3 : List UInt8 := dkwX13_drop_3 ++ dktX13_drop_4
def dkwX13_drop_2 : List UInt8 := [160, 0, 10, 42, 18, 184, 182, 0, 92, 172, 42, 180, 0, 9, 28, 4, 184, 0, 85, 42, 27, 4]
abbrev dktX13_drop_2 : List UInt8 := dkwX13_drop_2 ++ dktX13_drop_3
def dkwX13_drop_1 : List UInt8 := [27, 182, 0, 123, 28, 184, 0, 114, 153, 0, 18, 42, 28, 5, 182, 0, 111, 42, 27, 4, 182, 0, 104]
abbrev dktX13_drop_1 : List UInt8 := dkwX13_drop_1 ++ dktX13_drop_2
def dkwX13_drop_0 : List UInt8 := [42, 27, 182, 0, 117, 153, 0, 11, 42, 28, 182, 0, 154, 154, 0, 10, 42, 18, 72, 182, 0, 92, 172, 42]
abbrev dktX13_drop_0 : List UInt8 := dkwX13_drop_0 ++ dktX13_drop_1
theorem dksX13_drop_0 : cX13_drop.data.toList.drop 0 = dktX13_drop_0 := by decide +kernel
theorem dksX13_drop_1 : cX13_drop.data.toList.drop 24 = dktX13_drop_1 := dk_seg dksX13_drop_0 24 rfl rfl
theorem dksX13_drop_2 : cX13_drop.data.toList.drop 47 = dktX13_drop_2 := dk_seg dksX13_drop_1 23 rfl rfl
theorem dksX13_drop_3 : cX13_drop.data.toList.drop 69 = dktX13_drop_3 := dk_seg dksX13_drop_2 22 rfl rfl
theorem dksX13_drop_4 : cX13_drop.data.toList.drop 93 = dktX13_drop_4 := dk_seg dksX13_drop_3 24 rfl rfl
theorem dX13_drop_0 : decode cX13_drop 0 = .ok (.aload_n 0, 1) := dk_42 (dk_at dksX13_drop_0 0 rfl rfl)
theorem dX13_drop_1 : decode cX13_drop 1 = .ok (.iload_n 1, 1) := dk_27 (dk_at dksX13_drop_0 1 rfl rfl)
theorem dX13_drop_2 : decode cX13_drop 2 = .ok (.invokevirtual 117, 3) := dk_182 0 117 (dk_at dksX13_drop_0 2 rfl rfl)
theorem dX13_drop_5 : decode cX13_drop 5 = .ok (.ifCond .eq 11, 3) := dk_153 0 11 (dk_at dksX13_drop_0 5 rfl rfl)
theorem dX13_drop_8 : decode cX13_drop 8 = .ok (.aload_n 0, 1) := dk_42 (dk_at dksX13_drop_0 8 rfl rfl)
theorem dX13_drop_9 : decode cX13_drop 9 = .ok (.iload_n 2, 1) := dk_28 (dk_at dksX13_drop_0 9 rfl rfl)
theorem dX13_drop_10 : decode cX13_drop 10 = .ok (.invokevirtual 154, 3) := dk_182 0 154 (dk_at dksX13_drop_0 10 rfl rfl)
theorem dX13_drop_13 : decode cX13_drop 13 = .ok (.ifCond .ne 10, 3) := dk_154 0 10 (dk_at dksX13_drop_0 13 rfl rfl)
theorem dX13_drop_16 : decode cX13_drop 16 = .ok (.aload_n 0, 1) := dk_42 (dk_at dksX13_drop_0 16 rfl rfl)
theorem dX13_drop_17 : decode cX13_drop 17 = .ok (.ldc 72, 2) := dk_18 72 (dk_at dksX13_drop_0 17 rfl rfl)
theorem dX13_drop_19 : decode cX13_drop 19 = .ok (.invokevirtual 92, 3) := dk_182 0 92 (dk_at dksX13_drop_0 19 rfl rfl)
theorem dX13_drop_22 : decode cX13_drop 22 = .ok (.ireturn, 1) := dk_172 (dk_at dksX13_drop_0 22 rfl rfl)
theorem dX13_drop_23 : decode cX13_drop 23 = .ok (.aload_n 0, 1) := dk_42 (dk_at dksX13_drop_0 23 rfl rfl)
theorem dX13_drop_24 : decode cX13_drop 24 = .ok (.iload_n 1, 1) := dk_27 (dk_at dksX13_drop_1 0 rfl rfl)
theorem dX13_drop_25 : decode cX13_drop 25 = .ok (.invokevirtual 123, 3) := dk_182 0 123 (dk_at dksX13_drop_1 1 rfl rfl)
theorem dX13_drop_28 : decode cX13_drop 28 = .ok (.iload_n 2, 1) := dk_28 (dk_at dksX13_drop_1 4 rfl rfl)
theorem dX13_drop_29 : decode cX13_drop 29 = .ok (.invokestatic 114, 3) := dk_184 0 114 (dk_at dksX13_drop_1 5 rfl rfl)
theorem dX13_drop_32 : decode cX13_drop 32 = .ok (.ifCond .eq 18, 3) := dk_153 0 18 (dk_at dksX13_drop_1 8 rfl rfl)
theorem dX13_drop_35 : decode cX13_drop 35 = .ok (.aload_n 0, 1) := dk_42 (dk_at dksX13_drop_1 11 rfl rfl)
theorem dX13_drop_36 : decode cX13_drop 36 = .ok (.iload_n 2, 1) := dk_28 (dk_at dksX13_drop_1 12 rfl rfl)
theorem dX13_drop_37 : decode cX13_drop 37 = .ok (.iconst 2, 1) := dk_5 (dk_at dksX13_drop_1 13 rfl rfl)
theorem dX13_drop_38 : decode cX13_drop 38 = .ok (.invokevirtual 111, 3) := dk_182 0 111 (dk_at dksX13_drop_1 14 rfl rfl)
theorem dX13_drop_41 : decode cX13_drop 41 = .ok (.aload_n 0, 1) := dk_42 (dk_at dksX13_drop_1 17 rfl rfl)
theorem dX13_drop_42 : decode cX13_drop 42 = .ok (.iload_n 1, 1) := dk_27 (dk_at dksX13_drop_1 18 rfl rfl)
theorem dX13_drop_43 : decode cX13_drop 43 = .ok (.iconst 1, 1) := dk_4 (dk_at dksX13_drop_1 19 rfl rfl)
theorem dX13_drop_44 : decode cX13_drop 44 = .ok (.invokevirtual 104, 3) := dk_182 0 104 (dk_at dksX13_drop_1 20 rfl rfl)
theorem dX13_drop_47 : decode cX13_drop 47 = .ok (.if_icmp .ne 10, 3) := dk_160 0 10 (dk_at dksX13_drop_2 0 rfl rfl)
theorem dX13_drop_50 : decode cX13_drop 50 = .ok (.aload_n 0, 1) := dk_42 (dk_at dksX13_drop_2 3 rfl rfl)
theorem dX13_drop_51 : decode cX13_drop 51 = .ok (.ldc 184, 2) := dk_18 184 (dk_at dksX13_drop_2 4 rfl rfl)
theorem dX13_drop_53 : decode cX13_drop 53 = .ok (.invokevirtual 92, 3) := dk_182 0 92 (dk_at dksX13_drop_2 6 rfl rfl)
theorem dX13_drop_56 : decode cX13_drop 56 = .ok (.ireturn, 1) := dk_172 (dk_at dksX13_drop_2 9 rfl rfl)
theorem dX13_drop_57 : decode cX13_drop 57 = .ok (.aload_n 0, 1) := dk_42 (dk_at dksX13_drop_2 10 rfl rfl)
theorem dX13_drop_58 : decode cX13_drop 58 = .ok (.getfield 9, 3) := dk_180 0 9 (dk_at dksX13_drop_2 11 rfl rfl)
theorem dX13_drop_61 : decode cX13_drop 61 = .ok (.iload_n 2, 1) := dk_28 (dk_at dksX13_drop_2 14 rfl rfl)
theorem dX13_drop_62 : decode cX13_drop 62 = .ok (.iconst 1, 1) := dk_4 (dk_at dksX13_drop_2 15 rfl rfl)
theorem dX13_drop_63 : decode cX13_drop 63 = .ok (.invokestatic 85, 3) := dk_184 0 85 (dk_at dksX13_drop_2 16 rfl rfl)
theorem dX13_drop_66 : decode cX13_drop 66 = .ok (.aload_n 0, 1) := dk_42 (dk_at dksX13_drop_2 19 rfl rfl)
theorem dX13_drop_67 : decode cX13_drop 67 = .ok (.iload_n 1, 1) := dk_27 (dk_at dksX13_drop_2 20 rfl rfl)
theorem dX13_drop_68 : decode cX13_drop 68 = .ok (.iconst 1, 1) := dk_4 (dk_at dksX13_drop_2 21 rfl rfl)
theorem dX13_drop_69 : decode cX13_drop 69 = .ok (.invokevirtual 104, 3) := dk_182 0 104 (dk_at dksX13_drop_3 0 rfl rfl)
theorem dX13_drop_72 : decode cX13_drop 72 = .ok (.iastore, 1) := dk_79 (dk_at dksX13_drop_3 3 rfl rfl)
theorem dX13_drop_73 : decode cX13_drop 73 = .ok (.aload_n 0, 1) := dk_42 (dk_at dksX13_drop_3 4 rfl rfl)
theorem dX13_drop_74 : decode cX13_drop 74 = .ok (.getfield 9, 3) := dk_180 0 9 (dk_at dksX13_drop_3 5 rfl rfl)
theorem dX13_drop_77 : decode cX13_drop 77 = .ok (.iload_n 2, 1) := dk_28 (dk_at dksX13_drop_3 8 rfl rfl)
theorem dX13_drop_78 : decode cX13_drop 78 = .ok (.iconst 3, 1) := dk_6 (dk_at dksX13_drop_3 9 rfl rfl)
theorem dX13_drop_79 : decode cX13_drop 79 = .ok (.invokestatic 85, 3) := dk_184 0 85 (dk_at dksX13_drop_3 10 rfl rfl)
theorem dX13_drop_82 : decode cX13_drop 82 = .ok (.iconst 0, 1) := dk_3 (dk_at dksX13_drop_3 13 rfl rfl)
theorem dX13_drop_83 : decode cX13_drop 83 = .ok (.iastore, 1) := dk_79 (dk_at dksX13_drop_3 14 rfl rfl)
theorem dX13_drop_84 : decode cX13_drop 84 = .ok (.aload_n 0, 1) := dk_42 (dk_at dksX13_drop_3 15 rfl rfl)
theorem dX13_drop_85 : decode cX13_drop 85 = .ok (.getfield 9, 3) := dk_180 0 9 (dk_at dksX13_drop_3 16 rfl rfl)
theorem dX13_drop_88 : decode cX13_drop 88 = .ok (.iload_n 2, 1) := dk_28 (dk_at dksX13_drop_3 19 rfl rfl)
theorem dX13_drop_89 : decode cX13_drop 89 = .ok (.iconst 4, 1) := dk_7 (dk_at dksX13_drop_3 20 rfl rfl)
theorem dX13_drop_90 : decode cX13_drop 90 = .ok (.invokestatic 85, 3) := dk_184 0 85 (dk_at dksX13_drop_3 21 rfl rfl)
theorem dX13_drop_93 : decode cX13_drop 93 = .ok (.iconst (-1), 1) := dk_2 (dk_at dksX13_drop_4 0 rfl rfl)
theorem dX13_drop_94 : decode cX13_drop 94 = .ok (.iastore, 1) := dk_79 (dk_at dksX13_drop_4 1 rfl rfl)
theorem dX13_drop_95 : decode cX13_drop 95 = .ok (.aload_n 0, 1) := dk_42 (dk_at dksX13_drop_4 2 rfl rfl)
theorem dX13_drop_96 : decode cX13_drop 96 = .ok (.aload_n 0, 1) := dk_42 (dk_at dksX13_drop_4 3 rfl rfl)
theorem dX13_drop_97 : decode cX13_drop 97 = .ok (.iload_n 1, 1) := dk_27 (dk_at dksX13_drop_4 4 rfl rfl)
theorem dX13_drop_98 : decode cX13_drop 98 = .ok (.invokevirtual 123, 3) := dk_182 0 123 (dk_at dksX13_drop_4 5 rfl rfl)
theorem dX13_drop_101 : decode cX13_drop 101 = .ok (.invokevirtual 126, 3) := dk_182 0 126 (dk_at dksX13_drop_4 8 rfl rfl)
theorem dX13_drop_104 : decode cX13_drop 104 = .ok (.ireturn, 1) := dk_172 (dk_at dksX13_drop_4 11 rfl rfl)
abbrev cX13_walk : ByteArray := prog_16_method_51_code
def yX13_walk : MethodName := ⟨RX13, "walk", "(II)I"⟩
def dkwX13_walk_1 : List UInt8 := [28, 182, 0, 199, 62, 29, 156, 0, 12, 42, 18, 160, 182, 0, 92, 167, 0, 4, 29, 172]
abbrev dktX13_walk_1 : List UInt8 := dkwX13_walk_1 ++ []
def dkwX13_walk_0 : List UInt8 := [42, 27, 182, 0, 117, 153, 0, 10, 28, 184, 0, 129, 154, 0, 10, 42, 18, 72, 182, 0, 92, 172, 42, 27]
abbrev dktX13_walk_0 : List UInt8 := dkwX13_walk_0 ++ dktX13_walk_1
theorem dksX13_walk_0 : cX13_walk.data.toList.drop 0 = dktX13_walk_0 := by decide +kernel
theorem dksX13_walk_1 : cX13_walk.data.toList.drop 24 = dktX13_walk_1 := dk_seg dksX13_walk_0 24 rfl rfl
theorem dX13_walk_0 : decode cX13_walk 0 = .ok (.aload_n 0, 1) := dk_42 (dk_at dksX13_walk_0 0 rfl rfl)
theorem dX13_walk_1 : decode cX13_walk 1 = .ok (.iload_n 1, 1) := dk_27 (dk_at dksX13_walk_0 1 rfl rfl)
theorem dX13_walk_2 : decode cX13_walk 2 = .ok (.invokevirtual 117, 3) := dk_182 0 117 (dk_at dksX13_walk_0 2 rfl rfl)
theorem dX13_walk_5 : decode cX13_walk 5 = .ok (.ifCond .eq 10, 3) := dk_153 0 10 (dk_at dksX13_walk_0 5 rfl rfl)
theorem dX13_walk_8 : decode cX13_walk 8 = .ok (.iload_n 2, 1) := dk_28 (dk_at dksX13_walk_0 8 rfl rfl)
theorem dX13_walk_9 : decode cX13_walk 9 = .ok (.invokestatic 129, 3) := dk_184 0 129 (dk_at dksX13_walk_0 9 rfl rfl)
theorem dX13_walk_12 : decode cX13_walk 12 = .ok (.ifCond .ne 10, 3) := dk_154 0 10 (dk_at dksX13_walk_0 12 rfl rfl)
theorem dX13_walk_15 : decode cX13_walk 15 = .ok (.aload_n 0, 1) := dk_42 (dk_at dksX13_walk_0 15 rfl rfl)
theorem dX13_walk_16 : decode cX13_walk 16 = .ok (.ldc 72, 2) := dk_18 72 (dk_at dksX13_walk_0 16 rfl rfl)
theorem dX13_walk_18 : decode cX13_walk 18 = .ok (.invokevirtual 92, 3) := dk_182 0 92 (dk_at dksX13_walk_0 18 rfl rfl)
theorem dX13_walk_21 : decode cX13_walk 21 = .ok (.ireturn, 1) := dk_172 (dk_at dksX13_walk_0 21 rfl rfl)
theorem dX13_walk_22 : decode cX13_walk 22 = .ok (.aload_n 0, 1) := dk_42 (dk_at dksX13_walk_0 22 rfl rfl)
theorem dX13_walk_23 : decode cX13_walk 23 = .ok (.iload_n 1, 1) := dk_27 (dk_at dksX13_walk_0 23 rfl rfl)
theorem dX13_walk_24 : decode cX13_walk 24 = .ok (.iload_n 2, 1) := dk_28 (dk_at dksX13_walk_1 0 rfl rfl)
theorem dX13_walk_25 : decode cX13_walk 25 = .ok (.invokevirtual 199, 3) := dk_182 0 199 (dk_at dksX13_walk_1 1 rfl rfl)
theorem dX13_walk_28 : decode cX13_walk 28 = .ok (.istore_n 3, 1) := dk_62 (dk_at dksX13_walk_1 4 rfl rfl)
theorem dX13_walk_29 : decode cX13_walk 29 = .ok (.iload_n 3, 1) := dk_29 (dk_at dksX13_walk_1 5 rfl rfl)
theorem dX13_walk_30 : decode cX13_walk 30 = .ok (.ifCond .ge 12, 3) := dk_156 0 12 (dk_at dksX13_walk_1 6 rfl rfl)
theorem dX13_walk_33 : decode cX13_walk 33 = .ok (.aload_n 0, 1) := dk_42 (dk_at dksX13_walk_1 9 rfl rfl)
theorem dX13_walk_34 : decode cX13_walk 34 = .ok (.ldc 160, 2) := dk_18 160 (dk_at dksX13_walk_1 10 rfl rfl)
theorem dX13_walk_36 : decode cX13_walk 36 = .ok (.invokevirtual 92, 3) := dk_182 0 92 (dk_at dksX13_walk_1 12 rfl rfl)
theorem dX13_walk_39 : decode cX13_walk 39 = .ok (.goto 4, 3) := dk_167 0 4 (dk_at dksX13_walk_1 15 rfl rfl)
theorem dX13_walk_42 : decode cX13_walk 42 = .ok (.iload_n 3, 1) := dk_29 (dk_at dksX13_walk_1 18 rfl rfl)
theorem dX13_walk_43 : decode cX13_walk 43 = .ok (.ireturn, 1) := dk_172 (dk_at dksX13_walk_1 19 rfl rfl)
abbrev cX13_walked : ByteArray := prog_16_method_50_code
def yX13_walked : MethodName := ⟨RX13, "walked", "(II)I"⟩
def dkwX13_walked_7 : List UInt8 := [6, 184, 0, 81, 92, 46, 21, 4, 96, 79, 21, 4, 172]
abbrev dktX13_walked_7 : List UInt8 := dkwX13_walked_7 ++ []
def dkwX13_walked_6 : List UInt8 := [167, 0, 10, 42, 27, 21, 6, 182, 0, 196, 96, 54, 4, 132, 5, 1, 167, 255, 157, 42, 180, 0, 9, 27]
abbrev dktX13_walked_6 : List UInt8 := dkwX13_walked_6 ++ dktX13_walked_7
def dkwX13_walked_5 : List UInt8 := [180, 0, 192, 4, 96, 181, 0, 192, 42, 21, 5, 182, 0, 157, 54, 6, 21, 4, 21, 6, 156, 0, 7, 3]
abbrev dktX13_walked_5 : List UInt8 := dkwX13_walked_5 ++ dktX13_walked_6
def dkwX13_walked_4 : List UInt8 := [5, 182, 0, 111, 28, 160, 0, 54, 42, 180, 0, 9, 21, 5, 6, 184, 0, 85, 5, 79, 42, 89]
abbrev dktX13_walked_4 : List UInt8 := dkwX13_walked_4 ++ dktX13_walked_5
def dkwX13_walked_3 : List UInt8 := [21, 5, 6, 182, 0, 111, 4, 160, 0, 76, 42, 21, 5, 7, 182, 0, 111, 27, 160, 0, 65, 42, 21, 5]
abbrev dktX13_walked_3 : List UInt8 := dkwX13_walked_3 ++ dktX13_walked_4
def dkwX13_walked_2 : List UInt8 := [184, 0, 81, 28, 79, 3, 54, 4, 3, 54, 5, 21, 5, 42, 180, 0, 9, 16, 43, 46, 162, 0, 93, 42]
abbrev dktX13_walked_2 : List UInt8 := dkwX13_walked_2 ++ dktX13_walked_3
def dkwX13_walked_1 : List UInt8 := [2, 172, 42, 180, 0, 9, 27, 7, 184, 0, 81, 92, 46, 29, 96, 79, 42, 180, 0, 9, 27, 4]
abbrev dktX13_walked_1 : List UInt8 := dkwX13_walked_1 ++ dktX13_walked_2
def dkwX13_walked_0 : List UInt8 := [42, 42, 27, 3, 182, 0, 104, 42, 27, 4, 182, 0, 104, 28, 182, 0, 178, 62, 29, 18, 170, 161, 0, 5]
abbrev dktX13_walked_0 : List UInt8 := dkwX13_walked_0 ++ dktX13_walked_1
theorem dksX13_walked_0 : cX13_walked.data.toList.drop 0 = dktX13_walked_0 := by decide +kernel
theorem dksX13_walked_1 : cX13_walked.data.toList.drop 24 = dktX13_walked_1 := dk_seg dksX13_walked_0 24 rfl rfl
theorem dksX13_walked_2 : cX13_walked.data.toList.drop 46 = dktX13_walked_2 := dk_seg dksX13_walked_1 22 rfl rfl
theorem dksX13_walked_3 : cX13_walked.data.toList.drop 70 = dktX13_walked_3 := dk_seg dksX13_walked_2 24 rfl rfl
theorem dksX13_walked_4 : cX13_walked.data.toList.drop 94 = dktX13_walked_4 := dk_seg dksX13_walked_3 24 rfl rfl
theorem dksX13_walked_5 : cX13_walked.data.toList.drop 116 = dktX13_walked_5 := dk_seg dksX13_walked_4 22 rfl rfl
theorem dksX13_walked_6 : cX13_walked.data.toList.drop 140 = dktX13_walked_6 := dk_seg dksX13_walked_5 24 rfl rfl
theorem dksX13_walked_7 : cX13_walked.data.toList.drop 164 = dktX13_walked_7 := dk_seg dksX13_walked_6 24 rfl rfl
theorem dX13_walked_0 : decode cX13_walked 0 = .ok (.aload_n 0, 1) := dk_42 (dk_at dksX13_walked_0 0 rfl rfl)
theorem dX13_walked_1 : decode cX13_walked 1 = .ok (.aload_n 0, 1) := dk_42 (dk_at dksX13_walked_0 1 rfl rfl)
theorem dX13_walked_2 : decode cX13_walked 2 = .ok (.iload_n 1, 1) := dk_27 (dk_at dksX13_walked_0 2 rfl rfl)
theorem dX13_walked_3 : decode cX13_walked 3 = .ok (.iconst 0, 1) := dk_3 (dk_at dksX13_walked_0 3 rfl rfl)
theorem dX13_walked_4 : decode cX13_walked 4 = .ok (.invokevirtual 104, 3) := dk_182 0 104 (dk_at dksX13_walked_0 4 rfl rfl)
theorem dX13_walked_7 : decode cX13_walked 7 = .ok (.aload_n 0, 1) := dk_42 (dk_at dksX13_walked_0 7 rfl rfl)
theorem dX13_walked_8 : decode cX13_walked 8 = .ok (.iload_n 1, 1) := dk_27 (dk_at dksX13_walked_0 8 rfl rfl)
theorem dX13_walked_9 : decode cX13_walked 9 = .ok (.iconst 1, 1) := dk_4 (dk_at dksX13_walked_0 9 rfl rfl)
theorem dX13_walked_10 : decode cX13_walked 10 = .ok (.invokevirtual 104, 3) := dk_182 0 104 (dk_at dksX13_walked_0 10 rfl rfl)
theorem dX13_walked_13 : decode cX13_walked 13 = .ok (.iload_n 2, 1) := dk_28 (dk_at dksX13_walked_0 13 rfl rfl)
theorem dX13_walked_14 : decode cX13_walked 14 = .ok (.invokevirtual 178, 3) := dk_182 0 178 (dk_at dksX13_walked_0 14 rfl rfl)
theorem dX13_walked_17 : decode cX13_walked 17 = .ok (.istore_n 3, 1) := dk_62 (dk_at dksX13_walked_0 17 rfl rfl)
theorem dX13_walked_18 : decode cX13_walked 18 = .ok (.iload_n 3, 1) := dk_29 (dk_at dksX13_walked_0 18 rfl rfl)
theorem dX13_walked_19 : decode cX13_walked 19 = .ok (.ldc 170, 2) := dk_18 170 (dk_at dksX13_walked_0 19 rfl rfl)
theorem dX13_walked_21 : decode cX13_walked 21 = .ok (.if_icmp .lt 5, 3) := dk_161 0 5 (dk_at dksX13_walked_0 21 rfl rfl)
theorem dX13_walked_24 : decode cX13_walked 24 = .ok (.iconst (-1), 1) := dk_2 (dk_at dksX13_walked_1 0 rfl rfl)
theorem dX13_walked_25 : decode cX13_walked 25 = .ok (.ireturn, 1) := dk_172 (dk_at dksX13_walked_1 1 rfl rfl)
theorem dX13_walked_26 : decode cX13_walked 26 = .ok (.aload_n 0, 1) := dk_42 (dk_at dksX13_walked_1 2 rfl rfl)
theorem dX13_walked_27 : decode cX13_walked 27 = .ok (.getfield 9, 3) := dk_180 0 9 (dk_at dksX13_walked_1 3 rfl rfl)
theorem dX13_walked_30 : decode cX13_walked 30 = .ok (.iload_n 1, 1) := dk_27 (dk_at dksX13_walked_1 6 rfl rfl)
theorem dX13_walked_31 : decode cX13_walked 31 = .ok (.iconst 4, 1) := dk_7 (dk_at dksX13_walked_1 7 rfl rfl)
theorem dX13_walked_32 : decode cX13_walked 32 = .ok (.invokestatic 81, 3) := dk_184 0 81 (dk_at dksX13_walked_1 8 rfl rfl)
theorem dX13_walked_35 : decode cX13_walked 35 = .ok (.dup2, 1) := dk_92 (dk_at dksX13_walked_1 11 rfl rfl)
theorem dX13_walked_36 : decode cX13_walked 36 = .ok (.iaload, 1) := dk_46 (dk_at dksX13_walked_1 12 rfl rfl)
theorem dX13_walked_37 : decode cX13_walked 37 = .ok (.iload_n 3, 1) := dk_29 (dk_at dksX13_walked_1 13 rfl rfl)
theorem dX13_walked_38 : decode cX13_walked 38 = .ok (.iadd, 1) := dk_96 (dk_at dksX13_walked_1 14 rfl rfl)
theorem dX13_walked_39 : decode cX13_walked 39 = .ok (.iastore, 1) := dk_79 (dk_at dksX13_walked_1 15 rfl rfl)
theorem dX13_walked_40 : decode cX13_walked 40 = .ok (.aload_n 0, 1) := dk_42 (dk_at dksX13_walked_1 16 rfl rfl)
theorem dX13_walked_41 : decode cX13_walked 41 = .ok (.getfield 9, 3) := dk_180 0 9 (dk_at dksX13_walked_1 17 rfl rfl)
theorem dX13_walked_44 : decode cX13_walked 44 = .ok (.iload_n 1, 1) := dk_27 (dk_at dksX13_walked_1 20 rfl rfl)
theorem dX13_walked_45 : decode cX13_walked 45 = .ok (.iconst 1, 1) := dk_4 (dk_at dksX13_walked_1 21 rfl rfl)
theorem dX13_walked_46 : decode cX13_walked 46 = .ok (.invokestatic 81, 3) := dk_184 0 81 (dk_at dksX13_walked_2 0 rfl rfl)
theorem dX13_walked_49 : decode cX13_walked 49 = .ok (.iload_n 2, 1) := dk_28 (dk_at dksX13_walked_2 3 rfl rfl)
theorem dX13_walked_50 : decode cX13_walked 50 = .ok (.iastore, 1) := dk_79 (dk_at dksX13_walked_2 4 rfl rfl)
theorem dX13_walked_51 : decode cX13_walked 51 = .ok (.iconst 0, 1) := dk_3 (dk_at dksX13_walked_2 5 rfl rfl)
theorem dX13_walked_52 : decode cX13_walked 52 = .ok (.istore 4, 2) := dk_54 4 (dk_at dksX13_walked_2 6 rfl rfl)
theorem dX13_walked_54 : decode cX13_walked 54 = .ok (.iconst 0, 1) := dk_3 (dk_at dksX13_walked_2 8 rfl rfl)
theorem dX13_walked_55 : decode cX13_walked 55 = .ok (.istore 5, 2) := dk_54 5 (dk_at dksX13_walked_2 9 rfl rfl)
theorem dX13_walked_57 : decode cX13_walked 57 = .ok (.iload 5, 2) := dk_21 5 (dk_at dksX13_walked_2 11 rfl rfl)
theorem dX13_walked_59 : decode cX13_walked 59 = .ok (.aload_n 0, 1) := dk_42 (dk_at dksX13_walked_2 13 rfl rfl)
theorem dX13_walked_60 : decode cX13_walked 60 = .ok (.getfield 9, 3) := dk_180 0 9 (dk_at dksX13_walked_2 14 rfl rfl)
theorem dX13_walked_63 : decode cX13_walked 63 = .ok (.bipush 43, 2) := dk_16 43 (dk_at dksX13_walked_2 17 rfl rfl)
theorem dX13_walked_65 : decode cX13_walked 65 = .ok (.iaload, 1) := dk_46 (dk_at dksX13_walked_2 19 rfl rfl)
theorem dX13_walked_66 : decode cX13_walked 66 = .ok (.if_icmp .ge 93, 3) := dk_162 0 93 (dk_at dksX13_walked_2 20 rfl rfl)
theorem dX13_walked_69 : decode cX13_walked 69 = .ok (.aload_n 0, 1) := dk_42 (dk_at dksX13_walked_2 23 rfl rfl)
theorem dX13_walked_70 : decode cX13_walked 70 = .ok (.iload 5, 2) := dk_21 5 (dk_at dksX13_walked_3 0 rfl rfl)
theorem dX13_walked_72 : decode cX13_walked 72 = .ok (.iconst 3, 1) := dk_6 (dk_at dksX13_walked_3 2 rfl rfl)
theorem dX13_walked_73 : decode cX13_walked 73 = .ok (.invokevirtual 111, 3) := dk_182 0 111 (dk_at dksX13_walked_3 3 rfl rfl)
theorem dX13_walked_76 : decode cX13_walked 76 = .ok (.iconst 1, 1) := dk_4 (dk_at dksX13_walked_3 6 rfl rfl)
theorem dX13_walked_77 : decode cX13_walked 77 = .ok (.if_icmp .ne 76, 3) := dk_160 0 76 (dk_at dksX13_walked_3 7 rfl rfl)
theorem dX13_walked_80 : decode cX13_walked 80 = .ok (.aload_n 0, 1) := dk_42 (dk_at dksX13_walked_3 10 rfl rfl)
theorem dX13_walked_81 : decode cX13_walked 81 = .ok (.iload 5, 2) := dk_21 5 (dk_at dksX13_walked_3 11 rfl rfl)
theorem dX13_walked_83 : decode cX13_walked 83 = .ok (.iconst 4, 1) := dk_7 (dk_at dksX13_walked_3 13 rfl rfl)
theorem dX13_walked_84 : decode cX13_walked 84 = .ok (.invokevirtual 111, 3) := dk_182 0 111 (dk_at dksX13_walked_3 14 rfl rfl)
theorem dX13_walked_87 : decode cX13_walked 87 = .ok (.iload_n 1, 1) := dk_27 (dk_at dksX13_walked_3 17 rfl rfl)
theorem dX13_walked_88 : decode cX13_walked 88 = .ok (.if_icmp .ne 65, 3) := dk_160 0 65 (dk_at dksX13_walked_3 18 rfl rfl)
theorem dX13_walked_91 : decode cX13_walked 91 = .ok (.aload_n 0, 1) := dk_42 (dk_at dksX13_walked_3 21 rfl rfl)
theorem dX13_walked_92 : decode cX13_walked 92 = .ok (.iload 5, 2) := dk_21 5 (dk_at dksX13_walked_3 22 rfl rfl)
theorem dX13_walked_94 : decode cX13_walked 94 = .ok (.iconst 2, 1) := dk_5 (dk_at dksX13_walked_4 0 rfl rfl)
theorem dX13_walked_95 : decode cX13_walked 95 = .ok (.invokevirtual 111, 3) := dk_182 0 111 (dk_at dksX13_walked_4 1 rfl rfl)
theorem dX13_walked_98 : decode cX13_walked 98 = .ok (.iload_n 2, 1) := dk_28 (dk_at dksX13_walked_4 4 rfl rfl)
theorem dX13_walked_99 : decode cX13_walked 99 = .ok (.if_icmp .ne 54, 3) := dk_160 0 54 (dk_at dksX13_walked_4 5 rfl rfl)
theorem dX13_walked_102 : decode cX13_walked 102 = .ok (.aload_n 0, 1) := dk_42 (dk_at dksX13_walked_4 8 rfl rfl)
theorem dX13_walked_103 : decode cX13_walked 103 = .ok (.getfield 9, 3) := dk_180 0 9 (dk_at dksX13_walked_4 9 rfl rfl)
theorem dX13_walked_106 : decode cX13_walked 106 = .ok (.iload 5, 2) := dk_21 5 (dk_at dksX13_walked_4 12 rfl rfl)
theorem dX13_walked_108 : decode cX13_walked 108 = .ok (.iconst 3, 1) := dk_6 (dk_at dksX13_walked_4 14 rfl rfl)
theorem dX13_walked_109 : decode cX13_walked 109 = .ok (.invokestatic 85, 3) := dk_184 0 85 (dk_at dksX13_walked_4 15 rfl rfl)
theorem dX13_walked_112 : decode cX13_walked 112 = .ok (.iconst 2, 1) := dk_5 (dk_at dksX13_walked_4 18 rfl rfl)
theorem dX13_walked_113 : decode cX13_walked 113 = .ok (.iastore, 1) := dk_79 (dk_at dksX13_walked_4 19 rfl rfl)
theorem dX13_walked_114 : decode cX13_walked 114 = .ok (.aload_n 0, 1) := dk_42 (dk_at dksX13_walked_4 20 rfl rfl)
theorem dX13_walked_115 : decode cX13_walked 115 = .ok (.dup, 1) := dk_89 (dk_at dksX13_walked_4 21 rfl rfl)
theorem dX13_walked_116 : decode cX13_walked 116 = .ok (.getfield 192, 3) := dk_180 0 192 (dk_at dksX13_walked_5 0 rfl rfl)
theorem dX13_walked_119 : decode cX13_walked 119 = .ok (.iconst 1, 1) := dk_4 (dk_at dksX13_walked_5 3 rfl rfl)
theorem dX13_walked_120 : decode cX13_walked 120 = .ok (.iadd, 1) := dk_96 (dk_at dksX13_walked_5 4 rfl rfl)
theorem dX13_walked_121 : decode cX13_walked 121 = .ok (.putfield 192, 3) := dk_181 0 192 (dk_at dksX13_walked_5 5 rfl rfl)
theorem dX13_walked_124 : decode cX13_walked 124 = .ok (.aload_n 0, 1) := dk_42 (dk_at dksX13_walked_5 8 rfl rfl)
theorem dX13_walked_125 : decode cX13_walked 125 = .ok (.iload 5, 2) := dk_21 5 (dk_at dksX13_walked_5 9 rfl rfl)
theorem dX13_walked_127 : decode cX13_walked 127 = .ok (.invokevirtual 157, 3) := dk_182 0 157 (dk_at dksX13_walked_5 11 rfl rfl)
theorem dX13_walked_130 : decode cX13_walked 130 = .ok (.istore 6, 2) := dk_54 6 (dk_at dksX13_walked_5 14 rfl rfl)
theorem dX13_walked_132 : decode cX13_walked 132 = .ok (.iload 4, 2) := dk_21 4 (dk_at dksX13_walked_5 16 rfl rfl)
theorem dX13_walked_134 : decode cX13_walked 134 = .ok (.iload 6, 2) := dk_21 6 (dk_at dksX13_walked_5 18 rfl rfl)
theorem dX13_walked_136 : decode cX13_walked 136 = .ok (.ifCond .ge 7, 3) := dk_156 0 7 (dk_at dksX13_walked_5 20 rfl rfl)
theorem dX13_walked_139 : decode cX13_walked 139 = .ok (.iconst 0, 1) := dk_3 (dk_at dksX13_walked_5 23 rfl rfl)
theorem dX13_walked_140 : decode cX13_walked 140 = .ok (.goto 10, 3) := dk_167 0 10 (dk_at dksX13_walked_6 0 rfl rfl)
theorem dX13_walked_143 : decode cX13_walked 143 = .ok (.aload_n 0, 1) := dk_42 (dk_at dksX13_walked_6 3 rfl rfl)
theorem dX13_walked_144 : decode cX13_walked 144 = .ok (.iload_n 1, 1) := dk_27 (dk_at dksX13_walked_6 4 rfl rfl)
theorem dX13_walked_145 : decode cX13_walked 145 = .ok (.iload 6, 2) := dk_21 6 (dk_at dksX13_walked_6 5 rfl rfl)
theorem dX13_walked_147 : decode cX13_walked 147 = .ok (.invokevirtual 196, 3) := dk_182 0 196 (dk_at dksX13_walked_6 7 rfl rfl)
theorem dX13_walked_150 : decode cX13_walked 150 = .ok (.iadd, 1) := dk_96 (dk_at dksX13_walked_6 10 rfl rfl)
theorem dX13_walked_151 : decode cX13_walked 151 = .ok (.istore 4, 2) := dk_54 4 (dk_at dksX13_walked_6 11 rfl rfl)
theorem dX13_walked_153 : decode cX13_walked 153 = .ok (.iinc 5 1, 3) := dk_132 5 1 (dk_at dksX13_walked_6 13 rfl rfl)
theorem dX13_walked_156 : decode cX13_walked 156 = .ok (.goto (-99), 3) := dk_167 255 157 (dk_at dksX13_walked_6 16 rfl rfl)
theorem dX13_walked_159 : decode cX13_walked 159 = .ok (.aload_n 0, 1) := dk_42 (dk_at dksX13_walked_6 19 rfl rfl)
theorem dX13_walked_160 : decode cX13_walked 160 = .ok (.getfield 9, 3) := dk_180 0 9 (dk_at dksX13_walked_6 20 rfl rfl)
theorem dX13_walked_163 : decode cX13_walked 163 = .ok (.iload_n 1, 1) := dk_27 (dk_at dksX13_walked_6 23 rfl rfl)
theorem dX13_walked_164 : decode cX13_walked 164 = .ok (.iconst 3, 1) := dk_6 (dk_at dksX13_walked_7 0 rfl rfl)
theorem dX13_walked_165 : decode cX13_walked 165 = .ok (.invokestatic 81, 3) := dk_184 0 81 (dk_at dksX13_walked_7 1 rfl rfl)
theorem dX13_walked_168 : decode cX13_walked 168 = .ok (.dup2, 1) := dk_92 (dk_at dksX13_walked_7 4 rfl rfl)
theorem dX13_walked_169 : decode cX13_walked 169 = .ok (.iaload, 1) := dk_46 (dk_at dksX13_walked_7 5 rfl rfl)
theorem dX13_walked_170 : decode cX13_walked 170 = .ok (.iload 4, 2) := dk_21 4 (dk_at dksX13_walked_7 6 rfl rfl)
theorem dX13_walked_172 : decode cX13_walked 172 = .ok (.iadd, 1) := dk_96 (dk_at dksX13_walked_7 8 rfl rfl)
theorem dX13_walked_173 : decode cX13_walked 173 = .ok (.iastore, 1) := dk_79 (dk_at dksX13_walked_7 9 rfl rfl)
theorem dX13_walked_174 : decode cX13_walked 174 = .ok (.iload 4, 2) := dk_21 4 (dk_at dksX13_walked_7 10 rfl rfl)
theorem dX13_walked_176 : decode cX13_walked 176 = .ok (.ireturn, 1) := dk_172 (dk_at dksX13_walked_7 12 rfl rfl)
abbrev cX13_getsFor : ByteArray := prog_16_method_24_code
def yX13_getsFor : MethodName := ⟨RX13, "getsFor", "(II)I"⟩
def dkwX13_getsFor_2 : List UInt8 := [28, 5, 108, 172, 28, 5, 108, 4, 96, 172, 28, 28, 16, 10, 108, 96, 172, 28, 172]
abbrev dktX13_getsFor_2 : List UInt8 := dkwX13_getsFor_2 ++ []
def dkwX13_getsFor_1 : List UInt8 := [170, 0, 0, 0, 0, 43, 0, 0, 0, 2, 0, 0, 0, 4, 0, 0, 0, 26, 0, 0, 0, 36, 0, 0, 0, 30]
abbrev dktX13_getsFor_1 : List UInt8 := dkwX13_getsFor_1 ++ dktX13_getsFor_2
def dkwX13_getsFor_0 : List UInt8 := [42, 27, 3, 182, 0, 104]
abbrev dktX13_getsFor_0 : List UInt8 := dkwX13_getsFor_0 ++ dktX13_getsFor_1
theorem dksX13_getsFor_0 : cX13_getsFor.data.toList.drop 0 = dktX13_getsFor_0 := by decide +kernel
theorem dksX13_getsFor_1 : cX13_getsFor.data.toList.drop 6 = dktX13_getsFor_1 := dk_seg dksX13_getsFor_0 6 rfl rfl
theorem dksX13_getsFor_2 : cX13_getsFor.data.toList.drop 32 = dktX13_getsFor_2 := dk_seg dksX13_getsFor_1 26 rfl rfl
theorem dX13_getsFor_0 : decode cX13_getsFor 0 = .ok (.aload_n 0, 1) := dk_42 (dk_at dksX13_getsFor_0 0 rfl rfl)
theorem dX13_getsFor_1 : decode cX13_getsFor 1 = .ok (.iload_n 1, 1) := dk_27 (dk_at dksX13_getsFor_0 1 rfl rfl)
theorem dX13_getsFor_2 : decode cX13_getsFor 2 = .ok (.iconst 0, 1) := dk_3 (dk_at dksX13_getsFor_0 2 rfl rfl)
theorem dX13_getsFor_3 : decode cX13_getsFor 3 = .ok (.invokevirtual 104, 3) := dk_182 0 104 (dk_at dksX13_getsFor_0 3 rfl rfl)
theorem dX13_getsFor_6 : decode cX13_getsFor 6 = .ok (.tableswitch 43 2 4 #[26, 36, 30], 26) := by decide +kernel
theorem dX13_getsFor_32 : decode cX13_getsFor 32 = .ok (.iload_n 2, 1) := dk_28 (dk_at dksX13_getsFor_2 0 rfl rfl)
theorem dX13_getsFor_33 : decode cX13_getsFor 33 = .ok (.iconst 2, 1) := dk_5 (dk_at dksX13_getsFor_2 1 rfl rfl)
theorem dX13_getsFor_34 : decode cX13_getsFor 34 = .ok (.idiv, 1) := dk_108 (dk_at dksX13_getsFor_2 2 rfl rfl)
theorem dX13_getsFor_35 : decode cX13_getsFor 35 = .ok (.ireturn, 1) := dk_172 (dk_at dksX13_getsFor_2 3 rfl rfl)
theorem dX13_getsFor_36 : decode cX13_getsFor 36 = .ok (.iload_n 2, 1) := dk_28 (dk_at dksX13_getsFor_2 4 rfl rfl)
theorem dX13_getsFor_37 : decode cX13_getsFor 37 = .ok (.iconst 2, 1) := dk_5 (dk_at dksX13_getsFor_2 5 rfl rfl)
theorem dX13_getsFor_38 : decode cX13_getsFor 38 = .ok (.idiv, 1) := dk_108 (dk_at dksX13_getsFor_2 6 rfl rfl)
theorem dX13_getsFor_39 : decode cX13_getsFor 39 = .ok (.iconst 1, 1) := dk_4 (dk_at dksX13_getsFor_2 7 rfl rfl)
theorem dX13_getsFor_40 : decode cX13_getsFor 40 = .ok (.iadd, 1) := dk_96 (dk_at dksX13_getsFor_2 8 rfl rfl)
theorem dX13_getsFor_41 : decode cX13_getsFor 41 = .ok (.ireturn, 1) := dk_172 (dk_at dksX13_getsFor_2 9 rfl rfl)
theorem dX13_getsFor_42 : decode cX13_getsFor 42 = .ok (.iload_n 2, 1) := dk_28 (dk_at dksX13_getsFor_2 10 rfl rfl)
theorem dX13_getsFor_43 : decode cX13_getsFor 43 = .ok (.iload_n 2, 1) := dk_28 (dk_at dksX13_getsFor_2 11 rfl rfl)
theorem dX13_getsFor_44 : decode cX13_getsFor 44 = .ok (.bipush 10, 2) := dk_16 10 (dk_at dksX13_getsFor_2 12 rfl rfl)
theorem dX13_getsFor_46 : decode cX13_getsFor 46 = .ok (.idiv, 1) := dk_108 (dk_at dksX13_getsFor_2 14 rfl rfl)
theorem dX13_getsFor_47 : decode cX13_getsFor 47 = .ok (.iadd, 1) := dk_96 (dk_at dksX13_getsFor_2 15 rfl rfl)
theorem dX13_getsFor_48 : decode cX13_getsFor 48 = .ok (.ireturn, 1) := dk_172 (dk_at dksX13_getsFor_2 16 rfl rfl)
theorem dX13_getsFor_49 : decode cX13_getsFor 49 = .ok (.iload_n 2, 1) := dk_28 (dk_at dksX13_getsFor_2 17 rfl rfl)
theorem dX13_getsFor_50 : decode cX13_getsFor 50 = .ok (.ireturn, 1) := dk_172 (dk_at dksX13_getsFor_2 18 rfl rfl)
abbrev cX13_buy : ByteArray := prog_16_method_52_code
def yX13_buy : MethodName := ⟨RX13, "buy", "(II)I"⟩
def dkwX13_buy_4 : List UInt8 := [42, 27, 6, 182, 0, 104, 172]
abbrev dktX13_buy_4 : List UInt8 := dkwX13_buy_4 ++ []
def dkwX13_buy_3 : List UInt8 := [79, 42, 180, 0, 9, 27, 6, 184, 0, 81, 92, 46, 42, 180, 0, 9, 28, 3, 184, 0, 161, 46, 100, 79]
abbrev dktX13_buy_3 : List UInt8 := dkwX13_buy_3 ++ dktX13_buy_4
def dkwX13_buy_2 : List UInt8 := [184, 0, 161, 46, 162, 0, 10, 42, 18, 184, 182, 0, 92, 172, 42, 180, 0, 9, 28, 4, 184, 0, 161, 27]
abbrev dktX13_buy_2 : List UInt8 := dkwX13_buy_2 ++ dktX13_buy_3
def dkwX13_buy_1 : List UInt8 := [180, 0, 9, 28, 4, 184, 0, 161, 46, 156, 0, 22, 42, 27, 6, 182, 0, 104, 42, 180, 0, 9, 28, 3]
abbrev dktX13_buy_1 : List UInt8 := dkwX13_buy_1 ++ dktX13_buy_2
def dkwX13_buy_0 : List UInt8 := [42, 27, 182, 0, 117, 153, 0, 11, 42, 28, 182, 0, 167, 154, 0, 10, 42, 18, 72, 182, 0, 92, 172, 42]
abbrev dktX13_buy_0 : List UInt8 := dkwX13_buy_0 ++ dktX13_buy_1
theorem dksX13_buy_0 : cX13_buy.data.toList.drop 0 = dktX13_buy_0 := by decide +kernel
theorem dksX13_buy_1 : cX13_buy.data.toList.drop 24 = dktX13_buy_1 := dk_seg dksX13_buy_0 24 rfl rfl
theorem dksX13_buy_2 : cX13_buy.data.toList.drop 48 = dktX13_buy_2 := dk_seg dksX13_buy_1 24 rfl rfl
theorem dksX13_buy_3 : cX13_buy.data.toList.drop 72 = dktX13_buy_3 := dk_seg dksX13_buy_2 24 rfl rfl
theorem dksX13_buy_4 : cX13_buy.data.toList.drop 96 = dktX13_buy_4 := dk_seg dksX13_buy_3 24 rfl rfl
theorem dX13_buy_0 : decode cX13_buy 0 = .ok (.aload_n 0, 1) := dk_42 (dk_at dksX13_buy_0 0 rfl rfl)
theorem dX13_buy_1 : decode cX13_buy 1 = .ok (.iload_n 1, 1) := dk_27 (dk_at dksX13_buy_0 1 rfl rfl)
theorem dX13_buy_2 : decode cX13_buy 2 = .ok (.invokevirtual 117, 3) := dk_182 0 117 (dk_at dksX13_buy_0 2 rfl rfl)
theorem dX13_buy_5 : decode cX13_buy 5 = .ok (.ifCond .eq 11, 3) := dk_153 0 11 (dk_at dksX13_buy_0 5 rfl rfl)
theorem dX13_buy_8 : decode cX13_buy 8 = .ok (.aload_n 0, 1) := dk_42 (dk_at dksX13_buy_0 8 rfl rfl)
theorem dX13_buy_9 : decode cX13_buy 9 = .ok (.iload_n 2, 1) := dk_28 (dk_at dksX13_buy_0 9 rfl rfl)
theorem dX13_buy_10 : decode cX13_buy 10 = .ok (.invokevirtual 167, 3) := dk_182 0 167 (dk_at dksX13_buy_0 10 rfl rfl)
theorem dX13_buy_13 : decode cX13_buy 13 = .ok (.ifCond .ne 10, 3) := dk_154 0 10 (dk_at dksX13_buy_0 13 rfl rfl)
theorem dX13_buy_16 : decode cX13_buy 16 = .ok (.aload_n 0, 1) := dk_42 (dk_at dksX13_buy_0 16 rfl rfl)
theorem dX13_buy_17 : decode cX13_buy 17 = .ok (.ldc 72, 2) := dk_18 72 (dk_at dksX13_buy_0 17 rfl rfl)
theorem dX13_buy_19 : decode cX13_buy 19 = .ok (.invokevirtual 92, 3) := dk_182 0 92 (dk_at dksX13_buy_0 19 rfl rfl)
theorem dX13_buy_22 : decode cX13_buy 22 = .ok (.ireturn, 1) := dk_172 (dk_at dksX13_buy_0 22 rfl rfl)
theorem dX13_buy_23 : decode cX13_buy 23 = .ok (.aload_n 0, 1) := dk_42 (dk_at dksX13_buy_0 23 rfl rfl)
theorem dX13_buy_24 : decode cX13_buy 24 = .ok (.getfield 9, 3) := dk_180 0 9 (dk_at dksX13_buy_1 0 rfl rfl)
theorem dX13_buy_27 : decode cX13_buy 27 = .ok (.iload_n 2, 1) := dk_28 (dk_at dksX13_buy_1 3 rfl rfl)
theorem dX13_buy_28 : decode cX13_buy 28 = .ok (.iconst 1, 1) := dk_4 (dk_at dksX13_buy_1 4 rfl rfl)
theorem dX13_buy_29 : decode cX13_buy 29 = .ok (.invokestatic 161, 3) := dk_184 0 161 (dk_at dksX13_buy_1 5 rfl rfl)
theorem dX13_buy_32 : decode cX13_buy 32 = .ok (.iaload, 1) := dk_46 (dk_at dksX13_buy_1 8 rfl rfl)
theorem dX13_buy_33 : decode cX13_buy 33 = .ok (.ifCond .ge 22, 3) := dk_156 0 22 (dk_at dksX13_buy_1 9 rfl rfl)
theorem dX13_buy_36 : decode cX13_buy 36 = .ok (.aload_n 0, 1) := dk_42 (dk_at dksX13_buy_1 12 rfl rfl)
theorem dX13_buy_37 : decode cX13_buy 37 = .ok (.iload_n 1, 1) := dk_27 (dk_at dksX13_buy_1 13 rfl rfl)
theorem dX13_buy_38 : decode cX13_buy 38 = .ok (.iconst 3, 1) := dk_6 (dk_at dksX13_buy_1 14 rfl rfl)
theorem dX13_buy_39 : decode cX13_buy 39 = .ok (.invokevirtual 104, 3) := dk_182 0 104 (dk_at dksX13_buy_1 15 rfl rfl)
theorem dX13_buy_42 : decode cX13_buy 42 = .ok (.aload_n 0, 1) := dk_42 (dk_at dksX13_buy_1 18 rfl rfl)
theorem dX13_buy_43 : decode cX13_buy 43 = .ok (.getfield 9, 3) := dk_180 0 9 (dk_at dksX13_buy_1 19 rfl rfl)
theorem dX13_buy_46 : decode cX13_buy 46 = .ok (.iload_n 2, 1) := dk_28 (dk_at dksX13_buy_1 22 rfl rfl)
theorem dX13_buy_47 : decode cX13_buy 47 = .ok (.iconst 0, 1) := dk_3 (dk_at dksX13_buy_1 23 rfl rfl)
theorem dX13_buy_48 : decode cX13_buy 48 = .ok (.invokestatic 161, 3) := dk_184 0 161 (dk_at dksX13_buy_2 0 rfl rfl)
theorem dX13_buy_51 : decode cX13_buy 51 = .ok (.iaload, 1) := dk_46 (dk_at dksX13_buy_2 3 rfl rfl)
theorem dX13_buy_52 : decode cX13_buy 52 = .ok (.if_icmp .ge 10, 3) := dk_162 0 10 (dk_at dksX13_buy_2 4 rfl rfl)
theorem dX13_buy_55 : decode cX13_buy 55 = .ok (.aload_n 0, 1) := dk_42 (dk_at dksX13_buy_2 7 rfl rfl)
theorem dX13_buy_56 : decode cX13_buy 56 = .ok (.ldc 184, 2) := dk_18 184 (dk_at dksX13_buy_2 8 rfl rfl)
theorem dX13_buy_58 : decode cX13_buy 58 = .ok (.invokevirtual 92, 3) := dk_182 0 92 (dk_at dksX13_buy_2 10 rfl rfl)
theorem dX13_buy_61 : decode cX13_buy 61 = .ok (.ireturn, 1) := dk_172 (dk_at dksX13_buy_2 13 rfl rfl)
theorem dX13_buy_62 : decode cX13_buy 62 = .ok (.aload_n 0, 1) := dk_42 (dk_at dksX13_buy_2 14 rfl rfl)
theorem dX13_buy_63 : decode cX13_buy 63 = .ok (.getfield 9, 3) := dk_180 0 9 (dk_at dksX13_buy_2 15 rfl rfl)
theorem dX13_buy_66 : decode cX13_buy 66 = .ok (.iload_n 2, 1) := dk_28 (dk_at dksX13_buy_2 18 rfl rfl)
theorem dX13_buy_67 : decode cX13_buy 67 = .ok (.iconst 1, 1) := dk_4 (dk_at dksX13_buy_2 19 rfl rfl)
theorem dX13_buy_68 : decode cX13_buy 68 = .ok (.invokestatic 161, 3) := dk_184 0 161 (dk_at dksX13_buy_2 20 rfl rfl)
theorem dX13_buy_71 : decode cX13_buy 71 = .ok (.iload_n 1, 1) := dk_27 (dk_at dksX13_buy_2 23 rfl rfl)
theorem dX13_buy_72 : decode cX13_buy 72 = .ok (.iastore, 1) := dk_79 (dk_at dksX13_buy_3 0 rfl rfl)
theorem dX13_buy_73 : decode cX13_buy 73 = .ok (.aload_n 0, 1) := dk_42 (dk_at dksX13_buy_3 1 rfl rfl)
theorem dX13_buy_74 : decode cX13_buy 74 = .ok (.getfield 9, 3) := dk_180 0 9 (dk_at dksX13_buy_3 2 rfl rfl)
theorem dX13_buy_77 : decode cX13_buy 77 = .ok (.iload_n 1, 1) := dk_27 (dk_at dksX13_buy_3 5 rfl rfl)
theorem dX13_buy_78 : decode cX13_buy 78 = .ok (.iconst 3, 1) := dk_6 (dk_at dksX13_buy_3 6 rfl rfl)
theorem dX13_buy_79 : decode cX13_buy 79 = .ok (.invokestatic 81, 3) := dk_184 0 81 (dk_at dksX13_buy_3 7 rfl rfl)
theorem dX13_buy_82 : decode cX13_buy 82 = .ok (.dup2, 1) := dk_92 (dk_at dksX13_buy_3 10 rfl rfl)
theorem dX13_buy_83 : decode cX13_buy 83 = .ok (.iaload, 1) := dk_46 (dk_at dksX13_buy_3 11 rfl rfl)
theorem dX13_buy_84 : decode cX13_buy 84 = .ok (.aload_n 0, 1) := dk_42 (dk_at dksX13_buy_3 12 rfl rfl)
theorem dX13_buy_85 : decode cX13_buy 85 = .ok (.getfield 9, 3) := dk_180 0 9 (dk_at dksX13_buy_3 13 rfl rfl)
theorem dX13_buy_88 : decode cX13_buy 88 = .ok (.iload_n 2, 1) := dk_28 (dk_at dksX13_buy_3 16 rfl rfl)
theorem dX13_buy_89 : decode cX13_buy 89 = .ok (.iconst 0, 1) := dk_3 (dk_at dksX13_buy_3 17 rfl rfl)
theorem dX13_buy_90 : decode cX13_buy 90 = .ok (.invokestatic 161, 3) := dk_184 0 161 (dk_at dksX13_buy_3 18 rfl rfl)
theorem dX13_buy_93 : decode cX13_buy 93 = .ok (.iaload, 1) := dk_46 (dk_at dksX13_buy_3 21 rfl rfl)
theorem dX13_buy_94 : decode cX13_buy 94 = .ok (.isub, 1) := dk_100 (dk_at dksX13_buy_3 22 rfl rfl)
theorem dX13_buy_95 : decode cX13_buy 95 = .ok (.iastore, 1) := dk_79 (dk_at dksX13_buy_3 23 rfl rfl)
theorem dX13_buy_96 : decode cX13_buy 96 = .ok (.aload_n 0, 1) := dk_42 (dk_at dksX13_buy_4 0 rfl rfl)
theorem dX13_buy_97 : decode cX13_buy 97 = .ok (.iload_n 1, 1) := dk_27 (dk_at dksX13_buy_4 1 rfl rfl)
theorem dX13_buy_98 : decode cX13_buy 98 = .ok (.iconst 3, 1) := dk_6 (dk_at dksX13_buy_4 2 rfl rfl)
theorem dX13_buy_99 : decode cX13_buy 99 = .ok (.invokevirtual 104, 3) := dk_182 0 104 (dk_at dksX13_buy_4 3 rfl rfl)
theorem dX13_buy_102 : decode cX13_buy 102 = .ok (.ireturn, 1) := dk_172 (dk_at dksX13_buy_4 6 rfl rfl)
abbrev cX13_now : ByteArray := prog_16_method_55_code
def yX13_now : MethodName := ⟨RX13, "now", "(I)I"⟩
def dkwX13_now_5 : List UInt8 := [18, 72, 182, 0, 92, 172]
abbrev dktX13_now_5 : List UInt8 := dkwX13_now_5 ++ []
def dkwX13_now_4 : List UInt8 := [128, 61, 132, 3, 1, 167, 255, 219, 28, 172, 42, 6, 182, 0, 205, 172, 42, 7, 182, 0, 205, 172, 42]
abbrev dktX13_now_4 : List UInt8 := dkwX13_now_4 ++ dktX13_now_5
def dkwX13_now_3 : List UInt8 := [162, 0, 32, 28, 42, 180, 0, 9, 29, 4, 184, 0, 161, 46, 155, 0, 9, 4, 29, 120, 167, 0, 4, 3]
abbrev dktX13_now_3 : List UInt8 := dkwX13_now_3 ++ dktX13_now_4
def dkwX13_now_2 : List UInt8 := [42, 3, 182, 0, 202, 172, 42, 5, 182, 0, 202, 172, 3, 62, 29, 42, 180, 0, 9, 16, 44, 46]
abbrev dktX13_now_2 : List UInt8 := dkwX13_now_2 ++ dktX13_now_3
def dkwX13_now_1 : List UInt8 := [170, 0, 0, 0, 101, 0, 0, 0, 0, 0, 0, 0, 4, 0, 0, 0, 33, 0, 0, 0, 39, 0, 0, 0, 45, 0, 0, 0, 89, 0, 0, 0, 95]
abbrev dktX13_now_1 : List UInt8 := dkwX13_now_1 ++ dktX13_now_2
def dkwX13_now_0 : List UInt8 := [3, 61, 27]
abbrev dktX13_now_0 : List UInt8 := dkwX13_now_0 ++ dktX13_now_1
theorem dksX13_now_0 : cX13_now.data.toList.drop 0 = dktX13_now_0 := by decide +kernel
theorem dksX13_now_1 : cX13_now.data.toList.drop 3 = dktX13_now_1 := dk_seg dksX13_now_0 3 rfl rfl
theorem dksX13_now_2 : cX13_now.data.toList.drop 36 = dktX13_now_2 := dk_seg dksX13_now_1 33 rfl rfl
theorem dksX13_now_3 : cX13_now.data.toList.drop 58 = dktX13_now_3 := dk_seg dksX13_now_2 22 rfl rfl
theorem dksX13_now_4 : cX13_now.data.toList.drop 82 = dktX13_now_4 := dk_seg dksX13_now_3 24 rfl rfl
theorem dksX13_now_5 : cX13_now.data.toList.drop 105 = dktX13_now_5 := dk_seg dksX13_now_4 23 rfl rfl
theorem dX13_now_0 : decode cX13_now 0 = .ok (.iconst 0, 1) := dk_3 (dk_at dksX13_now_0 0 rfl rfl)
theorem dX13_now_1 : decode cX13_now 1 = .ok (.istore_n 2, 1) := dk_61 (dk_at dksX13_now_0 1 rfl rfl)
theorem dX13_now_2 : decode cX13_now 2 = .ok (.iload_n 1, 1) := dk_27 (dk_at dksX13_now_0 2 rfl rfl)
theorem dX13_now_3 : decode cX13_now 3 = .ok (.tableswitch 101 0 4 #[33, 39, 45, 89, 95], 33) := by decide +kernel
theorem dX13_now_36 : decode cX13_now 36 = .ok (.aload_n 0, 1) := dk_42 (dk_at dksX13_now_2 0 rfl rfl)
theorem dX13_now_37 : decode cX13_now 37 = .ok (.iconst 0, 1) := dk_3 (dk_at dksX13_now_2 1 rfl rfl)
theorem dX13_now_38 : decode cX13_now 38 = .ok (.invokevirtual 202, 3) := dk_182 0 202 (dk_at dksX13_now_2 2 rfl rfl)
theorem dX13_now_41 : decode cX13_now 41 = .ok (.ireturn, 1) := dk_172 (dk_at dksX13_now_2 5 rfl rfl)
theorem dX13_now_42 : decode cX13_now 42 = .ok (.aload_n 0, 1) := dk_42 (dk_at dksX13_now_2 6 rfl rfl)
theorem dX13_now_43 : decode cX13_now 43 = .ok (.iconst 2, 1) := dk_5 (dk_at dksX13_now_2 7 rfl rfl)
theorem dX13_now_44 : decode cX13_now 44 = .ok (.invokevirtual 202, 3) := dk_182 0 202 (dk_at dksX13_now_2 8 rfl rfl)
theorem dX13_now_47 : decode cX13_now 47 = .ok (.ireturn, 1) := dk_172 (dk_at dksX13_now_2 11 rfl rfl)
theorem dX13_now_48 : decode cX13_now 48 = .ok (.iconst 0, 1) := dk_3 (dk_at dksX13_now_2 12 rfl rfl)
theorem dX13_now_49 : decode cX13_now 49 = .ok (.istore_n 3, 1) := dk_62 (dk_at dksX13_now_2 13 rfl rfl)
theorem dX13_now_50 : decode cX13_now 50 = .ok (.iload_n 3, 1) := dk_29 (dk_at dksX13_now_2 14 rfl rfl)
theorem dX13_now_51 : decode cX13_now 51 = .ok (.aload_n 0, 1) := dk_42 (dk_at dksX13_now_2 15 rfl rfl)
theorem dX13_now_52 : decode cX13_now 52 = .ok (.getfield 9, 3) := dk_180 0 9 (dk_at dksX13_now_2 16 rfl rfl)
theorem dX13_now_55 : decode cX13_now 55 = .ok (.bipush 44, 2) := dk_16 44 (dk_at dksX13_now_2 19 rfl rfl)
theorem dX13_now_57 : decode cX13_now 57 = .ok (.iaload, 1) := dk_46 (dk_at dksX13_now_2 21 rfl rfl)
theorem dX13_now_58 : decode cX13_now 58 = .ok (.if_icmp .ge 32, 3) := dk_162 0 32 (dk_at dksX13_now_3 0 rfl rfl)
theorem dX13_now_61 : decode cX13_now 61 = .ok (.iload_n 2, 1) := dk_28 (dk_at dksX13_now_3 3 rfl rfl)
theorem dX13_now_62 : decode cX13_now 62 = .ok (.aload_n 0, 1) := dk_42 (dk_at dksX13_now_3 4 rfl rfl)
theorem dX13_now_63 : decode cX13_now 63 = .ok (.getfield 9, 3) := dk_180 0 9 (dk_at dksX13_now_3 5 rfl rfl)
theorem dX13_now_66 : decode cX13_now 66 = .ok (.iload_n 3, 1) := dk_29 (dk_at dksX13_now_3 8 rfl rfl)
theorem dX13_now_67 : decode cX13_now 67 = .ok (.iconst 1, 1) := dk_4 (dk_at dksX13_now_3 9 rfl rfl)
theorem dX13_now_68 : decode cX13_now 68 = .ok (.invokestatic 161, 3) := dk_184 0 161 (dk_at dksX13_now_3 10 rfl rfl)
theorem dX13_now_71 : decode cX13_now 71 = .ok (.iaload, 1) := dk_46 (dk_at dksX13_now_3 13 rfl rfl)
theorem dX13_now_72 : decode cX13_now 72 = .ok (.ifCond .lt 9, 3) := dk_155 0 9 (dk_at dksX13_now_3 14 rfl rfl)
theorem dX13_now_75 : decode cX13_now 75 = .ok (.iconst 1, 1) := dk_4 (dk_at dksX13_now_3 17 rfl rfl)
theorem dX13_now_76 : decode cX13_now 76 = .ok (.iload_n 3, 1) := dk_29 (dk_at dksX13_now_3 18 rfl rfl)
theorem dX13_now_77 : decode cX13_now 77 = .ok (.ishl, 1) := dk_120 (dk_at dksX13_now_3 19 rfl rfl)
theorem dX13_now_78 : decode cX13_now 78 = .ok (.goto 4, 3) := dk_167 0 4 (dk_at dksX13_now_3 20 rfl rfl)
theorem dX13_now_81 : decode cX13_now 81 = .ok (.iconst 0, 1) := dk_3 (dk_at dksX13_now_3 23 rfl rfl)
theorem dX13_now_82 : decode cX13_now 82 = .ok (.ior, 1) := dk_128 (dk_at dksX13_now_4 0 rfl rfl)
theorem dX13_now_83 : decode cX13_now 83 = .ok (.istore_n 2, 1) := dk_61 (dk_at dksX13_now_4 1 rfl rfl)
theorem dX13_now_84 : decode cX13_now 84 = .ok (.iinc 3 1, 3) := dk_132 3 1 (dk_at dksX13_now_4 2 rfl rfl)
theorem dX13_now_87 : decode cX13_now 87 = .ok (.goto (-37), 3) := dk_167 255 219 (dk_at dksX13_now_4 5 rfl rfl)
theorem dX13_now_90 : decode cX13_now 90 = .ok (.iload_n 2, 1) := dk_28 (dk_at dksX13_now_4 8 rfl rfl)
theorem dX13_now_91 : decode cX13_now 91 = .ok (.ireturn, 1) := dk_172 (dk_at dksX13_now_4 9 rfl rfl)
theorem dX13_now_92 : decode cX13_now 92 = .ok (.aload_n 0, 1) := dk_42 (dk_at dksX13_now_4 10 rfl rfl)
theorem dX13_now_93 : decode cX13_now 93 = .ok (.iconst 3, 1) := dk_6 (dk_at dksX13_now_4 11 rfl rfl)
theorem dX13_now_94 : decode cX13_now 94 = .ok (.invokevirtual 205, 3) := dk_182 0 205 (dk_at dksX13_now_4 12 rfl rfl)
theorem dX13_now_97 : decode cX13_now 97 = .ok (.ireturn, 1) := dk_172 (dk_at dksX13_now_4 15 rfl rfl)
theorem dX13_now_98 : decode cX13_now 98 = .ok (.aload_n 0, 1) := dk_42 (dk_at dksX13_now_4 16 rfl rfl)
theorem dX13_now_99 : decode cX13_now 99 = .ok (.iconst 4, 1) := dk_7 (dk_at dksX13_now_4 17 rfl rfl)
theorem dX13_now_100 : decode cX13_now 100 = .ok (.invokevirtual 205, 3) := dk_182 0 205 (dk_at dksX13_now_4 18 rfl rfl)
theorem dX13_now_103 : decode cX13_now 103 = .ok (.ireturn, 1) := dk_172 (dk_at dksX13_now_4 21 rfl rfl)
theorem dX13_now_104 : decode cX13_now 104 = .ok (.aload_n 0, 1) := dk_42 (dk_at dksX13_now_4 22 rfl rfl)
theorem dX13_now_105 : decode cX13_now 105 = .ok (.ldc 72, 2) := dk_18 72 (dk_at dksX13_now_5 0 rfl rfl)
theorem dX13_now_107 : decode cX13_now 107 = .ok (.invokevirtual 92, 3) := dk_182 0 92 (dk_at dksX13_now_5 2 rfl rfl)
theorem dX13_now_110 : decode cX13_now 110 = .ok (.ireturn, 1) := dk_172 (dk_at dksX13_now_5 5 rfl rfl)
abbrev cX13_errandsThat : ByteArray := prog_16_method_53_code
def yX13_errandsThat : MethodName := ⟨RX13, "errandsThat", "(I)I"⟩
def dkwX13_errandsThat_1 : List UInt8 := [160, 0, 9, 4, 29, 120, 167, 0, 4, 3, 128, 61, 132, 3, 1, 167, 255, 222, 28, 172]
abbrev dktX13_errandsThat_1 : List UInt8 := dkwX13_errandsThat_1 ++ []
def dkwX13_errandsThat_0 : List UInt8 := [3, 61, 3, 62, 29, 42, 180, 0, 9, 16, 43, 46, 162, 0, 29, 28, 42, 29, 6, 182, 0, 111, 27]
abbrev dktX13_errandsThat_0 : List UInt8 := dkwX13_errandsThat_0 ++ dktX13_errandsThat_1
theorem dksX13_errandsThat_0 : cX13_errandsThat.data.toList.drop 0 = dktX13_errandsThat_0 := by decide +kernel
theorem dksX13_errandsThat_1 : cX13_errandsThat.data.toList.drop 23 = dktX13_errandsThat_1 := dk_seg dksX13_errandsThat_0 23 rfl rfl
theorem dX13_errandsThat_0 : decode cX13_errandsThat 0 = .ok (.iconst 0, 1) := dk_3 (dk_at dksX13_errandsThat_0 0 rfl rfl)
theorem dX13_errandsThat_1 : decode cX13_errandsThat 1 = .ok (.istore_n 2, 1) := dk_61 (dk_at dksX13_errandsThat_0 1 rfl rfl)
theorem dX13_errandsThat_2 : decode cX13_errandsThat 2 = .ok (.iconst 0, 1) := dk_3 (dk_at dksX13_errandsThat_0 2 rfl rfl)
theorem dX13_errandsThat_3 : decode cX13_errandsThat 3 = .ok (.istore_n 3, 1) := dk_62 (dk_at dksX13_errandsThat_0 3 rfl rfl)
theorem dX13_errandsThat_4 : decode cX13_errandsThat 4 = .ok (.iload_n 3, 1) := dk_29 (dk_at dksX13_errandsThat_0 4 rfl rfl)
theorem dX13_errandsThat_5 : decode cX13_errandsThat 5 = .ok (.aload_n 0, 1) := dk_42 (dk_at dksX13_errandsThat_0 5 rfl rfl)
theorem dX13_errandsThat_6 : decode cX13_errandsThat 6 = .ok (.getfield 9, 3) := dk_180 0 9 (dk_at dksX13_errandsThat_0 6 rfl rfl)
theorem dX13_errandsThat_9 : decode cX13_errandsThat 9 = .ok (.bipush 43, 2) := dk_16 43 (dk_at dksX13_errandsThat_0 9 rfl rfl)
theorem dX13_errandsThat_11 : decode cX13_errandsThat 11 = .ok (.iaload, 1) := dk_46 (dk_at dksX13_errandsThat_0 11 rfl rfl)
theorem dX13_errandsThat_12 : decode cX13_errandsThat 12 = .ok (.if_icmp .ge 29, 3) := dk_162 0 29 (dk_at dksX13_errandsThat_0 12 rfl rfl)
theorem dX13_errandsThat_15 : decode cX13_errandsThat 15 = .ok (.iload_n 2, 1) := dk_28 (dk_at dksX13_errandsThat_0 15 rfl rfl)
theorem dX13_errandsThat_16 : decode cX13_errandsThat 16 = .ok (.aload_n 0, 1) := dk_42 (dk_at dksX13_errandsThat_0 16 rfl rfl)
theorem dX13_errandsThat_17 : decode cX13_errandsThat 17 = .ok (.iload_n 3, 1) := dk_29 (dk_at dksX13_errandsThat_0 17 rfl rfl)
theorem dX13_errandsThat_18 : decode cX13_errandsThat 18 = .ok (.iconst 3, 1) := dk_6 (dk_at dksX13_errandsThat_0 18 rfl rfl)
theorem dX13_errandsThat_19 : decode cX13_errandsThat 19 = .ok (.invokevirtual 111, 3) := dk_182 0 111 (dk_at dksX13_errandsThat_0 19 rfl rfl)
theorem dX13_errandsThat_22 : decode cX13_errandsThat 22 = .ok (.iload_n 1, 1) := dk_27 (dk_at dksX13_errandsThat_0 22 rfl rfl)
theorem dX13_errandsThat_23 : decode cX13_errandsThat 23 = .ok (.if_icmp .ne 9, 3) := dk_160 0 9 (dk_at dksX13_errandsThat_1 0 rfl rfl)
theorem dX13_errandsThat_26 : decode cX13_errandsThat 26 = .ok (.iconst 1, 1) := dk_4 (dk_at dksX13_errandsThat_1 3 rfl rfl)
theorem dX13_errandsThat_27 : decode cX13_errandsThat 27 = .ok (.iload_n 3, 1) := dk_29 (dk_at dksX13_errandsThat_1 4 rfl rfl)
theorem dX13_errandsThat_28 : decode cX13_errandsThat 28 = .ok (.ishl, 1) := dk_120 (dk_at dksX13_errandsThat_1 5 rfl rfl)
theorem dX13_errandsThat_29 : decode cX13_errandsThat 29 = .ok (.goto 4, 3) := dk_167 0 4 (dk_at dksX13_errandsThat_1 6 rfl rfl)
theorem dX13_errandsThat_32 : decode cX13_errandsThat 32 = .ok (.iconst 0, 1) := dk_3 (dk_at dksX13_errandsThat_1 9 rfl rfl)
theorem dX13_errandsThat_33 : decode cX13_errandsThat 33 = .ok (.ior, 1) := dk_128 (dk_at dksX13_errandsThat_1 10 rfl rfl)
theorem dX13_errandsThat_34 : decode cX13_errandsThat 34 = .ok (.istore_n 2, 1) := dk_61 (dk_at dksX13_errandsThat_1 11 rfl rfl)
theorem dX13_errandsThat_35 : decode cX13_errandsThat 35 = .ok (.iinc 3 1, 3) := dk_132 3 1 (dk_at dksX13_errandsThat_1 12 rfl rfl)
theorem dX13_errandsThat_38 : decode cX13_errandsThat 38 = .ok (.goto (-34), 3) := dk_167 255 222 (dk_at dksX13_errandsThat_1 15 rfl rfl)
theorem dX13_errandsThat_41 : decode cX13_errandsThat 41 = .ok (.iload_n 2, 1) := dk_28 (dk_at dksX13_errandsThat_1 18 rfl rfl)
theorem dX13_errandsThat_42 : decode cX13_errandsThat 42 = .ok (.ireturn, 1) := dk_172 (dk_at dksX13_errandsThat_1 19 rfl rfl)
abbrev cX13_ofAll : ByteArray := prog_16_method_54_code
def yX13_ofAll : MethodName := ⟨RX13, "ofAll", "(I)I"⟩
def dkwX13_ofAll_1 : List UInt8 := [132, 3, 1, 167, 255, 233, 28, 172]
abbrev dktX13_ofAll_1 : List UInt8 := dkwX13_ofAll_1 ++ []
def dkwX13_ofAll_0 : List UInt8 := [3, 61, 3, 62, 29, 42, 180, 0, 9, 16, 42, 46, 162, 0, 18, 28, 42, 29, 27, 182, 0, 104, 96, 61]
abbrev dktX13_ofAll_0 : List UInt8 := dkwX13_ofAll_0 ++ dktX13_ofAll_1
theorem dksX13_ofAll_0 : cX13_ofAll.data.toList.drop 0 = dktX13_ofAll_0 := by decide +kernel
theorem dksX13_ofAll_1 : cX13_ofAll.data.toList.drop 24 = dktX13_ofAll_1 := dk_seg dksX13_ofAll_0 24 rfl rfl
theorem dX13_ofAll_0 : decode cX13_ofAll 0 = .ok (.iconst 0, 1) := dk_3 (dk_at dksX13_ofAll_0 0 rfl rfl)
theorem dX13_ofAll_1 : decode cX13_ofAll 1 = .ok (.istore_n 2, 1) := dk_61 (dk_at dksX13_ofAll_0 1 rfl rfl)
theorem dX13_ofAll_2 : decode cX13_ofAll 2 = .ok (.iconst 0, 1) := dk_3 (dk_at dksX13_ofAll_0 2 rfl rfl)
theorem dX13_ofAll_3 : decode cX13_ofAll 3 = .ok (.istore_n 3, 1) := dk_62 (dk_at dksX13_ofAll_0 3 rfl rfl)
theorem dX13_ofAll_4 : decode cX13_ofAll 4 = .ok (.iload_n 3, 1) := dk_29 (dk_at dksX13_ofAll_0 4 rfl rfl)
theorem dX13_ofAll_5 : decode cX13_ofAll 5 = .ok (.aload_n 0, 1) := dk_42 (dk_at dksX13_ofAll_0 5 rfl rfl)
theorem dX13_ofAll_6 : decode cX13_ofAll 6 = .ok (.getfield 9, 3) := dk_180 0 9 (dk_at dksX13_ofAll_0 6 rfl rfl)
theorem dX13_ofAll_9 : decode cX13_ofAll 9 = .ok (.bipush 42, 2) := dk_16 42 (dk_at dksX13_ofAll_0 9 rfl rfl)
theorem dX13_ofAll_11 : decode cX13_ofAll 11 = .ok (.iaload, 1) := dk_46 (dk_at dksX13_ofAll_0 11 rfl rfl)
theorem dX13_ofAll_12 : decode cX13_ofAll 12 = .ok (.if_icmp .ge 18, 3) := dk_162 0 18 (dk_at dksX13_ofAll_0 12 rfl rfl)
theorem dX13_ofAll_15 : decode cX13_ofAll 15 = .ok (.iload_n 2, 1) := dk_28 (dk_at dksX13_ofAll_0 15 rfl rfl)
theorem dX13_ofAll_16 : decode cX13_ofAll 16 = .ok (.aload_n 0, 1) := dk_42 (dk_at dksX13_ofAll_0 16 rfl rfl)
theorem dX13_ofAll_17 : decode cX13_ofAll 17 = .ok (.iload_n 3, 1) := dk_29 (dk_at dksX13_ofAll_0 17 rfl rfl)
theorem dX13_ofAll_18 : decode cX13_ofAll 18 = .ok (.iload_n 1, 1) := dk_27 (dk_at dksX13_ofAll_0 18 rfl rfl)
theorem dX13_ofAll_19 : decode cX13_ofAll 19 = .ok (.invokevirtual 104, 3) := dk_182 0 104 (dk_at dksX13_ofAll_0 19 rfl rfl)
theorem dX13_ofAll_22 : decode cX13_ofAll 22 = .ok (.iadd, 1) := dk_96 (dk_at dksX13_ofAll_0 22 rfl rfl)
theorem dX13_ofAll_23 : decode cX13_ofAll 23 = .ok (.istore_n 2, 1) := dk_61 (dk_at dksX13_ofAll_0 23 rfl rfl)
theorem dX13_ofAll_24 : decode cX13_ofAll 24 = .ok (.iinc 3 1, 3) := dk_132 3 1 (dk_at dksX13_ofAll_1 0 rfl rfl)
theorem dX13_ofAll_27 : decode cX13_ofAll 27 = .ok (.goto (-23), 3) := dk_167 255 233 (dk_at dksX13_ofAll_1 3 rfl rfl)
theorem dX13_ofAll_30 : decode cX13_ofAll 30 = .ok (.iload_n 2, 1) := dk_28 (dk_at dksX13_ofAll_1 6 rfl rfl)
theorem dX13_ofAll_31 : decode cX13_ofAll 31 = .ok (.ireturn, 1) := dk_172 (dk_at dksX13_ofAll_1 7 rfl rfl)
abbrev cX13_round : ByteArray := prog_16_method_65_code
def yX13_round : MethodName := ⟨RX13, "round", "(II)I"⟩
def dkwX13_round_1 : List UInt8 := [182, 0, 233, 182, 0, 236, 172]
abbrev dktX13_round_1 : List UInt8 := dkwX13_round_1 ++ []
def dkwX13_round_0 : List UInt8 := [42, 27, 28, 182, 0, 230, 62, 29, 153, 0, 11, 42, 29, 182, 0, 92, 167, 0, 13, 42, 42, 27, 28]
abbrev dktX13_round_0 : List UInt8 := dkwX13_round_0 ++ dktX13_round_1
theorem dksX13_round_0 : cX13_round.data.toList.drop 0 = dktX13_round_0 := by decide +kernel
theorem dksX13_round_1 : cX13_round.data.toList.drop 23 = dktX13_round_1 := dk_seg dksX13_round_0 23 rfl rfl
theorem dX13_round_0 : decode cX13_round 0 = .ok (.aload_n 0, 1) := dk_42 (dk_at dksX13_round_0 0 rfl rfl)
theorem dX13_round_1 : decode cX13_round 1 = .ok (.iload_n 1, 1) := dk_27 (dk_at dksX13_round_0 1 rfl rfl)
theorem dX13_round_2 : decode cX13_round 2 = .ok (.iload_n 2, 1) := dk_28 (dk_at dksX13_round_0 2 rfl rfl)
theorem dX13_round_3 : decode cX13_round 3 = .ok (.invokevirtual 230, 3) := dk_182 0 230 (dk_at dksX13_round_0 3 rfl rfl)
theorem dX13_round_6 : decode cX13_round 6 = .ok (.istore_n 3, 1) := dk_62 (dk_at dksX13_round_0 6 rfl rfl)
theorem dX13_round_7 : decode cX13_round 7 = .ok (.iload_n 3, 1) := dk_29 (dk_at dksX13_round_0 7 rfl rfl)
theorem dX13_round_8 : decode cX13_round 8 = .ok (.ifCond .eq 11, 3) := dk_153 0 11 (dk_at dksX13_round_0 8 rfl rfl)
theorem dX13_round_11 : decode cX13_round 11 = .ok (.aload_n 0, 1) := dk_42 (dk_at dksX13_round_0 11 rfl rfl)
theorem dX13_round_12 : decode cX13_round 12 = .ok (.iload_n 3, 1) := dk_29 (dk_at dksX13_round_0 12 rfl rfl)
theorem dX13_round_13 : decode cX13_round 13 = .ok (.invokevirtual 92, 3) := dk_182 0 92 (dk_at dksX13_round_0 13 rfl rfl)
theorem dX13_round_16 : decode cX13_round 16 = .ok (.goto 13, 3) := dk_167 0 13 (dk_at dksX13_round_0 16 rfl rfl)
theorem dX13_round_19 : decode cX13_round 19 = .ok (.aload_n 0, 1) := dk_42 (dk_at dksX13_round_0 19 rfl rfl)
theorem dX13_round_20 : decode cX13_round 20 = .ok (.aload_n 0, 1) := dk_42 (dk_at dksX13_round_0 20 rfl rfl)
theorem dX13_round_21 : decode cX13_round 21 = .ok (.iload_n 1, 1) := dk_27 (dk_at dksX13_round_0 21 rfl rfl)
theorem dX13_round_22 : decode cX13_round 22 = .ok (.iload_n 2, 1) := dk_28 (dk_at dksX13_round_0 22 rfl rfl)
theorem dX13_round_23 : decode cX13_round 23 = .ok (.invokevirtual 233, 3) := dk_182 0 233 (dk_at dksX13_round_1 0 rfl rfl)
theorem dX13_round_26 : decode cX13_round 26 = .ok (.invokevirtual 236, 3) := dk_182 0 236 (dk_at dksX13_round_1 3 rfl rfl)
theorem dX13_round_29 : decode cX13_round 29 = .ok (.ireturn, 1) := dk_172 (dk_at dksX13_round_1 6 rfl rfl)
abbrev cX13_refuses : ByteArray := prog_16_method_63_code
def yX13_refuses : MethodName := ⟨RX13, "refuses", "(II)I"⟩
def dkwX13_refuses_1 : List UInt8 := [182, 0, 227, 153, 0, 11, 42, 27, 182, 0, 123, 153, 0, 8, 18, 184, 167, 0, 4, 3, 172]
abbrev dktX13_refuses_1 : List UInt8 := dkwX13_refuses_1 ++ []
def dkwX13_refuses_0 : List UInt8 := [42, 27, 182, 0, 117, 153, 0, 12, 42, 28, 8, 182, 0, 224, 154, 0, 8, 18, 72, 167, 0, 25, 42, 28]
abbrev dktX13_refuses_0 : List UInt8 := dkwX13_refuses_0 ++ dktX13_refuses_1
theorem dksX13_refuses_0 : cX13_refuses.data.toList.drop 0 = dktX13_refuses_0 := by decide +kernel
theorem dksX13_refuses_1 : cX13_refuses.data.toList.drop 24 = dktX13_refuses_1 := dk_seg dksX13_refuses_0 24 rfl rfl
theorem dX13_refuses_0 : decode cX13_refuses 0 = .ok (.aload_n 0, 1) := dk_42 (dk_at dksX13_refuses_0 0 rfl rfl)
theorem dX13_refuses_1 : decode cX13_refuses 1 = .ok (.iload_n 1, 1) := dk_27 (dk_at dksX13_refuses_0 1 rfl rfl)
theorem dX13_refuses_2 : decode cX13_refuses 2 = .ok (.invokevirtual 117, 3) := dk_182 0 117 (dk_at dksX13_refuses_0 2 rfl rfl)
theorem dX13_refuses_5 : decode cX13_refuses 5 = .ok (.ifCond .eq 12, 3) := dk_153 0 12 (dk_at dksX13_refuses_0 5 rfl rfl)
theorem dX13_refuses_8 : decode cX13_refuses 8 = .ok (.aload_n 0, 1) := dk_42 (dk_at dksX13_refuses_0 8 rfl rfl)
theorem dX13_refuses_9 : decode cX13_refuses 9 = .ok (.iload_n 2, 1) := dk_28 (dk_at dksX13_refuses_0 9 rfl rfl)
theorem dX13_refuses_10 : decode cX13_refuses 10 = .ok (.iconst 5, 1) := dk_8 (dk_at dksX13_refuses_0 10 rfl rfl)
theorem dX13_refuses_11 : decode cX13_refuses 11 = .ok (.invokevirtual 224, 3) := dk_182 0 224 (dk_at dksX13_refuses_0 11 rfl rfl)
theorem dX13_refuses_14 : decode cX13_refuses 14 = .ok (.ifCond .ne 8, 3) := dk_154 0 8 (dk_at dksX13_refuses_0 14 rfl rfl)
theorem dX13_refuses_17 : decode cX13_refuses 17 = .ok (.ldc 72, 2) := dk_18 72 (dk_at dksX13_refuses_0 17 rfl rfl)
theorem dX13_refuses_19 : decode cX13_refuses 19 = .ok (.goto 25, 3) := dk_167 0 25 (dk_at dksX13_refuses_0 19 rfl rfl)
theorem dX13_refuses_22 : decode cX13_refuses 22 = .ok (.aload_n 0, 1) := dk_42 (dk_at dksX13_refuses_0 22 rfl rfl)
theorem dX13_refuses_23 : decode cX13_refuses 23 = .ok (.iload_n 2, 1) := dk_28 (dk_at dksX13_refuses_0 23 rfl rfl)
theorem dX13_refuses_24 : decode cX13_refuses 24 = .ok (.invokevirtual 227, 3) := dk_182 0 227 (dk_at dksX13_refuses_1 0 rfl rfl)
theorem dX13_refuses_27 : decode cX13_refuses 27 = .ok (.ifCond .eq 11, 3) := dk_153 0 11 (dk_at dksX13_refuses_1 3 rfl rfl)
theorem dX13_refuses_30 : decode cX13_refuses 30 = .ok (.aload_n 0, 1) := dk_42 (dk_at dksX13_refuses_1 6 rfl rfl)
theorem dX13_refuses_31 : decode cX13_refuses 31 = .ok (.iload_n 1, 1) := dk_27 (dk_at dksX13_refuses_1 7 rfl rfl)
theorem dX13_refuses_32 : decode cX13_refuses 32 = .ok (.invokevirtual 123, 3) := dk_182 0 123 (dk_at dksX13_refuses_1 8 rfl rfl)
theorem dX13_refuses_35 : decode cX13_refuses 35 = .ok (.ifCond .eq 8, 3) := dk_153 0 8 (dk_at dksX13_refuses_1 11 rfl rfl)
theorem dX13_refuses_38 : decode cX13_refuses 38 = .ok (.ldc 184, 2) := dk_18 184 (dk_at dksX13_refuses_1 14 rfl rfl)
theorem dX13_refuses_40 : decode cX13_refuses 40 = .ok (.goto 4, 3) := dk_167 0 4 (dk_at dksX13_refuses_1 16 rfl rfl)
theorem dX13_refuses_43 : decode cX13_refuses 43 = .ok (.iconst 0, 1) := dk_3 (dk_at dksX13_refuses_1 19 rfl rfl)
theorem dX13_refuses_44 : decode cX13_refuses 44 = .ok (.ireturn, 1) := dk_172 (dk_at dksX13_refuses_1 20 rfl rfl)
abbrev cX13_isSet : ByteArray := prog_16_method_61_code
def yX13_isSet : MethodName := ⟨RX13, "isSet", "(II)Z"⟩
def dkwX13_isSet_1 : List UInt8 := [163, 0, 7, 4, 167, 0, 4, 3, 172]
abbrev dktX13_isSet_1 : List UInt8 := dkwX13_isSet_1 ++ []
def dkwX13_isSet_0 : List UInt8 := [27, 3, 4, 42, 180, 0, 9, 16, 43, 46, 120, 4, 100, 184, 0, 77, 153, 0, 15, 27, 184, 0, 221, 28]
abbrev dktX13_isSet_0 : List UInt8 := dkwX13_isSet_0 ++ dktX13_isSet_1
theorem dksX13_isSet_0 : cX13_isSet.data.toList.drop 0 = dktX13_isSet_0 := by decide +kernel
theorem dksX13_isSet_1 : cX13_isSet.data.toList.drop 24 = dktX13_isSet_1 := dk_seg dksX13_isSet_0 24 rfl rfl
theorem dX13_isSet_0 : decode cX13_isSet 0 = .ok (.iload_n 1, 1) := dk_27 (dk_at dksX13_isSet_0 0 rfl rfl)
theorem dX13_isSet_1 : decode cX13_isSet 1 = .ok (.iconst 0, 1) := dk_3 (dk_at dksX13_isSet_0 1 rfl rfl)
theorem dX13_isSet_2 : decode cX13_isSet 2 = .ok (.iconst 1, 1) := dk_4 (dk_at dksX13_isSet_0 2 rfl rfl)
theorem dX13_isSet_3 : decode cX13_isSet 3 = .ok (.aload_n 0, 1) := dk_42 (dk_at dksX13_isSet_0 3 rfl rfl)
theorem dX13_isSet_4 : decode cX13_isSet 4 = .ok (.getfield 9, 3) := dk_180 0 9 (dk_at dksX13_isSet_0 4 rfl rfl)
theorem dX13_isSet_7 : decode cX13_isSet 7 = .ok (.bipush 43, 2) := dk_16 43 (dk_at dksX13_isSet_0 7 rfl rfl)
theorem dX13_isSet_9 : decode cX13_isSet 9 = .ok (.iaload, 1) := dk_46 (dk_at dksX13_isSet_0 9 rfl rfl)
theorem dX13_isSet_10 : decode cX13_isSet 10 = .ok (.ishl, 1) := dk_120 (dk_at dksX13_isSet_0 10 rfl rfl)
theorem dX13_isSet_11 : decode cX13_isSet 11 = .ok (.iconst 1, 1) := dk_4 (dk_at dksX13_isSet_0 11 rfl rfl)
theorem dX13_isSet_12 : decode cX13_isSet 12 = .ok (.isub, 1) := dk_100 (dk_at dksX13_isSet_0 12 rfl rfl)
theorem dX13_isSet_13 : decode cX13_isSet 13 = .ok (.invokestatic 77, 3) := dk_184 0 77 (dk_at dksX13_isSet_0 13 rfl rfl)
theorem dX13_isSet_16 : decode cX13_isSet 16 = .ok (.ifCond .eq 15, 3) := dk_153 0 15 (dk_at dksX13_isSet_0 16 rfl rfl)
theorem dX13_isSet_19 : decode cX13_isSet 19 = .ok (.iload_n 1, 1) := dk_27 (dk_at dksX13_isSet_0 19 rfl rfl)
theorem dX13_isSet_20 : decode cX13_isSet 20 = .ok (.invokestatic 221, 3) := dk_184 0 221 (dk_at dksX13_isSet_0 20 rfl rfl)
theorem dX13_isSet_23 : decode cX13_isSet 23 = .ok (.iload_n 2, 1) := dk_28 (dk_at dksX13_isSet_0 23 rfl rfl)
theorem dX13_isSet_24 : decode cX13_isSet 24 = .ok (.if_icmp .gt 7, 3) := dk_163 0 7 (dk_at dksX13_isSet_1 0 rfl rfl)
theorem dX13_isSet_27 : decode cX13_isSet 27 = .ok (.iconst 1, 1) := dk_4 (dk_at dksX13_isSet_1 3 rfl rfl)
theorem dX13_isSet_28 : decode cX13_isSet 28 = .ok (.goto 4, 3) := dk_167 0 4 (dk_at dksX13_isSet_1 4 rfl rfl)
theorem dX13_isSet_31 : decode cX13_isSet 31 = .ok (.iconst 0, 1) := dk_3 (dk_at dksX13_isSet_1 7 rfl rfl)
theorem dX13_isSet_32 : decode cX13_isSet 32 = .ok (.ireturn, 1) := dk_172 (dk_at dksX13_isSet_1 8 rfl rfl)
abbrev cX13_bits : ByteArray := prog_16_method_8_code
def yX13_bits : MethodName := ⟨RX13, "bits", "(I)I"⟩
def dkwX13_bits_0 : List UInt8 := [3, 60, 26, 61, 28, 153, 0, 15, 132, 1, 1, 28, 28, 4, 100, 126, 61, 167, 255, 243, 27, 172]
abbrev dktX13_bits_0 : List UInt8 := dkwX13_bits_0 ++ []
theorem dksX13_bits_0 : cX13_bits.data.toList.drop 0 = dktX13_bits_0 := by decide +kernel
theorem dX13_bits_0 : decode cX13_bits 0 = .ok (.iconst 0, 1) := dk_3 (dk_at dksX13_bits_0 0 rfl rfl)
theorem dX13_bits_1 : decode cX13_bits 1 = .ok (.istore_n 1, 1) := dk_60 (dk_at dksX13_bits_0 1 rfl rfl)
theorem dX13_bits_2 : decode cX13_bits 2 = .ok (.iload_n 0, 1) := dk_26 (dk_at dksX13_bits_0 2 rfl rfl)
theorem dX13_bits_3 : decode cX13_bits 3 = .ok (.istore_n 2, 1) := dk_61 (dk_at dksX13_bits_0 3 rfl rfl)
theorem dX13_bits_4 : decode cX13_bits 4 = .ok (.iload_n 2, 1) := dk_28 (dk_at dksX13_bits_0 4 rfl rfl)
theorem dX13_bits_5 : decode cX13_bits 5 = .ok (.ifCond .eq 15, 3) := dk_153 0 15 (dk_at dksX13_bits_0 5 rfl rfl)
theorem dX13_bits_8 : decode cX13_bits 8 = .ok (.iinc 1 1, 3) := dk_132 1 1 (dk_at dksX13_bits_0 8 rfl rfl)
theorem dX13_bits_11 : decode cX13_bits 11 = .ok (.iload_n 2, 1) := dk_28 (dk_at dksX13_bits_0 11 rfl rfl)
theorem dX13_bits_12 : decode cX13_bits 12 = .ok (.iload_n 2, 1) := dk_28 (dk_at dksX13_bits_0 12 rfl rfl)
theorem dX13_bits_13 : decode cX13_bits 13 = .ok (.iconst 1, 1) := dk_4 (dk_at dksX13_bits_0 13 rfl rfl)
theorem dX13_bits_14 : decode cX13_bits 14 = .ok (.isub, 1) := dk_100 (dk_at dksX13_bits_0 14 rfl rfl)
theorem dX13_bits_15 : decode cX13_bits 15 = .ok (.iand, 1) := dk_126 (dk_at dksX13_bits_0 15 rfl rfl)
theorem dX13_bits_16 : decode cX13_bits 16 = .ok (.istore_n 2, 1) := dk_61 (dk_at dksX13_bits_0 16 rfl rfl)
theorem dX13_bits_17 : decode cX13_bits 17 = .ok (.goto (-13), 3) := dk_167 255 243 (dk_at dksX13_bits_0 17 rfl rfl)
theorem dX13_bits_20 : decode cX13_bits 20 = .ok (.iload_n 1, 1) := dk_27 (dk_at dksX13_bits_0 20 rfl rfl)
theorem dX13_bits_21 : decode cX13_bits 21 = .ok (.ireturn, 1) := dk_172 (dk_at dksX13_bits_0 21 rfl rfl)
abbrev cX13_allLie : ByteArray := prog_16_method_62_code
def yX13_allLie : MethodName := ⟨RX13, "allLie", "(I)Z"⟩
def dkwX13_allLie_0 : List UInt8 := [27, 42, 3, 182, 0, 202, 2, 130, 126, 154, 0, 7, 4, 167, 0, 4, 3, 172]
abbrev dktX13_allLie_0 : List UInt8 := dkwX13_allLie_0 ++ []
theorem dksX13_allLie_0 : cX13_allLie.data.toList.drop 0 = dktX13_allLie_0 := by decide +kernel
theorem dX13_allLie_0 : decode cX13_allLie 0 = .ok (.iload_n 1, 1) := dk_27 (dk_at dksX13_allLie_0 0 rfl rfl)
theorem dX13_allLie_1 : decode cX13_allLie 1 = .ok (.aload_n 0, 1) := dk_42 (dk_at dksX13_allLie_0 1 rfl rfl)
theorem dX13_allLie_2 : decode cX13_allLie 2 = .ok (.iconst 0, 1) := dk_3 (dk_at dksX13_allLie_0 2 rfl rfl)
theorem dX13_allLie_3 : decode cX13_allLie 3 = .ok (.invokevirtual 202, 3) := dk_182 0 202 (dk_at dksX13_allLie_0 3 rfl rfl)
theorem dX13_allLie_6 : decode cX13_allLie 6 = .ok (.iconst (-1), 1) := dk_2 (dk_at dksX13_allLie_0 6 rfl rfl)
theorem dX13_allLie_7 : decode cX13_allLie 7 = .ok (.ixor, 1) := dk_130 (dk_at dksX13_allLie_0 7 rfl rfl)
theorem dX13_allLie_8 : decode cX13_allLie 8 = .ok (.iand, 1) := dk_126 (dk_at dksX13_allLie_0 8 rfl rfl)
theorem dX13_allLie_9 : decode cX13_allLie 9 = .ok (.ifCond .ne 7, 3) := dk_154 0 7 (dk_at dksX13_allLie_0 9 rfl rfl)
theorem dX13_allLie_12 : decode cX13_allLie 12 = .ok (.iconst 1, 1) := dk_4 (dk_at dksX13_allLie_0 12 rfl rfl)
theorem dX13_allLie_13 : decode cX13_allLie 13 = .ok (.goto 4, 3) := dk_167 0 4 (dk_at dksX13_allLie_0 13 rfl rfl)
theorem dX13_allLie_16 : decode cX13_allLie 16 = .ok (.iconst 0, 1) := dk_3 (dk_at dksX13_allLie_0 16 rfl rfl)
theorem dX13_allLie_17 : decode cX13_allLie 17 = .ok (.ireturn, 1) := dk_172 (dk_at dksX13_allLie_0 17 rfl rfl)
abbrev cX13_roundOf : ByteArray := prog_16_method_58_code
def yX13_roundOf : MethodName := ⟨RX13, "roundOf", "(II)I"⟩
def dkwX13_roundOf_8 : List UInt8 := [167, 255, 226, 21, 6, 172]
abbrev dktX13_roundOf_8 : List UInt8 := dkwX13_roundOf_8 ++ []
def dkwX13_roundOf_7 : List UInt8 := [21, 6, 42, 180, 0, 25, 16, 7, 21, 5, 104, 21, 7, 96, 46, 184, 0, 136, 54, 6, 132, 7, 1]
abbrev dktX13_roundOf_7 : List UInt8 := dkwX13_roundOf_7 ++ dktX13_roundOf_8
def dkwX13_roundOf_6 : List UInt8 := [182, 0, 211, 132, 6, 1, 167, 255, 229, 18, 170, 54, 6, 3, 54, 7, 21, 7, 16, 7, 162, 0, 29]
abbrev dktX13_roundOf_6 : List UInt8 := dkwX13_roundOf_6 ++ dktX13_roundOf_7
def dkwX13_roundOf_5 : List UInt8 := [54, 6, 21, 6, 21, 5, 162, 0, 26, 42, 21, 6, 21, 4, 182, 0, 208, 42, 21, 6, 21, 4, 29]
abbrev dktX13_roundOf_5 : List UInt8 := dkwX13_roundOf_5 ++ dktX13_roundOf_6
def dkwX13_roundOf_4 : List UInt8 := [21, 6, 18, 170, 79, 132, 6, 1, 167, 255, 229, 42, 180, 0, 25, 42, 27, 4, 182, 0, 104, 3, 79, 3]
abbrev dktX13_roundOf_4 : List UInt8 := dkwX13_roundOf_4 ++ dktX13_roundOf_5
def dkwX13_roundOf_3 : List UInt8 := [54, 5, 3, 54, 6, 21, 6, 16, 7, 42, 180, 0, 31, 21, 4, 46, 104, 162, 0, 18, 42, 180, 0, 25]
abbrev dktX13_roundOf_3 : List UInt8 := dkwX13_roundOf_3 ++ dktX13_roundOf_4
def dkwX13_roundOf_2 : List UInt8 := [21, 4, 21, 5, 79, 132, 4, 1, 132, 5, 1, 167, 255, 220, 42, 180, 0, 31, 21, 4, 46, 4, 100]
abbrev dktX13_roundOf_2 : List UInt8 := dkwX13_roundOf_2 ++ dktX13_roundOf_3
def dkwX13_roundOf_1 : List UInt8 := [42, 180, 0, 9, 16, 43, 46, 162, 0, 30, 28, 21, 5, 184, 0, 114, 153, 0, 15, 42, 180, 0, 28]
abbrev dktX13_roundOf_1 : List UInt8 := dkwX13_roundOf_1 ++ dktX13_roundOf_2
def dkwX13_roundOf_0 : List UInt8 := [42, 42, 27, 3, 182, 0, 104, 182, 0, 174, 42, 27, 182, 0, 120, 62, 3, 54, 4, 3, 54, 5, 21, 5]
abbrev dktX13_roundOf_0 : List UInt8 := dkwX13_roundOf_0 ++ dktX13_roundOf_1
theorem dksX13_roundOf_0 : cX13_roundOf.data.toList.drop 0 = dktX13_roundOf_0 := by decide +kernel
theorem dksX13_roundOf_1 : cX13_roundOf.data.toList.drop 24 = dktX13_roundOf_1 := dk_seg dksX13_roundOf_0 24 rfl rfl
theorem dksX13_roundOf_2 : cX13_roundOf.data.toList.drop 47 = dktX13_roundOf_2 := dk_seg dksX13_roundOf_1 23 rfl rfl
theorem dksX13_roundOf_3 : cX13_roundOf.data.toList.drop 70 = dktX13_roundOf_3 := dk_seg dksX13_roundOf_2 23 rfl rfl
theorem dksX13_roundOf_4 : cX13_roundOf.data.toList.drop 94 = dktX13_roundOf_4 := dk_seg dksX13_roundOf_3 24 rfl rfl
theorem dksX13_roundOf_5 : cX13_roundOf.data.toList.drop 118 = dktX13_roundOf_5 := dk_seg dksX13_roundOf_4 24 rfl rfl
theorem dksX13_roundOf_6 : cX13_roundOf.data.toList.drop 141 = dktX13_roundOf_6 := dk_seg dksX13_roundOf_5 23 rfl rfl
theorem dksX13_roundOf_7 : cX13_roundOf.data.toList.drop 164 = dktX13_roundOf_7 := dk_seg dksX13_roundOf_6 23 rfl rfl
theorem dksX13_roundOf_8 : cX13_roundOf.data.toList.drop 187 = dktX13_roundOf_8 := dk_seg dksX13_roundOf_7 23 rfl rfl
theorem dX13_roundOf_0 : decode cX13_roundOf 0 = .ok (.aload_n 0, 1) := dk_42 (dk_at dksX13_roundOf_0 0 rfl rfl)
theorem dX13_roundOf_1 : decode cX13_roundOf 1 = .ok (.aload_n 0, 1) := dk_42 (dk_at dksX13_roundOf_0 1 rfl rfl)
theorem dX13_roundOf_2 : decode cX13_roundOf 2 = .ok (.iload_n 1, 1) := dk_27 (dk_at dksX13_roundOf_0 2 rfl rfl)
theorem dX13_roundOf_3 : decode cX13_roundOf 3 = .ok (.iconst 0, 1) := dk_3 (dk_at dksX13_roundOf_0 3 rfl rfl)
theorem dX13_roundOf_4 : decode cX13_roundOf 4 = .ok (.invokevirtual 104, 3) := dk_182 0 104 (dk_at dksX13_roundOf_0 4 rfl rfl)
theorem dX13_roundOf_7 : decode cX13_roundOf 7 = .ok (.invokevirtual 174, 3) := dk_182 0 174 (dk_at dksX13_roundOf_0 7 rfl rfl)
theorem dX13_roundOf_10 : decode cX13_roundOf 10 = .ok (.aload_n 0, 1) := dk_42 (dk_at dksX13_roundOf_0 10 rfl rfl)
theorem dX13_roundOf_11 : decode cX13_roundOf 11 = .ok (.iload_n 1, 1) := dk_27 (dk_at dksX13_roundOf_0 11 rfl rfl)
theorem dX13_roundOf_12 : decode cX13_roundOf 12 = .ok (.invokevirtual 120, 3) := dk_182 0 120 (dk_at dksX13_roundOf_0 12 rfl rfl)
theorem dX13_roundOf_15 : decode cX13_roundOf 15 = .ok (.istore_n 3, 1) := dk_62 (dk_at dksX13_roundOf_0 15 rfl rfl)
theorem dX13_roundOf_16 : decode cX13_roundOf 16 = .ok (.iconst 0, 1) := dk_3 (dk_at dksX13_roundOf_0 16 rfl rfl)
theorem dX13_roundOf_17 : decode cX13_roundOf 17 = .ok (.istore 4, 2) := dk_54 4 (dk_at dksX13_roundOf_0 17 rfl rfl)
theorem dX13_roundOf_19 : decode cX13_roundOf 19 = .ok (.iconst 0, 1) := dk_3 (dk_at dksX13_roundOf_0 19 rfl rfl)
theorem dX13_roundOf_20 : decode cX13_roundOf 20 = .ok (.istore 5, 2) := dk_54 5 (dk_at dksX13_roundOf_0 20 rfl rfl)
theorem dX13_roundOf_22 : decode cX13_roundOf 22 = .ok (.iload 5, 2) := dk_21 5 (dk_at dksX13_roundOf_0 22 rfl rfl)
theorem dX13_roundOf_24 : decode cX13_roundOf 24 = .ok (.aload_n 0, 1) := dk_42 (dk_at dksX13_roundOf_1 0 rfl rfl)
theorem dX13_roundOf_25 : decode cX13_roundOf 25 = .ok (.getfield 9, 3) := dk_180 0 9 (dk_at dksX13_roundOf_1 1 rfl rfl)
theorem dX13_roundOf_28 : decode cX13_roundOf 28 = .ok (.bipush 43, 2) := dk_16 43 (dk_at dksX13_roundOf_1 4 rfl rfl)
theorem dX13_roundOf_30 : decode cX13_roundOf 30 = .ok (.iaload, 1) := dk_46 (dk_at dksX13_roundOf_1 6 rfl rfl)
theorem dX13_roundOf_31 : decode cX13_roundOf 31 = .ok (.if_icmp .ge 30, 3) := dk_162 0 30 (dk_at dksX13_roundOf_1 7 rfl rfl)
theorem dX13_roundOf_34 : decode cX13_roundOf 34 = .ok (.iload_n 2, 1) := dk_28 (dk_at dksX13_roundOf_1 10 rfl rfl)
theorem dX13_roundOf_35 : decode cX13_roundOf 35 = .ok (.iload 5, 2) := dk_21 5 (dk_at dksX13_roundOf_1 11 rfl rfl)
theorem dX13_roundOf_37 : decode cX13_roundOf 37 = .ok (.invokestatic 114, 3) := dk_184 0 114 (dk_at dksX13_roundOf_1 13 rfl rfl)
theorem dX13_roundOf_40 : decode cX13_roundOf 40 = .ok (.ifCond .eq 15, 3) := dk_153 0 15 (dk_at dksX13_roundOf_1 16 rfl rfl)
theorem dX13_roundOf_43 : decode cX13_roundOf 43 = .ok (.aload_n 0, 1) := dk_42 (dk_at dksX13_roundOf_1 19 rfl rfl)
theorem dX13_roundOf_44 : decode cX13_roundOf 44 = .ok (.getfield 28, 3) := dk_180 0 28 (dk_at dksX13_roundOf_1 20 rfl rfl)
theorem dX13_roundOf_47 : decode cX13_roundOf 47 = .ok (.iload 4, 2) := dk_21 4 (dk_at dksX13_roundOf_2 0 rfl rfl)
theorem dX13_roundOf_49 : decode cX13_roundOf 49 = .ok (.iload 5, 2) := dk_21 5 (dk_at dksX13_roundOf_2 2 rfl rfl)
theorem dX13_roundOf_51 : decode cX13_roundOf 51 = .ok (.iastore, 1) := dk_79 (dk_at dksX13_roundOf_2 4 rfl rfl)
theorem dX13_roundOf_52 : decode cX13_roundOf 52 = .ok (.iinc 4 1, 3) := dk_132 4 1 (dk_at dksX13_roundOf_2 5 rfl rfl)
theorem dX13_roundOf_55 : decode cX13_roundOf 55 = .ok (.iinc 5 1, 3) := dk_132 5 1 (dk_at dksX13_roundOf_2 8 rfl rfl)
theorem dX13_roundOf_58 : decode cX13_roundOf 58 = .ok (.goto (-36), 3) := dk_167 255 220 (dk_at dksX13_roundOf_2 11 rfl rfl)
theorem dX13_roundOf_61 : decode cX13_roundOf 61 = .ok (.aload_n 0, 1) := dk_42 (dk_at dksX13_roundOf_2 14 rfl rfl)
theorem dX13_roundOf_62 : decode cX13_roundOf 62 = .ok (.getfield 31, 3) := dk_180 0 31 (dk_at dksX13_roundOf_2 15 rfl rfl)
theorem dX13_roundOf_65 : decode cX13_roundOf 65 = .ok (.iload 4, 2) := dk_21 4 (dk_at dksX13_roundOf_2 18 rfl rfl)
theorem dX13_roundOf_67 : decode cX13_roundOf 67 = .ok (.iaload, 1) := dk_46 (dk_at dksX13_roundOf_2 20 rfl rfl)
theorem dX13_roundOf_68 : decode cX13_roundOf 68 = .ok (.iconst 1, 1) := dk_4 (dk_at dksX13_roundOf_2 21 rfl rfl)
theorem dX13_roundOf_69 : decode cX13_roundOf 69 = .ok (.isub, 1) := dk_100 (dk_at dksX13_roundOf_2 22 rfl rfl)
theorem dX13_roundOf_70 : decode cX13_roundOf 70 = .ok (.istore 5, 2) := dk_54 5 (dk_at dksX13_roundOf_3 0 rfl rfl)
theorem dX13_roundOf_72 : decode cX13_roundOf 72 = .ok (.iconst 0, 1) := dk_3 (dk_at dksX13_roundOf_3 2 rfl rfl)
theorem dX13_roundOf_73 : decode cX13_roundOf 73 = .ok (.istore 6, 2) := dk_54 6 (dk_at dksX13_roundOf_3 3 rfl rfl)
theorem dX13_roundOf_75 : decode cX13_roundOf 75 = .ok (.iload 6, 2) := dk_21 6 (dk_at dksX13_roundOf_3 5 rfl rfl)
theorem dX13_roundOf_77 : decode cX13_roundOf 77 = .ok (.bipush 7, 2) := dk_16 7 (dk_at dksX13_roundOf_3 7 rfl rfl)
theorem dX13_roundOf_79 : decode cX13_roundOf 79 = .ok (.aload_n 0, 1) := dk_42 (dk_at dksX13_roundOf_3 9 rfl rfl)
theorem dX13_roundOf_80 : decode cX13_roundOf 80 = .ok (.getfield 31, 3) := dk_180 0 31 (dk_at dksX13_roundOf_3 10 rfl rfl)
theorem dX13_roundOf_83 : decode cX13_roundOf 83 = .ok (.iload 4, 2) := dk_21 4 (dk_at dksX13_roundOf_3 13 rfl rfl)
theorem dX13_roundOf_85 : decode cX13_roundOf 85 = .ok (.iaload, 1) := dk_46 (dk_at dksX13_roundOf_3 15 rfl rfl)
theorem dX13_roundOf_86 : decode cX13_roundOf 86 = .ok (.imul, 1) := dk_104 (dk_at dksX13_roundOf_3 16 rfl rfl)
theorem dX13_roundOf_87 : decode cX13_roundOf 87 = .ok (.if_icmp .ge 18, 3) := dk_162 0 18 (dk_at dksX13_roundOf_3 17 rfl rfl)
theorem dX13_roundOf_90 : decode cX13_roundOf 90 = .ok (.aload_n 0, 1) := dk_42 (dk_at dksX13_roundOf_3 20 rfl rfl)
theorem dX13_roundOf_91 : decode cX13_roundOf 91 = .ok (.getfield 25, 3) := dk_180 0 25 (dk_at dksX13_roundOf_3 21 rfl rfl)
theorem dX13_roundOf_94 : decode cX13_roundOf 94 = .ok (.iload 6, 2) := dk_21 6 (dk_at dksX13_roundOf_4 0 rfl rfl)
theorem dX13_roundOf_96 : decode cX13_roundOf 96 = .ok (.ldc 170, 2) := dk_18 170 (dk_at dksX13_roundOf_4 2 rfl rfl)
theorem dX13_roundOf_98 : decode cX13_roundOf 98 = .ok (.iastore, 1) := dk_79 (dk_at dksX13_roundOf_4 4 rfl rfl)
theorem dX13_roundOf_99 : decode cX13_roundOf 99 = .ok (.iinc 6 1, 3) := dk_132 6 1 (dk_at dksX13_roundOf_4 5 rfl rfl)
theorem dX13_roundOf_102 : decode cX13_roundOf 102 = .ok (.goto (-27), 3) := dk_167 255 229 (dk_at dksX13_roundOf_4 8 rfl rfl)
theorem dX13_roundOf_105 : decode cX13_roundOf 105 = .ok (.aload_n 0, 1) := dk_42 (dk_at dksX13_roundOf_4 11 rfl rfl)
theorem dX13_roundOf_106 : decode cX13_roundOf 106 = .ok (.getfield 25, 3) := dk_180 0 25 (dk_at dksX13_roundOf_4 12 rfl rfl)
theorem dX13_roundOf_109 : decode cX13_roundOf 109 = .ok (.aload_n 0, 1) := dk_42 (dk_at dksX13_roundOf_4 15 rfl rfl)
theorem dX13_roundOf_110 : decode cX13_roundOf 110 = .ok (.iload_n 1, 1) := dk_27 (dk_at dksX13_roundOf_4 16 rfl rfl)
theorem dX13_roundOf_111 : decode cX13_roundOf 111 = .ok (.iconst 1, 1) := dk_4 (dk_at dksX13_roundOf_4 17 rfl rfl)
theorem dX13_roundOf_112 : decode cX13_roundOf 112 = .ok (.invokevirtual 104, 3) := dk_182 0 104 (dk_at dksX13_roundOf_4 18 rfl rfl)
theorem dX13_roundOf_115 : decode cX13_roundOf 115 = .ok (.iconst 0, 1) := dk_3 (dk_at dksX13_roundOf_4 21 rfl rfl)
theorem dX13_roundOf_116 : decode cX13_roundOf 116 = .ok (.iastore, 1) := dk_79 (dk_at dksX13_roundOf_4 22 rfl rfl)
theorem dX13_roundOf_117 : decode cX13_roundOf 117 = .ok (.iconst 0, 1) := dk_3 (dk_at dksX13_roundOf_4 23 rfl rfl)
theorem dX13_roundOf_118 : decode cX13_roundOf 118 = .ok (.istore 6, 2) := dk_54 6 (dk_at dksX13_roundOf_5 0 rfl rfl)
theorem dX13_roundOf_120 : decode cX13_roundOf 120 = .ok (.iload 6, 2) := dk_21 6 (dk_at dksX13_roundOf_5 2 rfl rfl)
theorem dX13_roundOf_122 : decode cX13_roundOf 122 = .ok (.iload 5, 2) := dk_21 5 (dk_at dksX13_roundOf_5 4 rfl rfl)
theorem dX13_roundOf_124 : decode cX13_roundOf 124 = .ok (.if_icmp .ge 26, 3) := dk_162 0 26 (dk_at dksX13_roundOf_5 6 rfl rfl)
theorem dX13_roundOf_127 : decode cX13_roundOf 127 = .ok (.aload_n 0, 1) := dk_42 (dk_at dksX13_roundOf_5 9 rfl rfl)
theorem dX13_roundOf_128 : decode cX13_roundOf 128 = .ok (.iload 6, 2) := dk_21 6 (dk_at dksX13_roundOf_5 10 rfl rfl)
theorem dX13_roundOf_130 : decode cX13_roundOf 130 = .ok (.iload 4, 2) := dk_21 4 (dk_at dksX13_roundOf_5 12 rfl rfl)
theorem dX13_roundOf_132 : decode cX13_roundOf 132 = .ok (.invokevirtual 208, 3) := dk_182 0 208 (dk_at dksX13_roundOf_5 14 rfl rfl)
theorem dX13_roundOf_135 : decode cX13_roundOf 135 = .ok (.aload_n 0, 1) := dk_42 (dk_at dksX13_roundOf_5 17 rfl rfl)
theorem dX13_roundOf_136 : decode cX13_roundOf 136 = .ok (.iload 6, 2) := dk_21 6 (dk_at dksX13_roundOf_5 18 rfl rfl)
theorem dX13_roundOf_138 : decode cX13_roundOf 138 = .ok (.iload 4, 2) := dk_21 4 (dk_at dksX13_roundOf_5 20 rfl rfl)
theorem dX13_roundOf_140 : decode cX13_roundOf 140 = .ok (.iload_n 3, 1) := dk_29 (dk_at dksX13_roundOf_5 22 rfl rfl)
theorem dX13_roundOf_141 : decode cX13_roundOf 141 = .ok (.invokevirtual 211, 3) := dk_182 0 211 (dk_at dksX13_roundOf_6 0 rfl rfl)
theorem dX13_roundOf_144 : decode cX13_roundOf 144 = .ok (.iinc 6 1, 3) := dk_132 6 1 (dk_at dksX13_roundOf_6 3 rfl rfl)
theorem dX13_roundOf_147 : decode cX13_roundOf 147 = .ok (.goto (-27), 3) := dk_167 255 229 (dk_at dksX13_roundOf_6 6 rfl rfl)
theorem dX13_roundOf_150 : decode cX13_roundOf 150 = .ok (.ldc 170, 2) := dk_18 170 (dk_at dksX13_roundOf_6 9 rfl rfl)
theorem dX13_roundOf_152 : decode cX13_roundOf 152 = .ok (.istore 6, 2) := dk_54 6 (dk_at dksX13_roundOf_6 11 rfl rfl)
theorem dX13_roundOf_154 : decode cX13_roundOf 154 = .ok (.iconst 0, 1) := dk_3 (dk_at dksX13_roundOf_6 13 rfl rfl)
theorem dX13_roundOf_155 : decode cX13_roundOf 155 = .ok (.istore 7, 2) := dk_54 7 (dk_at dksX13_roundOf_6 14 rfl rfl)
theorem dX13_roundOf_157 : decode cX13_roundOf 157 = .ok (.iload 7, 2) := dk_21 7 (dk_at dksX13_roundOf_6 16 rfl rfl)
theorem dX13_roundOf_159 : decode cX13_roundOf 159 = .ok (.bipush 7, 2) := dk_16 7 (dk_at dksX13_roundOf_6 18 rfl rfl)
theorem dX13_roundOf_161 : decode cX13_roundOf 161 = .ok (.if_icmp .ge 29, 3) := dk_162 0 29 (dk_at dksX13_roundOf_6 20 rfl rfl)
theorem dX13_roundOf_164 : decode cX13_roundOf 164 = .ok (.iload 6, 2) := dk_21 6 (dk_at dksX13_roundOf_7 0 rfl rfl)
theorem dX13_roundOf_166 : decode cX13_roundOf 166 = .ok (.aload_n 0, 1) := dk_42 (dk_at dksX13_roundOf_7 2 rfl rfl)
theorem dX13_roundOf_167 : decode cX13_roundOf 167 = .ok (.getfield 25, 3) := dk_180 0 25 (dk_at dksX13_roundOf_7 3 rfl rfl)
theorem dX13_roundOf_170 : decode cX13_roundOf 170 = .ok (.bipush 7, 2) := dk_16 7 (dk_at dksX13_roundOf_7 6 rfl rfl)
theorem dX13_roundOf_172 : decode cX13_roundOf 172 = .ok (.iload 5, 2) := dk_21 5 (dk_at dksX13_roundOf_7 8 rfl rfl)
theorem dX13_roundOf_174 : decode cX13_roundOf 174 = .ok (.imul, 1) := dk_104 (dk_at dksX13_roundOf_7 10 rfl rfl)
theorem dX13_roundOf_175 : decode cX13_roundOf 175 = .ok (.iload 7, 2) := dk_21 7 (dk_at dksX13_roundOf_7 11 rfl rfl)
theorem dX13_roundOf_177 : decode cX13_roundOf 177 = .ok (.iadd, 1) := dk_96 (dk_at dksX13_roundOf_7 13 rfl rfl)
theorem dX13_roundOf_178 : decode cX13_roundOf 178 = .ok (.iaload, 1) := dk_46 (dk_at dksX13_roundOf_7 14 rfl rfl)
theorem dX13_roundOf_179 : decode cX13_roundOf 179 = .ok (.invokestatic 136, 3) := dk_184 0 136 (dk_at dksX13_roundOf_7 15 rfl rfl)
theorem dX13_roundOf_182 : decode cX13_roundOf 182 = .ok (.istore 6, 2) := dk_54 6 (dk_at dksX13_roundOf_7 18 rfl rfl)
theorem dX13_roundOf_184 : decode cX13_roundOf 184 = .ok (.iinc 7 1, 3) := dk_132 7 1 (dk_at dksX13_roundOf_7 20 rfl rfl)
theorem dX13_roundOf_187 : decode cX13_roundOf 187 = .ok (.goto (-30), 3) := dk_167 255 226 (dk_at dksX13_roundOf_8 0 rfl rfl)
theorem dX13_roundOf_190 : decode cX13_roundOf 190 = .ok (.iload 6, 2) := dk_21 6 (dk_at dksX13_roundOf_8 3 rfl rfl)
theorem dX13_roundOf_192 : decode cX13_roundOf 192 = .ok (.ireturn, 1) := dk_172 (dk_at dksX13_roundOf_8 5 rfl rfl)
abbrev cX13_walkOn : ByteArray := prog_16_method_59_code
def yX13_walkOn : MethodName := ⟨RX13, "walkOn", "(II)V"⟩
def dkwX13_walkOn_6 : List UInt8 := [132, 5, 1, 167, 255, 137, 132, 3, 1, 167, 255, 109, 177]
abbrev dktX13_walkOn_6 : List UInt8 := dkwX13_walkOn_6 ++ []
def dkwX13_walkOn_5 : List UInt8 := [21, 6, 21, 5, 21, 4, 42, 180, 0, 22, 16, 7, 29, 104, 21, 5, 96, 46, 96, 182, 0, 218]
abbrev dktX13_walkOn_5 : List UInt8 := dkwX13_walkOn_5 ++ dktX13_walkOn_6
def dkwX13_walkOn_4 : List UInt8 := [132, 7, 1, 167, 255, 203, 42, 180, 0, 22, 16, 7, 29, 104, 21, 5, 96, 46, 18, 170, 162, 0, 26, 42]
abbrev dktX13_walkOn_4 : List UInt8 := dkwX13_walkOn_4 ++ dktX13_walkOn_5
def dkwX13_walkOn_3 : List UInt8 := [5, 182, 0, 111, 21, 5, 160, 0, 13, 42, 180, 0, 31, 21, 7, 46, 167, 0, 4, 3, 96, 54, 6]
abbrev dktX13_walkOn_3 : List UInt8 := dkwX13_walkOn_3 ++ dktX13_walkOn_4
def dkwX13_walkOn_2 : List UInt8 := [162, 0, 53, 21, 6, 42, 27, 21, 7, 182, 0, 215, 4, 160, 0, 30, 42, 42, 180, 0, 28, 21, 7, 46]
abbrev dktX13_walkOn_2 : List UInt8 := dkwX13_walkOn_2 ++ dktX13_walkOn_3
def dkwX13_walkOn_1 : List UInt8 := [21, 5, 16, 7, 162, 0, 118, 21, 4, 18, 170, 162, 0, 111, 27, 54, 6, 3, 54, 7, 21, 7, 28]
abbrev dktX13_walkOn_1 : List UInt8 := dkwX13_walkOn_1 ++ dktX13_walkOn_2
def dkwX13_walkOn_0 : List UInt8 := [3, 62, 29, 16, 7, 162, 0, 147, 42, 180, 0, 25, 16, 7, 27, 104, 29, 96, 46, 54, 4, 3, 54, 5]
abbrev dktX13_walkOn_0 : List UInt8 := dkwX13_walkOn_0 ++ dktX13_walkOn_1
theorem dksX13_walkOn_0 : cX13_walkOn.data.toList.drop 0 = dktX13_walkOn_0 := by decide +kernel
theorem dksX13_walkOn_1 : cX13_walkOn.data.toList.drop 24 = dktX13_walkOn_1 := dk_seg dksX13_walkOn_0 24 rfl rfl
theorem dksX13_walkOn_2 : cX13_walkOn.data.toList.drop 47 = dktX13_walkOn_2 := dk_seg dksX13_walkOn_1 23 rfl rfl
theorem dksX13_walkOn_3 : cX13_walkOn.data.toList.drop 71 = dktX13_walkOn_3 := dk_seg dksX13_walkOn_2 24 rfl rfl
theorem dksX13_walkOn_4 : cX13_walkOn.data.toList.drop 94 = dktX13_walkOn_4 := dk_seg dksX13_walkOn_3 23 rfl rfl
theorem dksX13_walkOn_5 : cX13_walkOn.data.toList.drop 118 = dktX13_walkOn_5 := dk_seg dksX13_walkOn_4 24 rfl rfl
theorem dksX13_walkOn_6 : cX13_walkOn.data.toList.drop 140 = dktX13_walkOn_6 := dk_seg dksX13_walkOn_5 22 rfl rfl
theorem dX13_walkOn_0 : decode cX13_walkOn 0 = .ok (.iconst 0, 1) := dk_3 (dk_at dksX13_walkOn_0 0 rfl rfl)
theorem dX13_walkOn_1 : decode cX13_walkOn 1 = .ok (.istore_n 3, 1) := dk_62 (dk_at dksX13_walkOn_0 1 rfl rfl)
theorem dX13_walkOn_2 : decode cX13_walkOn 2 = .ok (.iload_n 3, 1) := dk_29 (dk_at dksX13_walkOn_0 2 rfl rfl)
theorem dX13_walkOn_3 : decode cX13_walkOn 3 = .ok (.bipush 7, 2) := dk_16 7 (dk_at dksX13_walkOn_0 3 rfl rfl)
theorem dX13_walkOn_5 : decode cX13_walkOn 5 = .ok (.if_icmp .ge 147, 3) := dk_162 0 147 (dk_at dksX13_walkOn_0 5 rfl rfl)
theorem dX13_walkOn_8 : decode cX13_walkOn 8 = .ok (.aload_n 0, 1) := dk_42 (dk_at dksX13_walkOn_0 8 rfl rfl)
theorem dX13_walkOn_9 : decode cX13_walkOn 9 = .ok (.getfield 25, 3) := dk_180 0 25 (dk_at dksX13_walkOn_0 9 rfl rfl)
theorem dX13_walkOn_12 : decode cX13_walkOn 12 = .ok (.bipush 7, 2) := dk_16 7 (dk_at dksX13_walkOn_0 12 rfl rfl)
theorem dX13_walkOn_14 : decode cX13_walkOn 14 = .ok (.iload_n 1, 1) := dk_27 (dk_at dksX13_walkOn_0 14 rfl rfl)
theorem dX13_walkOn_15 : decode cX13_walkOn 15 = .ok (.imul, 1) := dk_104 (dk_at dksX13_walkOn_0 15 rfl rfl)
theorem dX13_walkOn_16 : decode cX13_walkOn 16 = .ok (.iload_n 3, 1) := dk_29 (dk_at dksX13_walkOn_0 16 rfl rfl)
theorem dX13_walkOn_17 : decode cX13_walkOn 17 = .ok (.iadd, 1) := dk_96 (dk_at dksX13_walkOn_0 17 rfl rfl)
theorem dX13_walkOn_18 : decode cX13_walkOn 18 = .ok (.iaload, 1) := dk_46 (dk_at dksX13_walkOn_0 18 rfl rfl)
theorem dX13_walkOn_19 : decode cX13_walkOn 19 = .ok (.istore 4, 2) := dk_54 4 (dk_at dksX13_walkOn_0 19 rfl rfl)
theorem dX13_walkOn_21 : decode cX13_walkOn 21 = .ok (.iconst 0, 1) := dk_3 (dk_at dksX13_walkOn_0 21 rfl rfl)
theorem dX13_walkOn_22 : decode cX13_walkOn 22 = .ok (.istore 5, 2) := dk_54 5 (dk_at dksX13_walkOn_0 22 rfl rfl)
theorem dX13_walkOn_24 : decode cX13_walkOn 24 = .ok (.iload 5, 2) := dk_21 5 (dk_at dksX13_walkOn_1 0 rfl rfl)
theorem dX13_walkOn_26 : decode cX13_walkOn 26 = .ok (.bipush 7, 2) := dk_16 7 (dk_at dksX13_walkOn_1 2 rfl rfl)
theorem dX13_walkOn_28 : decode cX13_walkOn 28 = .ok (.if_icmp .ge 118, 3) := dk_162 0 118 (dk_at dksX13_walkOn_1 4 rfl rfl)
theorem dX13_walkOn_31 : decode cX13_walkOn 31 = .ok (.iload 4, 2) := dk_21 4 (dk_at dksX13_walkOn_1 7 rfl rfl)
theorem dX13_walkOn_33 : decode cX13_walkOn 33 = .ok (.ldc 170, 2) := dk_18 170 (dk_at dksX13_walkOn_1 9 rfl rfl)
theorem dX13_walkOn_35 : decode cX13_walkOn 35 = .ok (.if_icmp .ge 111, 3) := dk_162 0 111 (dk_at dksX13_walkOn_1 11 rfl rfl)
theorem dX13_walkOn_38 : decode cX13_walkOn 38 = .ok (.iload_n 1, 1) := dk_27 (dk_at dksX13_walkOn_1 14 rfl rfl)
theorem dX13_walkOn_39 : decode cX13_walkOn 39 = .ok (.istore 6, 2) := dk_54 6 (dk_at dksX13_walkOn_1 15 rfl rfl)
theorem dX13_walkOn_41 : decode cX13_walkOn 41 = .ok (.iconst 0, 1) := dk_3 (dk_at dksX13_walkOn_1 17 rfl rfl)
theorem dX13_walkOn_42 : decode cX13_walkOn 42 = .ok (.istore 7, 2) := dk_54 7 (dk_at dksX13_walkOn_1 18 rfl rfl)
theorem dX13_walkOn_44 : decode cX13_walkOn 44 = .ok (.iload 7, 2) := dk_21 7 (dk_at dksX13_walkOn_1 20 rfl rfl)
theorem dX13_walkOn_46 : decode cX13_walkOn 46 = .ok (.iload_n 2, 1) := dk_28 (dk_at dksX13_walkOn_1 22 rfl rfl)
theorem dX13_walkOn_47 : decode cX13_walkOn 47 = .ok (.if_icmp .ge 53, 3) := dk_162 0 53 (dk_at dksX13_walkOn_2 0 rfl rfl)
theorem dX13_walkOn_50 : decode cX13_walkOn 50 = .ok (.iload 6, 2) := dk_21 6 (dk_at dksX13_walkOn_2 3 rfl rfl)
theorem dX13_walkOn_52 : decode cX13_walkOn 52 = .ok (.aload_n 0, 1) := dk_42 (dk_at dksX13_walkOn_2 5 rfl rfl)
theorem dX13_walkOn_53 : decode cX13_walkOn 53 = .ok (.iload_n 1, 1) := dk_27 (dk_at dksX13_walkOn_2 6 rfl rfl)
theorem dX13_walkOn_54 : decode cX13_walkOn 54 = .ok (.iload 7, 2) := dk_21 7 (dk_at dksX13_walkOn_2 7 rfl rfl)
theorem dX13_walkOn_56 : decode cX13_walkOn 56 = .ok (.invokevirtual 215, 3) := dk_182 0 215 (dk_at dksX13_walkOn_2 9 rfl rfl)
theorem dX13_walkOn_59 : decode cX13_walkOn 59 = .ok (.iconst 1, 1) := dk_4 (dk_at dksX13_walkOn_2 12 rfl rfl)
theorem dX13_walkOn_60 : decode cX13_walkOn 60 = .ok (.if_icmp .ne 30, 3) := dk_160 0 30 (dk_at dksX13_walkOn_2 13 rfl rfl)
theorem dX13_walkOn_63 : decode cX13_walkOn 63 = .ok (.aload_n 0, 1) := dk_42 (dk_at dksX13_walkOn_2 16 rfl rfl)
theorem dX13_walkOn_64 : decode cX13_walkOn 64 = .ok (.aload_n 0, 1) := dk_42 (dk_at dksX13_walkOn_2 17 rfl rfl)
theorem dX13_walkOn_65 : decode cX13_walkOn 65 = .ok (.getfield 28, 3) := dk_180 0 28 (dk_at dksX13_walkOn_2 18 rfl rfl)
theorem dX13_walkOn_68 : decode cX13_walkOn 68 = .ok (.iload 7, 2) := dk_21 7 (dk_at dksX13_walkOn_2 21 rfl rfl)
theorem dX13_walkOn_70 : decode cX13_walkOn 70 = .ok (.iaload, 1) := dk_46 (dk_at dksX13_walkOn_2 23 rfl rfl)
theorem dX13_walkOn_71 : decode cX13_walkOn 71 = .ok (.iconst 2, 1) := dk_5 (dk_at dksX13_walkOn_3 0 rfl rfl)
theorem dX13_walkOn_72 : decode cX13_walkOn 72 = .ok (.invokevirtual 111, 3) := dk_182 0 111 (dk_at dksX13_walkOn_3 1 rfl rfl)
theorem dX13_walkOn_75 : decode cX13_walkOn 75 = .ok (.iload 5, 2) := dk_21 5 (dk_at dksX13_walkOn_3 4 rfl rfl)
theorem dX13_walkOn_77 : decode cX13_walkOn 77 = .ok (.if_icmp .ne 13, 3) := dk_160 0 13 (dk_at dksX13_walkOn_3 6 rfl rfl)
theorem dX13_walkOn_80 : decode cX13_walkOn 80 = .ok (.aload_n 0, 1) := dk_42 (dk_at dksX13_walkOn_3 9 rfl rfl)
theorem dX13_walkOn_81 : decode cX13_walkOn 81 = .ok (.getfield 31, 3) := dk_180 0 31 (dk_at dksX13_walkOn_3 10 rfl rfl)
theorem dX13_walkOn_84 : decode cX13_walkOn 84 = .ok (.iload 7, 2) := dk_21 7 (dk_at dksX13_walkOn_3 13 rfl rfl)
theorem dX13_walkOn_86 : decode cX13_walkOn 86 = .ok (.iaload, 1) := dk_46 (dk_at dksX13_walkOn_3 15 rfl rfl)
theorem dX13_walkOn_87 : decode cX13_walkOn 87 = .ok (.goto 4, 3) := dk_167 0 4 (dk_at dksX13_walkOn_3 16 rfl rfl)
theorem dX13_walkOn_90 : decode cX13_walkOn 90 = .ok (.iconst 0, 1) := dk_3 (dk_at dksX13_walkOn_3 19 rfl rfl)
theorem dX13_walkOn_91 : decode cX13_walkOn 91 = .ok (.iadd, 1) := dk_96 (dk_at dksX13_walkOn_3 20 rfl rfl)
theorem dX13_walkOn_92 : decode cX13_walkOn 92 = .ok (.istore 6, 2) := dk_54 6 (dk_at dksX13_walkOn_3 21 rfl rfl)
theorem dX13_walkOn_94 : decode cX13_walkOn 94 = .ok (.iinc 7 1, 3) := dk_132 7 1 (dk_at dksX13_walkOn_4 0 rfl rfl)
theorem dX13_walkOn_97 : decode cX13_walkOn 97 = .ok (.goto (-53), 3) := dk_167 255 203 (dk_at dksX13_walkOn_4 3 rfl rfl)
theorem dX13_walkOn_100 : decode cX13_walkOn 100 = .ok (.aload_n 0, 1) := dk_42 (dk_at dksX13_walkOn_4 6 rfl rfl)
theorem dX13_walkOn_101 : decode cX13_walkOn 101 = .ok (.getfield 22, 3) := dk_180 0 22 (dk_at dksX13_walkOn_4 7 rfl rfl)
theorem dX13_walkOn_104 : decode cX13_walkOn 104 = .ok (.bipush 7, 2) := dk_16 7 (dk_at dksX13_walkOn_4 10 rfl rfl)
theorem dX13_walkOn_106 : decode cX13_walkOn 106 = .ok (.iload_n 3, 1) := dk_29 (dk_at dksX13_walkOn_4 12 rfl rfl)
theorem dX13_walkOn_107 : decode cX13_walkOn 107 = .ok (.imul, 1) := dk_104 (dk_at dksX13_walkOn_4 13 rfl rfl)
theorem dX13_walkOn_108 : decode cX13_walkOn 108 = .ok (.iload 5, 2) := dk_21 5 (dk_at dksX13_walkOn_4 14 rfl rfl)
theorem dX13_walkOn_110 : decode cX13_walkOn 110 = .ok (.iadd, 1) := dk_96 (dk_at dksX13_walkOn_4 16 rfl rfl)
theorem dX13_walkOn_111 : decode cX13_walkOn 111 = .ok (.iaload, 1) := dk_46 (dk_at dksX13_walkOn_4 17 rfl rfl)
theorem dX13_walkOn_112 : decode cX13_walkOn 112 = .ok (.ldc 170, 2) := dk_18 170 (dk_at dksX13_walkOn_4 18 rfl rfl)
theorem dX13_walkOn_114 : decode cX13_walkOn 114 = .ok (.if_icmp .ge 26, 3) := dk_162 0 26 (dk_at dksX13_walkOn_4 20 rfl rfl)
theorem dX13_walkOn_117 : decode cX13_walkOn 117 = .ok (.aload_n 0, 1) := dk_42 (dk_at dksX13_walkOn_4 23 rfl rfl)
theorem dX13_walkOn_118 : decode cX13_walkOn 118 = .ok (.iload 6, 2) := dk_21 6 (dk_at dksX13_walkOn_5 0 rfl rfl)
theorem dX13_walkOn_120 : decode cX13_walkOn 120 = .ok (.iload 5, 2) := dk_21 5 (dk_at dksX13_walkOn_5 2 rfl rfl)
theorem dX13_walkOn_122 : decode cX13_walkOn 122 = .ok (.iload 4, 2) := dk_21 4 (dk_at dksX13_walkOn_5 4 rfl rfl)
theorem dX13_walkOn_124 : decode cX13_walkOn 124 = .ok (.aload_n 0, 1) := dk_42 (dk_at dksX13_walkOn_5 6 rfl rfl)
theorem dX13_walkOn_125 : decode cX13_walkOn 125 = .ok (.getfield 22, 3) := dk_180 0 22 (dk_at dksX13_walkOn_5 7 rfl rfl)
theorem dX13_walkOn_128 : decode cX13_walkOn 128 = .ok (.bipush 7, 2) := dk_16 7 (dk_at dksX13_walkOn_5 10 rfl rfl)
theorem dX13_walkOn_130 : decode cX13_walkOn 130 = .ok (.iload_n 3, 1) := dk_29 (dk_at dksX13_walkOn_5 12 rfl rfl)
theorem dX13_walkOn_131 : decode cX13_walkOn 131 = .ok (.imul, 1) := dk_104 (dk_at dksX13_walkOn_5 13 rfl rfl)
theorem dX13_walkOn_132 : decode cX13_walkOn 132 = .ok (.iload 5, 2) := dk_21 5 (dk_at dksX13_walkOn_5 14 rfl rfl)
theorem dX13_walkOn_134 : decode cX13_walkOn 134 = .ok (.iadd, 1) := dk_96 (dk_at dksX13_walkOn_5 16 rfl rfl)
theorem dX13_walkOn_135 : decode cX13_walkOn 135 = .ok (.iaload, 1) := dk_46 (dk_at dksX13_walkOn_5 17 rfl rfl)
theorem dX13_walkOn_136 : decode cX13_walkOn 136 = .ok (.iadd, 1) := dk_96 (dk_at dksX13_walkOn_5 18 rfl rfl)
theorem dX13_walkOn_137 : decode cX13_walkOn 137 = .ok (.invokevirtual 218, 3) := dk_182 0 218 (dk_at dksX13_walkOn_5 19 rfl rfl)
theorem dX13_walkOn_140 : decode cX13_walkOn 140 = .ok (.iinc 5 1, 3) := dk_132 5 1 (dk_at dksX13_walkOn_6 0 rfl rfl)
theorem dX13_walkOn_143 : decode cX13_walkOn 143 = .ok (.goto (-119), 3) := dk_167 255 137 (dk_at dksX13_walkOn_6 3 rfl rfl)
theorem dX13_walkOn_146 : decode cX13_walkOn 146 = .ok (.iinc 3 1, 3) := dk_132 3 1 (dk_at dksX13_walkOn_6 6 rfl rfl)
theorem dX13_walkOn_149 : decode cX13_walkOn 149 = .ok (.goto (-147), 3) := dk_167 255 109 (dk_at dksX13_walkOn_6 9 rfl rfl)
theorem dX13_walkOn_152 : decode cX13_walkOn 152 = .ok (.return_, 1) := dk_177 (dk_at dksX13_walkOn_6 12 rfl rfl)
abbrev cX13_digit : ByteArray := prog_16_method_56_code
def yX13_digit : MethodName := ⟨RX13, "digit", "(II)I"⟩
def dkwX13_digit_0 : List UInt8 := [27, 42, 180, 0, 31, 28, 46, 108, 6, 112, 172]
abbrev dktX13_digit_0 : List UInt8 := dkwX13_digit_0 ++ []
theorem dksX13_digit_0 : cX13_digit.data.toList.drop 0 = dktX13_digit_0 := by decide +kernel
theorem dX13_digit_0 : decode cX13_digit 0 = .ok (.iload_n 1, 1) := dk_27 (dk_at dksX13_digit_0 0 rfl rfl)
theorem dX13_digit_1 : decode cX13_digit 1 = .ok (.aload_n 0, 1) := dk_42 (dk_at dksX13_digit_0 1 rfl rfl)
theorem dX13_digit_2 : decode cX13_digit 2 = .ok (.getfield 31, 3) := dk_180 0 31 (dk_at dksX13_digit_0 2 rfl rfl)
theorem dX13_digit_5 : decode cX13_digit 5 = .ok (.iload_n 2, 1) := dk_28 (dk_at dksX13_digit_0 5 rfl rfl)
theorem dX13_digit_6 : decode cX13_digit 6 = .ok (.iaload, 1) := dk_46 (dk_at dksX13_digit_0 6 rfl rfl)
theorem dX13_digit_7 : decode cX13_digit 7 = .ok (.idiv, 1) := dk_108 (dk_at dksX13_digit_0 7 rfl rfl)
theorem dX13_digit_8 : decode cX13_digit 8 = .ok (.iconst 3, 1) := dk_6 (dk_at dksX13_digit_0 8 rfl rfl)
theorem dX13_digit_9 : decode cX13_digit 9 = .ok (.irem, 1) := dk_112 (dk_at dksX13_digit_0 9 rfl rfl)
theorem dX13_digit_10 : decode cX13_digit 10 = .ok (.ireturn, 1) := dk_172 (dk_at dksX13_digit_0 10 rfl rfl)
abbrev cX13_shorter : ByteArray := prog_16_method_57_code
def yX13_shorter : MethodName := ⟨RX13, "shorter", "(III)V"⟩
def dkwX13_shorter_1 : List UInt8 := [184, 0, 136, 79, 177]
abbrev dktX13_shorter_1 : List UInt8 := dkwX13_shorter_1 ++ []
def dkwX13_shorter_0 : List UInt8 := [42, 180, 0, 25, 16, 7, 27, 104, 28, 96, 42, 180, 0, 25, 16, 7, 27, 104, 28, 96, 46, 29]
abbrev dktX13_shorter_0 : List UInt8 := dkwX13_shorter_0 ++ dktX13_shorter_1
theorem dksX13_shorter_0 : cX13_shorter.data.toList.drop 0 = dktX13_shorter_0 := by decide +kernel
theorem dksX13_shorter_1 : cX13_shorter.data.toList.drop 22 = dktX13_shorter_1 := dk_seg dksX13_shorter_0 22 rfl rfl
theorem dX13_shorter_0 : decode cX13_shorter 0 = .ok (.aload_n 0, 1) := dk_42 (dk_at dksX13_shorter_0 0 rfl rfl)
theorem dX13_shorter_1 : decode cX13_shorter 1 = .ok (.getfield 25, 3) := dk_180 0 25 (dk_at dksX13_shorter_0 1 rfl rfl)
theorem dX13_shorter_4 : decode cX13_shorter 4 = .ok (.bipush 7, 2) := dk_16 7 (dk_at dksX13_shorter_0 4 rfl rfl)
theorem dX13_shorter_6 : decode cX13_shorter 6 = .ok (.iload_n 1, 1) := dk_27 (dk_at dksX13_shorter_0 6 rfl rfl)
theorem dX13_shorter_7 : decode cX13_shorter 7 = .ok (.imul, 1) := dk_104 (dk_at dksX13_shorter_0 7 rfl rfl)
theorem dX13_shorter_8 : decode cX13_shorter 8 = .ok (.iload_n 2, 1) := dk_28 (dk_at dksX13_shorter_0 8 rfl rfl)
theorem dX13_shorter_9 : decode cX13_shorter 9 = .ok (.iadd, 1) := dk_96 (dk_at dksX13_shorter_0 9 rfl rfl)
theorem dX13_shorter_10 : decode cX13_shorter 10 = .ok (.aload_n 0, 1) := dk_42 (dk_at dksX13_shorter_0 10 rfl rfl)
theorem dX13_shorter_11 : decode cX13_shorter 11 = .ok (.getfield 25, 3) := dk_180 0 25 (dk_at dksX13_shorter_0 11 rfl rfl)
theorem dX13_shorter_14 : decode cX13_shorter 14 = .ok (.bipush 7, 2) := dk_16 7 (dk_at dksX13_shorter_0 14 rfl rfl)
theorem dX13_shorter_16 : decode cX13_shorter 16 = .ok (.iload_n 1, 1) := dk_27 (dk_at dksX13_shorter_0 16 rfl rfl)
theorem dX13_shorter_17 : decode cX13_shorter 17 = .ok (.imul, 1) := dk_104 (dk_at dksX13_shorter_0 17 rfl rfl)
theorem dX13_shorter_18 : decode cX13_shorter 18 = .ok (.iload_n 2, 1) := dk_28 (dk_at dksX13_shorter_0 18 rfl rfl)
theorem dX13_shorter_19 : decode cX13_shorter 19 = .ok (.iadd, 1) := dk_96 (dk_at dksX13_shorter_0 19 rfl rfl)
theorem dX13_shorter_20 : decode cX13_shorter 20 = .ok (.iaload, 1) := dk_46 (dk_at dksX13_shorter_0 20 rfl rfl)
theorem dX13_shorter_21 : decode cX13_shorter 21 = .ok (.iload_n 3, 1) := dk_29 (dk_at dksX13_shorter_0 21 rfl rfl)
theorem dX13_shorter_22 : decode cX13_shorter 22 = .ok (.invokestatic 136, 3) := dk_184 0 136 (dk_at dksX13_shorter_1 0 rfl rfl)
theorem dX13_shorter_25 : decode cX13_shorter 25 = .ok (.iastore, 1) := dk_79 (dk_at dksX13_shorter_1 3 rfl rfl)
theorem dX13_shorter_26 : decode cX13_shorter 26 = .ok (.return_, 1) := dk_177 (dk_at dksX13_shorter_1 4 rfl rfl)
abbrev cX13_takeOn : ByteArray := prog_16_method_60_code
def yX13_takeOn : MethodName := ⟨RX13, "takeOn", "(III)V"⟩
def dkwX13_takeOn_5 : List UInt8 := [180, 0, 25, 16, 7, 27, 104, 21, 6, 96, 46, 182, 0, 218, 132, 5, 1, 167, 255, 177, 177]
abbrev dktX13_takeOn_5 : List UInt8 := dkwX13_takeOn_5 ++ []
def dkwX13_takeOn_4 : List UInt8 := [46, 3, 182, 0, 111, 96, 29, 163, 0, 30, 42, 27, 42, 180, 0, 31, 21, 5, 46, 96, 21, 6, 42]
abbrev dktX13_takeOn_4 : List UInt8 := dkwX13_takeOn_4 ++ dktX13_takeOn_5
def dkwX13_takeOn_3 : List UInt8 := [182, 0, 111, 54, 6, 42, 27, 21, 5, 182, 0, 215, 154, 0, 49, 21, 4, 42, 42, 180, 0, 28, 21, 5]
abbrev dktX13_takeOn_3 : List UInt8 := dkwX13_takeOn_3 ++ dktX13_takeOn_4
def dkwX13_takeOn_2 : List UInt8 := [132, 5, 1, 167, 255, 215, 3, 54, 5, 21, 5, 28, 162, 0, 79, 42, 42, 180, 0, 28, 21, 5, 46, 4]
abbrev dktX13_takeOn_2 : List UInt8 := dkwX13_takeOn_2 ++ dktX13_takeOn_3
def dkwX13_takeOn_1 : List UInt8 := [160, 0, 18, 42, 42, 180, 0, 28, 21, 5, 46, 3, 182, 0, 111, 167, 0, 4, 3, 96, 54, 4]
abbrev dktX13_takeOn_1 : List UInt8 := dkwX13_takeOn_1 ++ dktX13_takeOn_2
def dkwX13_takeOn_0 : List UInt8 := [3, 54, 4, 3, 54, 5, 21, 5, 28, 162, 0, 41, 21, 4, 42, 27, 21, 5, 182, 0, 215, 4]
abbrev dktX13_takeOn_0 : List UInt8 := dkwX13_takeOn_0 ++ dktX13_takeOn_1
theorem dksX13_takeOn_0 : cX13_takeOn.data.toList.drop 0 = dktX13_takeOn_0 := by decide +kernel
theorem dksX13_takeOn_1 : cX13_takeOn.data.toList.drop 22 = dktX13_takeOn_1 := dk_seg dksX13_takeOn_0 22 rfl rfl
theorem dksX13_takeOn_2 : cX13_takeOn.data.toList.drop 44 = dktX13_takeOn_2 := dk_seg dksX13_takeOn_1 22 rfl rfl
theorem dksX13_takeOn_3 : cX13_takeOn.data.toList.drop 68 = dktX13_takeOn_3 := dk_seg dksX13_takeOn_2 24 rfl rfl
theorem dksX13_takeOn_4 : cX13_takeOn.data.toList.drop 92 = dktX13_takeOn_4 := dk_seg dksX13_takeOn_3 24 rfl rfl
theorem dksX13_takeOn_5 : cX13_takeOn.data.toList.drop 115 = dktX13_takeOn_5 := dk_seg dksX13_takeOn_4 23 rfl rfl
theorem dX13_takeOn_0 : decode cX13_takeOn 0 = .ok (.iconst 0, 1) := dk_3 (dk_at dksX13_takeOn_0 0 rfl rfl)
theorem dX13_takeOn_1 : decode cX13_takeOn 1 = .ok (.istore 4, 2) := dk_54 4 (dk_at dksX13_takeOn_0 1 rfl rfl)
theorem dX13_takeOn_3 : decode cX13_takeOn 3 = .ok (.iconst 0, 1) := dk_3 (dk_at dksX13_takeOn_0 3 rfl rfl)
theorem dX13_takeOn_4 : decode cX13_takeOn 4 = .ok (.istore 5, 2) := dk_54 5 (dk_at dksX13_takeOn_0 4 rfl rfl)
theorem dX13_takeOn_6 : decode cX13_takeOn 6 = .ok (.iload 5, 2) := dk_21 5 (dk_at dksX13_takeOn_0 6 rfl rfl)
theorem dX13_takeOn_8 : decode cX13_takeOn 8 = .ok (.iload_n 2, 1) := dk_28 (dk_at dksX13_takeOn_0 8 rfl rfl)
theorem dX13_takeOn_9 : decode cX13_takeOn 9 = .ok (.if_icmp .ge 41, 3) := dk_162 0 41 (dk_at dksX13_takeOn_0 9 rfl rfl)
theorem dX13_takeOn_12 : decode cX13_takeOn 12 = .ok (.iload 4, 2) := dk_21 4 (dk_at dksX13_takeOn_0 12 rfl rfl)
theorem dX13_takeOn_14 : decode cX13_takeOn 14 = .ok (.aload_n 0, 1) := dk_42 (dk_at dksX13_takeOn_0 14 rfl rfl)
theorem dX13_takeOn_15 : decode cX13_takeOn 15 = .ok (.iload_n 1, 1) := dk_27 (dk_at dksX13_takeOn_0 15 rfl rfl)
theorem dX13_takeOn_16 : decode cX13_takeOn 16 = .ok (.iload 5, 2) := dk_21 5 (dk_at dksX13_takeOn_0 16 rfl rfl)
theorem dX13_takeOn_18 : decode cX13_takeOn 18 = .ok (.invokevirtual 215, 3) := dk_182 0 215 (dk_at dksX13_takeOn_0 18 rfl rfl)
theorem dX13_takeOn_21 : decode cX13_takeOn 21 = .ok (.iconst 1, 1) := dk_4 (dk_at dksX13_takeOn_0 21 rfl rfl)
theorem dX13_takeOn_22 : decode cX13_takeOn 22 = .ok (.if_icmp .ne 18, 3) := dk_160 0 18 (dk_at dksX13_takeOn_1 0 rfl rfl)
theorem dX13_takeOn_25 : decode cX13_takeOn 25 = .ok (.aload_n 0, 1) := dk_42 (dk_at dksX13_takeOn_1 3 rfl rfl)
theorem dX13_takeOn_26 : decode cX13_takeOn 26 = .ok (.aload_n 0, 1) := dk_42 (dk_at dksX13_takeOn_1 4 rfl rfl)
theorem dX13_takeOn_27 : decode cX13_takeOn 27 = .ok (.getfield 28, 3) := dk_180 0 28 (dk_at dksX13_takeOn_1 5 rfl rfl)
theorem dX13_takeOn_30 : decode cX13_takeOn 30 = .ok (.iload 5, 2) := dk_21 5 (dk_at dksX13_takeOn_1 8 rfl rfl)
theorem dX13_takeOn_32 : decode cX13_takeOn 32 = .ok (.iaload, 1) := dk_46 (dk_at dksX13_takeOn_1 10 rfl rfl)
theorem dX13_takeOn_33 : decode cX13_takeOn 33 = .ok (.iconst 0, 1) := dk_3 (dk_at dksX13_takeOn_1 11 rfl rfl)
theorem dX13_takeOn_34 : decode cX13_takeOn 34 = .ok (.invokevirtual 111, 3) := dk_182 0 111 (dk_at dksX13_takeOn_1 12 rfl rfl)
theorem dX13_takeOn_37 : decode cX13_takeOn 37 = .ok (.goto 4, 3) := dk_167 0 4 (dk_at dksX13_takeOn_1 15 rfl rfl)
theorem dX13_takeOn_40 : decode cX13_takeOn 40 = .ok (.iconst 0, 1) := dk_3 (dk_at dksX13_takeOn_1 18 rfl rfl)
theorem dX13_takeOn_41 : decode cX13_takeOn 41 = .ok (.iadd, 1) := dk_96 (dk_at dksX13_takeOn_1 19 rfl rfl)
theorem dX13_takeOn_42 : decode cX13_takeOn 42 = .ok (.istore 4, 2) := dk_54 4 (dk_at dksX13_takeOn_1 20 rfl rfl)
theorem dX13_takeOn_44 : decode cX13_takeOn 44 = .ok (.iinc 5 1, 3) := dk_132 5 1 (dk_at dksX13_takeOn_2 0 rfl rfl)
theorem dX13_takeOn_47 : decode cX13_takeOn 47 = .ok (.goto (-41), 3) := dk_167 255 215 (dk_at dksX13_takeOn_2 3 rfl rfl)
theorem dX13_takeOn_50 : decode cX13_takeOn 50 = .ok (.iconst 0, 1) := dk_3 (dk_at dksX13_takeOn_2 6 rfl rfl)
theorem dX13_takeOn_51 : decode cX13_takeOn 51 = .ok (.istore 5, 2) := dk_54 5 (dk_at dksX13_takeOn_2 7 rfl rfl)
theorem dX13_takeOn_53 : decode cX13_takeOn 53 = .ok (.iload 5, 2) := dk_21 5 (dk_at dksX13_takeOn_2 9 rfl rfl)
theorem dX13_takeOn_55 : decode cX13_takeOn 55 = .ok (.iload_n 2, 1) := dk_28 (dk_at dksX13_takeOn_2 11 rfl rfl)
theorem dX13_takeOn_56 : decode cX13_takeOn 56 = .ok (.if_icmp .ge 79, 3) := dk_162 0 79 (dk_at dksX13_takeOn_2 12 rfl rfl)
theorem dX13_takeOn_59 : decode cX13_takeOn 59 = .ok (.aload_n 0, 1) := dk_42 (dk_at dksX13_takeOn_2 15 rfl rfl)
theorem dX13_takeOn_60 : decode cX13_takeOn 60 = .ok (.aload_n 0, 1) := dk_42 (dk_at dksX13_takeOn_2 16 rfl rfl)
theorem dX13_takeOn_61 : decode cX13_takeOn 61 = .ok (.getfield 28, 3) := dk_180 0 28 (dk_at dksX13_takeOn_2 17 rfl rfl)
theorem dX13_takeOn_64 : decode cX13_takeOn 64 = .ok (.iload 5, 2) := dk_21 5 (dk_at dksX13_takeOn_2 20 rfl rfl)
theorem dX13_takeOn_66 : decode cX13_takeOn 66 = .ok (.iaload, 1) := dk_46 (dk_at dksX13_takeOn_2 22 rfl rfl)
theorem dX13_takeOn_67 : decode cX13_takeOn 67 = .ok (.iconst 1, 1) := dk_4 (dk_at dksX13_takeOn_2 23 rfl rfl)
theorem dX13_takeOn_68 : decode cX13_takeOn 68 = .ok (.invokevirtual 111, 3) := dk_182 0 111 (dk_at dksX13_takeOn_3 0 rfl rfl)
theorem dX13_takeOn_71 : decode cX13_takeOn 71 = .ok (.istore 6, 2) := dk_54 6 (dk_at dksX13_takeOn_3 3 rfl rfl)
theorem dX13_takeOn_73 : decode cX13_takeOn 73 = .ok (.aload_n 0, 1) := dk_42 (dk_at dksX13_takeOn_3 5 rfl rfl)
theorem dX13_takeOn_74 : decode cX13_takeOn 74 = .ok (.iload_n 1, 1) := dk_27 (dk_at dksX13_takeOn_3 6 rfl rfl)
theorem dX13_takeOn_75 : decode cX13_takeOn 75 = .ok (.iload 5, 2) := dk_21 5 (dk_at dksX13_takeOn_3 7 rfl rfl)
theorem dX13_takeOn_77 : decode cX13_takeOn 77 = .ok (.invokevirtual 215, 3) := dk_182 0 215 (dk_at dksX13_takeOn_3 9 rfl rfl)
theorem dX13_takeOn_80 : decode cX13_takeOn 80 = .ok (.ifCond .ne 49, 3) := dk_154 0 49 (dk_at dksX13_takeOn_3 12 rfl rfl)
theorem dX13_takeOn_83 : decode cX13_takeOn 83 = .ok (.iload 4, 2) := dk_21 4 (dk_at dksX13_takeOn_3 15 rfl rfl)
theorem dX13_takeOn_85 : decode cX13_takeOn 85 = .ok (.aload_n 0, 1) := dk_42 (dk_at dksX13_takeOn_3 17 rfl rfl)
theorem dX13_takeOn_86 : decode cX13_takeOn 86 = .ok (.aload_n 0, 1) := dk_42 (dk_at dksX13_takeOn_3 18 rfl rfl)
theorem dX13_takeOn_87 : decode cX13_takeOn 87 = .ok (.getfield 28, 3) := dk_180 0 28 (dk_at dksX13_takeOn_3 19 rfl rfl)
theorem dX13_takeOn_90 : decode cX13_takeOn 90 = .ok (.iload 5, 2) := dk_21 5 (dk_at dksX13_takeOn_3 22 rfl rfl)
theorem dX13_takeOn_92 : decode cX13_takeOn 92 = .ok (.iaload, 1) := dk_46 (dk_at dksX13_takeOn_4 0 rfl rfl)
theorem dX13_takeOn_93 : decode cX13_takeOn 93 = .ok (.iconst 0, 1) := dk_3 (dk_at dksX13_takeOn_4 1 rfl rfl)
theorem dX13_takeOn_94 : decode cX13_takeOn 94 = .ok (.invokevirtual 111, 3) := dk_182 0 111 (dk_at dksX13_takeOn_4 2 rfl rfl)
theorem dX13_takeOn_97 : decode cX13_takeOn 97 = .ok (.iadd, 1) := dk_96 (dk_at dksX13_takeOn_4 5 rfl rfl)
theorem dX13_takeOn_98 : decode cX13_takeOn 98 = .ok (.iload_n 3, 1) := dk_29 (dk_at dksX13_takeOn_4 6 rfl rfl)
theorem dX13_takeOn_99 : decode cX13_takeOn 99 = .ok (.if_icmp .gt 30, 3) := dk_163 0 30 (dk_at dksX13_takeOn_4 7 rfl rfl)
theorem dX13_takeOn_102 : decode cX13_takeOn 102 = .ok (.aload_n 0, 1) := dk_42 (dk_at dksX13_takeOn_4 10 rfl rfl)
theorem dX13_takeOn_103 : decode cX13_takeOn 103 = .ok (.iload_n 1, 1) := dk_27 (dk_at dksX13_takeOn_4 11 rfl rfl)
theorem dX13_takeOn_104 : decode cX13_takeOn 104 = .ok (.aload_n 0, 1) := dk_42 (dk_at dksX13_takeOn_4 12 rfl rfl)
theorem dX13_takeOn_105 : decode cX13_takeOn 105 = .ok (.getfield 31, 3) := dk_180 0 31 (dk_at dksX13_takeOn_4 13 rfl rfl)
theorem dX13_takeOn_108 : decode cX13_takeOn 108 = .ok (.iload 5, 2) := dk_21 5 (dk_at dksX13_takeOn_4 16 rfl rfl)
theorem dX13_takeOn_110 : decode cX13_takeOn 110 = .ok (.iaload, 1) := dk_46 (dk_at dksX13_takeOn_4 18 rfl rfl)
theorem dX13_takeOn_111 : decode cX13_takeOn 111 = .ok (.iadd, 1) := dk_96 (dk_at dksX13_takeOn_4 19 rfl rfl)
theorem dX13_takeOn_112 : decode cX13_takeOn 112 = .ok (.iload 6, 2) := dk_21 6 (dk_at dksX13_takeOn_4 20 rfl rfl)
theorem dX13_takeOn_114 : decode cX13_takeOn 114 = .ok (.aload_n 0, 1) := dk_42 (dk_at dksX13_takeOn_4 22 rfl rfl)
theorem dX13_takeOn_115 : decode cX13_takeOn 115 = .ok (.getfield 25, 3) := dk_180 0 25 (dk_at dksX13_takeOn_5 0 rfl rfl)
theorem dX13_takeOn_118 : decode cX13_takeOn 118 = .ok (.bipush 7, 2) := dk_16 7 (dk_at dksX13_takeOn_5 3 rfl rfl)
theorem dX13_takeOn_120 : decode cX13_takeOn 120 = .ok (.iload_n 1, 1) := dk_27 (dk_at dksX13_takeOn_5 5 rfl rfl)
theorem dX13_takeOn_121 : decode cX13_takeOn 121 = .ok (.imul, 1) := dk_104 (dk_at dksX13_takeOn_5 6 rfl rfl)
theorem dX13_takeOn_122 : decode cX13_takeOn 122 = .ok (.iload 6, 2) := dk_21 6 (dk_at dksX13_takeOn_5 7 rfl rfl)
theorem dX13_takeOn_124 : decode cX13_takeOn 124 = .ok (.iadd, 1) := dk_96 (dk_at dksX13_takeOn_5 9 rfl rfl)
theorem dX13_takeOn_125 : decode cX13_takeOn 125 = .ok (.iaload, 1) := dk_46 (dk_at dksX13_takeOn_5 10 rfl rfl)
theorem dX13_takeOn_126 : decode cX13_takeOn 126 = .ok (.invokevirtual 218, 3) := dk_182 0 218 (dk_at dksX13_takeOn_5 11 rfl rfl)
theorem dX13_takeOn_129 : decode cX13_takeOn 129 = .ok (.iinc 5 1, 3) := dk_132 5 1 (dk_at dksX13_takeOn_5 14 rfl rfl)
theorem dX13_takeOn_132 : decode cX13_takeOn 132 = .ok (.goto (-79), 3) := dk_167 255 177 (dk_at dksX13_takeOn_5 17 rfl rfl)
theorem dX13_takeOn_135 : decode cX13_takeOn 135 = .ok (.return_, 1) := dk_177 (dk_at dksX13_takeOn_5 20 rfl rfl)
abbrev cX13_told : ByteArray := prog_16_method_64_code
def yX13_told : MethodName := ⟨RX13, "told", "(I)I"⟩
def dkwX13_told_0 : List UInt8 := [27, 18, 170, 161, 0, 12, 42, 18, 160, 182, 0, 92, 167, 0, 4, 27, 172]
abbrev dktX13_told_0 : List UInt8 := dkwX13_told_0 ++ []
theorem dksX13_told_0 : cX13_told.data.toList.drop 0 = dktX13_told_0 := by decide +kernel
theorem dX13_told_0 : decode cX13_told 0 = .ok (.iload_n 1, 1) := dk_27 (dk_at dksX13_told_0 0 rfl rfl)
theorem dX13_told_1 : decode cX13_told 1 = .ok (.ldc 170, 2) := dk_18 170 (dk_at dksX13_told_0 1 rfl rfl)
theorem dX13_told_3 : decode cX13_told 3 = .ok (.if_icmp .lt 12, 3) := dk_161 0 12 (dk_at dksX13_told_0 3 rfl rfl)
theorem dX13_told_6 : decode cX13_told 6 = .ok (.aload_n 0, 1) := dk_42 (dk_at dksX13_told_0 6 rfl rfl)
theorem dX13_told_7 : decode cX13_told 7 = .ok (.ldc 160, 2) := dk_18 160 (dk_at dksX13_told_0 7 rfl rfl)
theorem dX13_told_9 : decode cX13_told 9 = .ok (.invokevirtual 92, 3) := dk_182 0 92 (dk_at dksX13_told_0 9 rfl rfl)
theorem dX13_told_12 : decode cX13_told 12 = .ok (.goto 4, 3) := dk_167 0 4 (dk_at dksX13_told_0 12 rfl rfl)
theorem dX13_told_15 : decode cX13_told 15 = .ok (.iload_n 1, 1) := dk_27 (dk_at dksX13_told_0 15 rfl rfl)
theorem dX13_told_16 : decode cX13_told 16 = .ok (.ireturn, 1) := dk_172 (dk_at dksX13_told_0 16 rfl rfl)
abbrev cX13_gets : ByteArray := prog_16_method_67_code
def yX13_gets : MethodName := ⟨RX13, "gets", "(II)I"⟩
def dkwX13_gets_1 : List UInt8 := [42, 27, 28, 182, 0, 239, 62, 29, 156, 0, 12, 42, 18, 160, 182, 0, 92, 167, 0, 4, 29, 172]
abbrev dktX13_gets_1 : List UInt8 := dkwX13_gets_1 ++ []
def dkwX13_gets_0 : List UInt8 := [42, 27, 182, 0, 117, 153, 0, 12, 42, 28, 8, 182, 0, 224, 154, 0, 10, 42, 18, 72, 182, 0, 92, 172]
abbrev dktX13_gets_0 : List UInt8 := dkwX13_gets_0 ++ dktX13_gets_1
theorem dksX13_gets_0 : cX13_gets.data.toList.drop 0 = dktX13_gets_0 := by decide +kernel
theorem dksX13_gets_1 : cX13_gets.data.toList.drop 24 = dktX13_gets_1 := dk_seg dksX13_gets_0 24 rfl rfl
theorem dX13_gets_0 : decode cX13_gets 0 = .ok (.aload_n 0, 1) := dk_42 (dk_at dksX13_gets_0 0 rfl rfl)
theorem dX13_gets_1 : decode cX13_gets 1 = .ok (.iload_n 1, 1) := dk_27 (dk_at dksX13_gets_0 1 rfl rfl)
theorem dX13_gets_2 : decode cX13_gets 2 = .ok (.invokevirtual 117, 3) := dk_182 0 117 (dk_at dksX13_gets_0 2 rfl rfl)
theorem dX13_gets_5 : decode cX13_gets 5 = .ok (.ifCond .eq 12, 3) := dk_153 0 12 (dk_at dksX13_gets_0 5 rfl rfl)
theorem dX13_gets_8 : decode cX13_gets 8 = .ok (.aload_n 0, 1) := dk_42 (dk_at dksX13_gets_0 8 rfl rfl)
theorem dX13_gets_9 : decode cX13_gets 9 = .ok (.iload_n 2, 1) := dk_28 (dk_at dksX13_gets_0 9 rfl rfl)
theorem dX13_gets_10 : decode cX13_gets 10 = .ok (.iconst 5, 1) := dk_8 (dk_at dksX13_gets_0 10 rfl rfl)
theorem dX13_gets_11 : decode cX13_gets 11 = .ok (.invokevirtual 224, 3) := dk_182 0 224 (dk_at dksX13_gets_0 11 rfl rfl)
theorem dX13_gets_14 : decode cX13_gets 14 = .ok (.ifCond .ne 10, 3) := dk_154 0 10 (dk_at dksX13_gets_0 14 rfl rfl)
theorem dX13_gets_17 : decode cX13_gets 17 = .ok (.aload_n 0, 1) := dk_42 (dk_at dksX13_gets_0 17 rfl rfl)
theorem dX13_gets_18 : decode cX13_gets 18 = .ok (.ldc 72, 2) := dk_18 72 (dk_at dksX13_gets_0 18 rfl rfl)
theorem dX13_gets_20 : decode cX13_gets 20 = .ok (.invokevirtual 92, 3) := dk_182 0 92 (dk_at dksX13_gets_0 20 rfl rfl)
theorem dX13_gets_23 : decode cX13_gets 23 = .ok (.ireturn, 1) := dk_172 (dk_at dksX13_gets_0 23 rfl rfl)
theorem dX13_gets_24 : decode cX13_gets 24 = .ok (.aload_n 0, 1) := dk_42 (dk_at dksX13_gets_1 0 rfl rfl)
theorem dX13_gets_25 : decode cX13_gets 25 = .ok (.iload_n 1, 1) := dk_27 (dk_at dksX13_gets_1 1 rfl rfl)
theorem dX13_gets_26 : decode cX13_gets 26 = .ok (.iload_n 2, 1) := dk_28 (dk_at dksX13_gets_1 2 rfl rfl)
theorem dX13_gets_27 : decode cX13_gets 27 = .ok (.invokevirtual 239, 3) := dk_182 0 239 (dk_at dksX13_gets_1 3 rfl rfl)
theorem dX13_gets_30 : decode cX13_gets 30 = .ok (.istore_n 3, 1) := dk_62 (dk_at dksX13_gets_1 6 rfl rfl)
theorem dX13_gets_31 : decode cX13_gets 31 = .ok (.iload_n 3, 1) := dk_29 (dk_at dksX13_gets_1 7 rfl rfl)
theorem dX13_gets_32 : decode cX13_gets 32 = .ok (.ifCond .ge 12, 3) := dk_156 0 12 (dk_at dksX13_gets_1 8 rfl rfl)
theorem dX13_gets_35 : decode cX13_gets 35 = .ok (.aload_n 0, 1) := dk_42 (dk_at dksX13_gets_1 11 rfl rfl)
theorem dX13_gets_36 : decode cX13_gets 36 = .ok (.ldc 160, 2) := dk_18 160 (dk_at dksX13_gets_1 12 rfl rfl)
theorem dX13_gets_38 : decode cX13_gets 38 = .ok (.invokevirtual 92, 3) := dk_182 0 92 (dk_at dksX13_gets_1 14 rfl rfl)
theorem dX13_gets_41 : decode cX13_gets 41 = .ok (.goto 4, 3) := dk_167 0 4 (dk_at dksX13_gets_1 17 rfl rfl)
theorem dX13_gets_44 : decode cX13_gets 44 = .ok (.iload_n 3, 1) := dk_29 (dk_at dksX13_gets_1 20 rfl rfl)
theorem dX13_gets_45 : decode cX13_gets 45 = .ok (.ireturn, 1) := dk_172 (dk_at dksX13_gets_1 21 rfl rfl)
abbrev cX13_getsOf : ByteArray := prog_16_method_66_code
def yX13_getsOf : MethodName := ⟨RX13, "getsOf", "(II)I"⟩
def dkwX13_getsOf_2 : List UInt8 := [182, 0, 196, 96, 62, 132, 4, 1, 167, 255, 207, 29, 172]
abbrev dktX13_getsOf_2 : List UInt8 := dkwX13_getsOf_2 ++ []
def dkwX13_getsOf_1 : List UInt8 := [153, 0, 28, 42, 21, 4, 182, 0, 157, 54, 5, 21, 5, 156, 0, 5, 2, 172, 29, 42, 27, 21, 5]
abbrev dktX13_getsOf_1 : List UInt8 := dkwX13_getsOf_1 ++ dktX13_getsOf_2
def dkwX13_getsOf_0 : List UInt8 := [3, 62, 3, 54, 4, 21, 4, 42, 180, 0, 9, 16, 43, 46, 162, 0, 43, 28, 21, 4, 184, 0, 114]
abbrev dktX13_getsOf_0 : List UInt8 := dkwX13_getsOf_0 ++ dktX13_getsOf_1
theorem dksX13_getsOf_0 : cX13_getsOf.data.toList.drop 0 = dktX13_getsOf_0 := by decide +kernel
theorem dksX13_getsOf_1 : cX13_getsOf.data.toList.drop 23 = dktX13_getsOf_1 := dk_seg dksX13_getsOf_0 23 rfl rfl
theorem dksX13_getsOf_2 : cX13_getsOf.data.toList.drop 46 = dktX13_getsOf_2 := dk_seg dksX13_getsOf_1 23 rfl rfl
theorem dX13_getsOf_0 : decode cX13_getsOf 0 = .ok (.iconst 0, 1) := dk_3 (dk_at dksX13_getsOf_0 0 rfl rfl)
theorem dX13_getsOf_1 : decode cX13_getsOf 1 = .ok (.istore_n 3, 1) := dk_62 (dk_at dksX13_getsOf_0 1 rfl rfl)
theorem dX13_getsOf_2 : decode cX13_getsOf 2 = .ok (.iconst 0, 1) := dk_3 (dk_at dksX13_getsOf_0 2 rfl rfl)
theorem dX13_getsOf_3 : decode cX13_getsOf 3 = .ok (.istore 4, 2) := dk_54 4 (dk_at dksX13_getsOf_0 3 rfl rfl)
theorem dX13_getsOf_5 : decode cX13_getsOf 5 = .ok (.iload 4, 2) := dk_21 4 (dk_at dksX13_getsOf_0 5 rfl rfl)
theorem dX13_getsOf_7 : decode cX13_getsOf 7 = .ok (.aload_n 0, 1) := dk_42 (dk_at dksX13_getsOf_0 7 rfl rfl)
theorem dX13_getsOf_8 : decode cX13_getsOf 8 = .ok (.getfield 9, 3) := dk_180 0 9 (dk_at dksX13_getsOf_0 8 rfl rfl)
theorem dX13_getsOf_11 : decode cX13_getsOf 11 = .ok (.bipush 43, 2) := dk_16 43 (dk_at dksX13_getsOf_0 11 rfl rfl)
theorem dX13_getsOf_13 : decode cX13_getsOf 13 = .ok (.iaload, 1) := dk_46 (dk_at dksX13_getsOf_0 13 rfl rfl)
theorem dX13_getsOf_14 : decode cX13_getsOf 14 = .ok (.if_icmp .ge 43, 3) := dk_162 0 43 (dk_at dksX13_getsOf_0 14 rfl rfl)
theorem dX13_getsOf_17 : decode cX13_getsOf 17 = .ok (.iload_n 2, 1) := dk_28 (dk_at dksX13_getsOf_0 17 rfl rfl)
theorem dX13_getsOf_18 : decode cX13_getsOf 18 = .ok (.iload 4, 2) := dk_21 4 (dk_at dksX13_getsOf_0 18 rfl rfl)
theorem dX13_getsOf_20 : decode cX13_getsOf 20 = .ok (.invokestatic 114, 3) := dk_184 0 114 (dk_at dksX13_getsOf_0 20 rfl rfl)
theorem dX13_getsOf_23 : decode cX13_getsOf 23 = .ok (.ifCond .eq 28, 3) := dk_153 0 28 (dk_at dksX13_getsOf_1 0 rfl rfl)
theorem dX13_getsOf_26 : decode cX13_getsOf 26 = .ok (.aload_n 0, 1) := dk_42 (dk_at dksX13_getsOf_1 3 rfl rfl)
theorem dX13_getsOf_27 : decode cX13_getsOf 27 = .ok (.iload 4, 2) := dk_21 4 (dk_at dksX13_getsOf_1 4 rfl rfl)
theorem dX13_getsOf_29 : decode cX13_getsOf 29 = .ok (.invokevirtual 157, 3) := dk_182 0 157 (dk_at dksX13_getsOf_1 6 rfl rfl)
theorem dX13_getsOf_32 : decode cX13_getsOf 32 = .ok (.istore 5, 2) := dk_54 5 (dk_at dksX13_getsOf_1 9 rfl rfl)
theorem dX13_getsOf_34 : decode cX13_getsOf 34 = .ok (.iload 5, 2) := dk_21 5 (dk_at dksX13_getsOf_1 11 rfl rfl)
theorem dX13_getsOf_36 : decode cX13_getsOf 36 = .ok (.ifCond .ge 5, 3) := dk_156 0 5 (dk_at dksX13_getsOf_1 13 rfl rfl)
theorem dX13_getsOf_39 : decode cX13_getsOf 39 = .ok (.iconst (-1), 1) := dk_2 (dk_at dksX13_getsOf_1 16 rfl rfl)
theorem dX13_getsOf_40 : decode cX13_getsOf 40 = .ok (.ireturn, 1) := dk_172 (dk_at dksX13_getsOf_1 17 rfl rfl)
theorem dX13_getsOf_41 : decode cX13_getsOf 41 = .ok (.iload_n 3, 1) := dk_29 (dk_at dksX13_getsOf_1 18 rfl rfl)
theorem dX13_getsOf_42 : decode cX13_getsOf 42 = .ok (.aload_n 0, 1) := dk_42 (dk_at dksX13_getsOf_1 19 rfl rfl)
theorem dX13_getsOf_43 : decode cX13_getsOf 43 = .ok (.iload_n 1, 1) := dk_27 (dk_at dksX13_getsOf_1 20 rfl rfl)
theorem dX13_getsOf_44 : decode cX13_getsOf 44 = .ok (.iload 5, 2) := dk_21 5 (dk_at dksX13_getsOf_1 21 rfl rfl)
theorem dX13_getsOf_46 : decode cX13_getsOf 46 = .ok (.invokevirtual 196, 3) := dk_182 0 196 (dk_at dksX13_getsOf_2 0 rfl rfl)
theorem dX13_getsOf_49 : decode cX13_getsOf 49 = .ok (.iadd, 1) := dk_96 (dk_at dksX13_getsOf_2 3 rfl rfl)
theorem dX13_getsOf_50 : decode cX13_getsOf 50 = .ok (.istore_n 3, 1) := dk_62 (dk_at dksX13_getsOf_2 4 rfl rfl)
theorem dX13_getsOf_51 : decode cX13_getsOf 51 = .ok (.iinc 4 1, 3) := dk_132 4 1 (dk_at dksX13_getsOf_2 5 rfl rfl)
theorem dX13_getsOf_54 : decode cX13_getsOf 54 = .ok (.goto (-49), 3) := dk_167 255 207 (dk_at dksX13_getsOf_2 8 rfl rfl)
theorem dX13_getsOf_57 : decode cX13_getsOf 57 = .ok (.iload_n 3, 1) := dk_29 (dk_at dksX13_getsOf_2 11 rfl rfl)
theorem dX13_getsOf_58 : decode cX13_getsOf 58 = .ok (.ireturn, 1) := dk_172 (dk_at dksX13_getsOf_2 12 rfl rfl)
abbrev cX13_cheapest : ByteArray := prog_16_method_69_code
def yX13_cheapest : MethodName := ⟨RX13, "cheapest", "(II)I"⟩
def dkwX13_cheapest_0 : List UInt8 := [42, 27, 28, 182, 0, 248, 62, 29, 153, 0, 11, 42, 29, 182, 0, 92, 167, 0, 7, 42, 180, 0, 242, 172]
abbrev dktX13_cheapest_0 : List UInt8 := dkwX13_cheapest_0 ++ []
theorem dksX13_cheapest_0 : cX13_cheapest.data.toList.drop 0 = dktX13_cheapest_0 := by decide +kernel
theorem dX13_cheapest_0 : decode cX13_cheapest 0 = .ok (.aload_n 0, 1) := dk_42 (dk_at dksX13_cheapest_0 0 rfl rfl)
theorem dX13_cheapest_1 : decode cX13_cheapest 1 = .ok (.iload_n 1, 1) := dk_27 (dk_at dksX13_cheapest_0 1 rfl rfl)
theorem dX13_cheapest_2 : decode cX13_cheapest 2 = .ok (.iload_n 2, 1) := dk_28 (dk_at dksX13_cheapest_0 2 rfl rfl)
theorem dX13_cheapest_3 : decode cX13_cheapest 3 = .ok (.invokevirtual 248, 3) := dk_182 0 248 (dk_at dksX13_cheapest_0 3 rfl rfl)
theorem dX13_cheapest_6 : decode cX13_cheapest 6 = .ok (.istore_n 3, 1) := dk_62 (dk_at dksX13_cheapest_0 6 rfl rfl)
theorem dX13_cheapest_7 : decode cX13_cheapest 7 = .ok (.iload_n 3, 1) := dk_29 (dk_at dksX13_cheapest_0 7 rfl rfl)
theorem dX13_cheapest_8 : decode cX13_cheapest 8 = .ok (.ifCond .eq 11, 3) := dk_153 0 11 (dk_at dksX13_cheapest_0 8 rfl rfl)
theorem dX13_cheapest_11 : decode cX13_cheapest 11 = .ok (.aload_n 0, 1) := dk_42 (dk_at dksX13_cheapest_0 11 rfl rfl)
theorem dX13_cheapest_12 : decode cX13_cheapest 12 = .ok (.iload_n 3, 1) := dk_29 (dk_at dksX13_cheapest_0 12 rfl rfl)
theorem dX13_cheapest_13 : decode cX13_cheapest 13 = .ok (.invokevirtual 92, 3) := dk_182 0 92 (dk_at dksX13_cheapest_0 13 rfl rfl)
theorem dX13_cheapest_16 : decode cX13_cheapest 16 = .ok (.goto 7, 3) := dk_167 0 7 (dk_at dksX13_cheapest_0 16 rfl rfl)
theorem dX13_cheapest_19 : decode cX13_cheapest 19 = .ok (.aload_n 0, 1) := dk_42 (dk_at dksX13_cheapest_0 19 rfl rfl)
theorem dX13_cheapest_20 : decode cX13_cheapest 20 = .ok (.getfield 242, 3) := dk_180 0 242 (dk_at dksX13_cheapest_0 20 rfl rfl)
theorem dX13_cheapest_23 : decode cX13_cheapest 23 = .ok (.ireturn, 1) := dk_172 (dk_at dksX13_cheapest_0 23 rfl rfl)
abbrev cX13_refusesWare : ByteArray := prog_16_method_68_code
def yX13_refusesWare : MethodName := ⟨RX13, "refusesWare", "(II)I"⟩
def dkwX13_refusesWare_8 : List UInt8 := [161, 0, 8, 18, 160, 167, 0, 4, 3, 172]
abbrev dktX13_refusesWare_8 : List UInt8 := dkwX13_refusesWare_8 ++ []
def dkwX13_refusesWare_7 : List UInt8 := [21, 7, 181, 0, 242, 42, 21, 4, 181, 0, 245, 132, 4, 1, 167, 255, 138, 42, 180, 0, 242, 18, 170]
abbrev dktX13_refusesWare_7 : List UInt8 := dkwX13_refusesWare_7 ++ dktX13_refusesWare_8
def dkwX13_refusesWare_6 : List UInt8 := [42, 27, 21, 4, 182, 0, 233, 167, 0, 5, 18, 170, 54, 7, 21, 7, 42, 180, 0, 242, 162, 0, 15, 42]
abbrev dktX13_refusesWare_6 : List UInt8 := dkwX13_refusesWare_6 ++ dktX13_refusesWare_7
def dkwX13_refusesWare_5 : List UInt8 := [180, 0, 9, 28, 3, 184, 0, 161, 46, 161, 0, 7, 4, 167, 0, 4, 3, 54, 6, 21, 6, 153, 0, 13]
abbrev dktX13_refusesWare_5 : List UInt8 := dkwX13_refusesWare_5 ++ dktX13_refusesWare_6
def dkwX13_refusesWare_4 : List UInt8 := [21, 4, 182, 0, 239, 54, 5, 21, 5, 155, 0, 29, 42, 27, 6, 182, 0, 104, 21, 5, 96, 42]
abbrev dktX13_refusesWare_4 : List UInt8 := dkwX13_refusesWare_4 ++ dktX13_refusesWare_5
def dkwX13_refusesWare_3 : List UInt8 := [162, 0, 110, 21, 4, 29, 2, 130, 126, 154, 0, 95, 21, 4, 184, 0, 221, 8, 163, 0, 86, 42, 27]
abbrev dktX13_refusesWare_3 : List UInt8 := dkwX13_refusesWare_3 ++ dktX13_refusesWare_4
def dkwX13_refusesWare_2 : List UInt8 := [181, 0, 242, 42, 3, 182, 0, 202, 62, 3, 54, 4, 21, 4, 4, 42, 180, 0, 9, 16, 43, 46, 120]
abbrev dktX13_refusesWare_2 : List UInt8 := dkwX13_refusesWare_2 ++ dktX13_refusesWare_3
def dkwX13_refusesWare_1 : List UInt8 := [4, 184, 0, 161, 46, 156, 0, 11, 42, 27, 182, 0, 123, 153, 0, 6, 18, 184, 172, 42, 18, 170]
abbrev dktX13_refusesWare_1 : List UInt8 := dkwX13_refusesWare_1 ++ dktX13_refusesWare_2
def dkwX13_refusesWare_0 : List UInt8 := [42, 27, 182, 0, 117, 153, 0, 11, 42, 28, 182, 0, 167, 154, 0, 6, 18, 72, 172, 42, 180, 0, 9, 28]
abbrev dktX13_refusesWare_0 : List UInt8 := dkwX13_refusesWare_0 ++ dktX13_refusesWare_1
theorem dksX13_refusesWare_0 : cX13_refusesWare.data.toList.drop 0 = dktX13_refusesWare_0 := by decide +kernel
theorem dksX13_refusesWare_1 : cX13_refusesWare.data.toList.drop 24 = dktX13_refusesWare_1 := dk_seg dksX13_refusesWare_0 24 rfl rfl
theorem dksX13_refusesWare_2 : cX13_refusesWare.data.toList.drop 46 = dktX13_refusesWare_2 := dk_seg dksX13_refusesWare_1 22 rfl rfl
theorem dksX13_refusesWare_3 : cX13_refusesWare.data.toList.drop 69 = dktX13_refusesWare_3 := dk_seg dksX13_refusesWare_2 23 rfl rfl
theorem dksX13_refusesWare_4 : cX13_refusesWare.data.toList.drop 92 = dktX13_refusesWare_4 := dk_seg dksX13_refusesWare_3 23 rfl rfl
theorem dksX13_refusesWare_5 : cX13_refusesWare.data.toList.drop 114 = dktX13_refusesWare_5 := dk_seg dksX13_refusesWare_4 22 rfl rfl
theorem dksX13_refusesWare_6 : cX13_refusesWare.data.toList.drop 138 = dktX13_refusesWare_6 := dk_seg dksX13_refusesWare_5 24 rfl rfl
theorem dksX13_refusesWare_7 : cX13_refusesWare.data.toList.drop 162 = dktX13_refusesWare_7 := dk_seg dksX13_refusesWare_6 24 rfl rfl
theorem dksX13_refusesWare_8 : cX13_refusesWare.data.toList.drop 185 = dktX13_refusesWare_8 := dk_seg dksX13_refusesWare_7 23 rfl rfl
theorem dX13_refusesWare_0 : decode cX13_refusesWare 0 = .ok (.aload_n 0, 1) := dk_42 (dk_at dksX13_refusesWare_0 0 rfl rfl)
theorem dX13_refusesWare_1 : decode cX13_refusesWare 1 = .ok (.iload_n 1, 1) := dk_27 (dk_at dksX13_refusesWare_0 1 rfl rfl)
theorem dX13_refusesWare_2 : decode cX13_refusesWare 2 = .ok (.invokevirtual 117, 3) := dk_182 0 117 (dk_at dksX13_refusesWare_0 2 rfl rfl)
theorem dX13_refusesWare_5 : decode cX13_refusesWare 5 = .ok (.ifCond .eq 11, 3) := dk_153 0 11 (dk_at dksX13_refusesWare_0 5 rfl rfl)
theorem dX13_refusesWare_8 : decode cX13_refusesWare 8 = .ok (.aload_n 0, 1) := dk_42 (dk_at dksX13_refusesWare_0 8 rfl rfl)
theorem dX13_refusesWare_9 : decode cX13_refusesWare 9 = .ok (.iload_n 2, 1) := dk_28 (dk_at dksX13_refusesWare_0 9 rfl rfl)
theorem dX13_refusesWare_10 : decode cX13_refusesWare 10 = .ok (.invokevirtual 167, 3) := dk_182 0 167 (dk_at dksX13_refusesWare_0 10 rfl rfl)
theorem dX13_refusesWare_13 : decode cX13_refusesWare 13 = .ok (.ifCond .ne 6, 3) := dk_154 0 6 (dk_at dksX13_refusesWare_0 13 rfl rfl)
theorem dX13_refusesWare_16 : decode cX13_refusesWare 16 = .ok (.ldc 72, 2) := dk_18 72 (dk_at dksX13_refusesWare_0 16 rfl rfl)
theorem dX13_refusesWare_18 : decode cX13_refusesWare 18 = .ok (.ireturn, 1) := dk_172 (dk_at dksX13_refusesWare_0 18 rfl rfl)
theorem dX13_refusesWare_19 : decode cX13_refusesWare 19 = .ok (.aload_n 0, 1) := dk_42 (dk_at dksX13_refusesWare_0 19 rfl rfl)
theorem dX13_refusesWare_20 : decode cX13_refusesWare 20 = .ok (.getfield 9, 3) := dk_180 0 9 (dk_at dksX13_refusesWare_0 20 rfl rfl)
theorem dX13_refusesWare_23 : decode cX13_refusesWare 23 = .ok (.iload_n 2, 1) := dk_28 (dk_at dksX13_refusesWare_0 23 rfl rfl)
theorem dX13_refusesWare_24 : decode cX13_refusesWare 24 = .ok (.iconst 1, 1) := dk_4 (dk_at dksX13_refusesWare_1 0 rfl rfl)
theorem dX13_refusesWare_25 : decode cX13_refusesWare 25 = .ok (.invokestatic 161, 3) := dk_184 0 161 (dk_at dksX13_refusesWare_1 1 rfl rfl)
theorem dX13_refusesWare_28 : decode cX13_refusesWare 28 = .ok (.iaload, 1) := dk_46 (dk_at dksX13_refusesWare_1 4 rfl rfl)
theorem dX13_refusesWare_29 : decode cX13_refusesWare 29 = .ok (.ifCond .ge 11, 3) := dk_156 0 11 (dk_at dksX13_refusesWare_1 5 rfl rfl)
theorem dX13_refusesWare_32 : decode cX13_refusesWare 32 = .ok (.aload_n 0, 1) := dk_42 (dk_at dksX13_refusesWare_1 8 rfl rfl)
theorem dX13_refusesWare_33 : decode cX13_refusesWare 33 = .ok (.iload_n 1, 1) := dk_27 (dk_at dksX13_refusesWare_1 9 rfl rfl)
theorem dX13_refusesWare_34 : decode cX13_refusesWare 34 = .ok (.invokevirtual 123, 3) := dk_182 0 123 (dk_at dksX13_refusesWare_1 10 rfl rfl)
theorem dX13_refusesWare_37 : decode cX13_refusesWare 37 = .ok (.ifCond .eq 6, 3) := dk_153 0 6 (dk_at dksX13_refusesWare_1 13 rfl rfl)
theorem dX13_refusesWare_40 : decode cX13_refusesWare 40 = .ok (.ldc 184, 2) := dk_18 184 (dk_at dksX13_refusesWare_1 16 rfl rfl)
theorem dX13_refusesWare_42 : decode cX13_refusesWare 42 = .ok (.ireturn, 1) := dk_172 (dk_at dksX13_refusesWare_1 18 rfl rfl)
theorem dX13_refusesWare_43 : decode cX13_refusesWare 43 = .ok (.aload_n 0, 1) := dk_42 (dk_at dksX13_refusesWare_1 19 rfl rfl)
theorem dX13_refusesWare_44 : decode cX13_refusesWare 44 = .ok (.ldc 170, 2) := dk_18 170 (dk_at dksX13_refusesWare_1 20 rfl rfl)
theorem dX13_refusesWare_46 : decode cX13_refusesWare 46 = .ok (.putfield 242, 3) := dk_181 0 242 (dk_at dksX13_refusesWare_2 0 rfl rfl)
theorem dX13_refusesWare_49 : decode cX13_refusesWare 49 = .ok (.aload_n 0, 1) := dk_42 (dk_at dksX13_refusesWare_2 3 rfl rfl)
theorem dX13_refusesWare_50 : decode cX13_refusesWare 50 = .ok (.iconst 0, 1) := dk_3 (dk_at dksX13_refusesWare_2 4 rfl rfl)
theorem dX13_refusesWare_51 : decode cX13_refusesWare 51 = .ok (.invokevirtual 202, 3) := dk_182 0 202 (dk_at dksX13_refusesWare_2 5 rfl rfl)
theorem dX13_refusesWare_54 : decode cX13_refusesWare 54 = .ok (.istore_n 3, 1) := dk_62 (dk_at dksX13_refusesWare_2 8 rfl rfl)
theorem dX13_refusesWare_55 : decode cX13_refusesWare 55 = .ok (.iconst 0, 1) := dk_3 (dk_at dksX13_refusesWare_2 9 rfl rfl)
theorem dX13_refusesWare_56 : decode cX13_refusesWare 56 = .ok (.istore 4, 2) := dk_54 4 (dk_at dksX13_refusesWare_2 10 rfl rfl)
theorem dX13_refusesWare_58 : decode cX13_refusesWare 58 = .ok (.iload 4, 2) := dk_21 4 (dk_at dksX13_refusesWare_2 12 rfl rfl)
theorem dX13_refusesWare_60 : decode cX13_refusesWare 60 = .ok (.iconst 1, 1) := dk_4 (dk_at dksX13_refusesWare_2 14 rfl rfl)
theorem dX13_refusesWare_61 : decode cX13_refusesWare 61 = .ok (.aload_n 0, 1) := dk_42 (dk_at dksX13_refusesWare_2 15 rfl rfl)
theorem dX13_refusesWare_62 : decode cX13_refusesWare 62 = .ok (.getfield 9, 3) := dk_180 0 9 (dk_at dksX13_refusesWare_2 16 rfl rfl)
theorem dX13_refusesWare_65 : decode cX13_refusesWare 65 = .ok (.bipush 43, 2) := dk_16 43 (dk_at dksX13_refusesWare_2 19 rfl rfl)
theorem dX13_refusesWare_67 : decode cX13_refusesWare 67 = .ok (.iaload, 1) := dk_46 (dk_at dksX13_refusesWare_2 21 rfl rfl)
theorem dX13_refusesWare_68 : decode cX13_refusesWare 68 = .ok (.ishl, 1) := dk_120 (dk_at dksX13_refusesWare_2 22 rfl rfl)
theorem dX13_refusesWare_69 : decode cX13_refusesWare 69 = .ok (.if_icmp .ge 110, 3) := dk_162 0 110 (dk_at dksX13_refusesWare_3 0 rfl rfl)
theorem dX13_refusesWare_72 : decode cX13_refusesWare 72 = .ok (.iload 4, 2) := dk_21 4 (dk_at dksX13_refusesWare_3 3 rfl rfl)
theorem dX13_refusesWare_74 : decode cX13_refusesWare 74 = .ok (.iload_n 3, 1) := dk_29 (dk_at dksX13_refusesWare_3 5 rfl rfl)
theorem dX13_refusesWare_75 : decode cX13_refusesWare 75 = .ok (.iconst (-1), 1) := dk_2 (dk_at dksX13_refusesWare_3 6 rfl rfl)
theorem dX13_refusesWare_76 : decode cX13_refusesWare 76 = .ok (.ixor, 1) := dk_130 (dk_at dksX13_refusesWare_3 7 rfl rfl)
theorem dX13_refusesWare_77 : decode cX13_refusesWare 77 = .ok (.iand, 1) := dk_126 (dk_at dksX13_refusesWare_3 8 rfl rfl)
theorem dX13_refusesWare_78 : decode cX13_refusesWare 78 = .ok (.ifCond .ne 95, 3) := dk_154 0 95 (dk_at dksX13_refusesWare_3 9 rfl rfl)
theorem dX13_refusesWare_81 : decode cX13_refusesWare 81 = .ok (.iload 4, 2) := dk_21 4 (dk_at dksX13_refusesWare_3 12 rfl rfl)
theorem dX13_refusesWare_83 : decode cX13_refusesWare 83 = .ok (.invokestatic 221, 3) := dk_184 0 221 (dk_at dksX13_refusesWare_3 14 rfl rfl)
theorem dX13_refusesWare_86 : decode cX13_refusesWare 86 = .ok (.iconst 5, 1) := dk_8 (dk_at dksX13_refusesWare_3 17 rfl rfl)
theorem dX13_refusesWare_87 : decode cX13_refusesWare 87 = .ok (.if_icmp .gt 86, 3) := dk_163 0 86 (dk_at dksX13_refusesWare_3 18 rfl rfl)
theorem dX13_refusesWare_90 : decode cX13_refusesWare 90 = .ok (.aload_n 0, 1) := dk_42 (dk_at dksX13_refusesWare_3 21 rfl rfl)
theorem dX13_refusesWare_91 : decode cX13_refusesWare 91 = .ok (.iload_n 1, 1) := dk_27 (dk_at dksX13_refusesWare_3 22 rfl rfl)
theorem dX13_refusesWare_92 : decode cX13_refusesWare 92 = .ok (.iload 4, 2) := dk_21 4 (dk_at dksX13_refusesWare_4 0 rfl rfl)
theorem dX13_refusesWare_94 : decode cX13_refusesWare 94 = .ok (.invokevirtual 239, 3) := dk_182 0 239 (dk_at dksX13_refusesWare_4 2 rfl rfl)
theorem dX13_refusesWare_97 : decode cX13_refusesWare 97 = .ok (.istore 5, 2) := dk_54 5 (dk_at dksX13_refusesWare_4 5 rfl rfl)
theorem dX13_refusesWare_99 : decode cX13_refusesWare 99 = .ok (.iload 5, 2) := dk_21 5 (dk_at dksX13_refusesWare_4 7 rfl rfl)
theorem dX13_refusesWare_101 : decode cX13_refusesWare 101 = .ok (.ifCond .lt 29, 3) := dk_155 0 29 (dk_at dksX13_refusesWare_4 9 rfl rfl)
theorem dX13_refusesWare_104 : decode cX13_refusesWare 104 = .ok (.aload_n 0, 1) := dk_42 (dk_at dksX13_refusesWare_4 12 rfl rfl)
theorem dX13_refusesWare_105 : decode cX13_refusesWare 105 = .ok (.iload_n 1, 1) := dk_27 (dk_at dksX13_refusesWare_4 13 rfl rfl)
theorem dX13_refusesWare_106 : decode cX13_refusesWare 106 = .ok (.iconst 3, 1) := dk_6 (dk_at dksX13_refusesWare_4 14 rfl rfl)
theorem dX13_refusesWare_107 : decode cX13_refusesWare 107 = .ok (.invokevirtual 104, 3) := dk_182 0 104 (dk_at dksX13_refusesWare_4 15 rfl rfl)
theorem dX13_refusesWare_110 : decode cX13_refusesWare 110 = .ok (.iload 5, 2) := dk_21 5 (dk_at dksX13_refusesWare_4 18 rfl rfl)
theorem dX13_refusesWare_112 : decode cX13_refusesWare 112 = .ok (.iadd, 1) := dk_96 (dk_at dksX13_refusesWare_4 20 rfl rfl)
theorem dX13_refusesWare_113 : decode cX13_refusesWare 113 = .ok (.aload_n 0, 1) := dk_42 (dk_at dksX13_refusesWare_4 21 rfl rfl)
theorem dX13_refusesWare_114 : decode cX13_refusesWare 114 = .ok (.getfield 9, 3) := dk_180 0 9 (dk_at dksX13_refusesWare_5 0 rfl rfl)
theorem dX13_refusesWare_117 : decode cX13_refusesWare 117 = .ok (.iload_n 2, 1) := dk_28 (dk_at dksX13_refusesWare_5 3 rfl rfl)
theorem dX13_refusesWare_118 : decode cX13_refusesWare 118 = .ok (.iconst 0, 1) := dk_3 (dk_at dksX13_refusesWare_5 4 rfl rfl)
theorem dX13_refusesWare_119 : decode cX13_refusesWare 119 = .ok (.invokestatic 161, 3) := dk_184 0 161 (dk_at dksX13_refusesWare_5 5 rfl rfl)
theorem dX13_refusesWare_122 : decode cX13_refusesWare 122 = .ok (.iaload, 1) := dk_46 (dk_at dksX13_refusesWare_5 8 rfl rfl)
theorem dX13_refusesWare_123 : decode cX13_refusesWare 123 = .ok (.if_icmp .lt 7, 3) := dk_161 0 7 (dk_at dksX13_refusesWare_5 9 rfl rfl)
theorem dX13_refusesWare_126 : decode cX13_refusesWare 126 = .ok (.iconst 1, 1) := dk_4 (dk_at dksX13_refusesWare_5 12 rfl rfl)
theorem dX13_refusesWare_127 : decode cX13_refusesWare 127 = .ok (.goto 4, 3) := dk_167 0 4 (dk_at dksX13_refusesWare_5 13 rfl rfl)
theorem dX13_refusesWare_130 : decode cX13_refusesWare 130 = .ok (.iconst 0, 1) := dk_3 (dk_at dksX13_refusesWare_5 16 rfl rfl)
theorem dX13_refusesWare_131 : decode cX13_refusesWare 131 = .ok (.istore 6, 2) := dk_54 6 (dk_at dksX13_refusesWare_5 17 rfl rfl)
theorem dX13_refusesWare_133 : decode cX13_refusesWare 133 = .ok (.iload 6, 2) := dk_21 6 (dk_at dksX13_refusesWare_5 19 rfl rfl)
theorem dX13_refusesWare_135 : decode cX13_refusesWare 135 = .ok (.ifCond .eq 13, 3) := dk_153 0 13 (dk_at dksX13_refusesWare_5 21 rfl rfl)
theorem dX13_refusesWare_138 : decode cX13_refusesWare 138 = .ok (.aload_n 0, 1) := dk_42 (dk_at dksX13_refusesWare_6 0 rfl rfl)
theorem dX13_refusesWare_139 : decode cX13_refusesWare 139 = .ok (.iload_n 1, 1) := dk_27 (dk_at dksX13_refusesWare_6 1 rfl rfl)
theorem dX13_refusesWare_140 : decode cX13_refusesWare 140 = .ok (.iload 4, 2) := dk_21 4 (dk_at dksX13_refusesWare_6 2 rfl rfl)
theorem dX13_refusesWare_142 : decode cX13_refusesWare 142 = .ok (.invokevirtual 233, 3) := dk_182 0 233 (dk_at dksX13_refusesWare_6 4 rfl rfl)
theorem dX13_refusesWare_145 : decode cX13_refusesWare 145 = .ok (.goto 5, 3) := dk_167 0 5 (dk_at dksX13_refusesWare_6 7 rfl rfl)
theorem dX13_refusesWare_148 : decode cX13_refusesWare 148 = .ok (.ldc 170, 2) := dk_18 170 (dk_at dksX13_refusesWare_6 10 rfl rfl)
theorem dX13_refusesWare_150 : decode cX13_refusesWare 150 = .ok (.istore 7, 2) := dk_54 7 (dk_at dksX13_refusesWare_6 12 rfl rfl)
theorem dX13_refusesWare_152 : decode cX13_refusesWare 152 = .ok (.iload 7, 2) := dk_21 7 (dk_at dksX13_refusesWare_6 14 rfl rfl)
theorem dX13_refusesWare_154 : decode cX13_refusesWare 154 = .ok (.aload_n 0, 1) := dk_42 (dk_at dksX13_refusesWare_6 16 rfl rfl)
theorem dX13_refusesWare_155 : decode cX13_refusesWare 155 = .ok (.getfield 242, 3) := dk_180 0 242 (dk_at dksX13_refusesWare_6 17 rfl rfl)
theorem dX13_refusesWare_158 : decode cX13_refusesWare 158 = .ok (.if_icmp .ge 15, 3) := dk_162 0 15 (dk_at dksX13_refusesWare_6 20 rfl rfl)
theorem dX13_refusesWare_161 : decode cX13_refusesWare 161 = .ok (.aload_n 0, 1) := dk_42 (dk_at dksX13_refusesWare_6 23 rfl rfl)
theorem dX13_refusesWare_162 : decode cX13_refusesWare 162 = .ok (.iload 7, 2) := dk_21 7 (dk_at dksX13_refusesWare_7 0 rfl rfl)
theorem dX13_refusesWare_164 : decode cX13_refusesWare 164 = .ok (.putfield 242, 3) := dk_181 0 242 (dk_at dksX13_refusesWare_7 2 rfl rfl)
theorem dX13_refusesWare_167 : decode cX13_refusesWare 167 = .ok (.aload_n 0, 1) := dk_42 (dk_at dksX13_refusesWare_7 5 rfl rfl)
theorem dX13_refusesWare_168 : decode cX13_refusesWare 168 = .ok (.iload 4, 2) := dk_21 4 (dk_at dksX13_refusesWare_7 6 rfl rfl)
theorem dX13_refusesWare_170 : decode cX13_refusesWare 170 = .ok (.putfield 245, 3) := dk_181 0 245 (dk_at dksX13_refusesWare_7 8 rfl rfl)
theorem dX13_refusesWare_173 : decode cX13_refusesWare 173 = .ok (.iinc 4 1, 3) := dk_132 4 1 (dk_at dksX13_refusesWare_7 11 rfl rfl)
theorem dX13_refusesWare_176 : decode cX13_refusesWare 176 = .ok (.goto (-118), 3) := dk_167 255 138 (dk_at dksX13_refusesWare_7 14 rfl rfl)
theorem dX13_refusesWare_179 : decode cX13_refusesWare 179 = .ok (.aload_n 0, 1) := dk_42 (dk_at dksX13_refusesWare_7 17 rfl rfl)
theorem dX13_refusesWare_180 : decode cX13_refusesWare 180 = .ok (.getfield 242, 3) := dk_180 0 242 (dk_at dksX13_refusesWare_7 18 rfl rfl)
theorem dX13_refusesWare_183 : decode cX13_refusesWare 183 = .ok (.ldc 170, 2) := dk_18 170 (dk_at dksX13_refusesWare_7 21 rfl rfl)
theorem dX13_refusesWare_185 : decode cX13_refusesWare 185 = .ok (.if_icmp .lt 8, 3) := dk_161 0 8 (dk_at dksX13_refusesWare_8 0 rfl rfl)
theorem dX13_refusesWare_188 : decode cX13_refusesWare 188 = .ok (.ldc 160, 2) := dk_18 160 (dk_at dksX13_refusesWare_8 3 rfl rfl)
theorem dX13_refusesWare_190 : decode cX13_refusesWare 190 = .ok (.goto 4, 3) := dk_167 0 4 (dk_at dksX13_refusesWare_8 5 rfl rfl)
theorem dX13_refusesWare_193 : decode cX13_refusesWare 193 = .ok (.iconst 0, 1) := dk_3 (dk_at dksX13_refusesWare_8 8 rfl rfl)
theorem dX13_refusesWare_194 : decode cX13_refusesWare 194 = .ok (.ireturn, 1) := dk_172 (dk_at dksX13_refusesWare_8 9 rfl rfl)
abbrev cX13_which : ByteArray := prog_16_method_70_code
def yX13_which : MethodName := ⟨RX13, "which", "(II)I"⟩
def dkwX13_which_0 : List UInt8 := [42, 27, 28, 182, 0, 248, 62, 29, 153, 0, 11, 42, 29, 182, 0, 92, 167, 0, 7, 42, 180, 0, 245, 172]
abbrev dktX13_which_0 : List UInt8 := dkwX13_which_0 ++ []
theorem dksX13_which_0 : cX13_which.data.toList.drop 0 = dktX13_which_0 := by decide +kernel
theorem dX13_which_0 : decode cX13_which 0 = .ok (.aload_n 0, 1) := dk_42 (dk_at dksX13_which_0 0 rfl rfl)
theorem dX13_which_1 : decode cX13_which 1 = .ok (.iload_n 1, 1) := dk_27 (dk_at dksX13_which_0 1 rfl rfl)
theorem dX13_which_2 : decode cX13_which 2 = .ok (.iload_n 2, 1) := dk_28 (dk_at dksX13_which_0 2 rfl rfl)
theorem dX13_which_3 : decode cX13_which 3 = .ok (.invokevirtual 248, 3) := dk_182 0 248 (dk_at dksX13_which_0 3 rfl rfl)
theorem dX13_which_6 : decode cX13_which 6 = .ok (.istore_n 3, 1) := dk_62 (dk_at dksX13_which_0 6 rfl rfl)
theorem dX13_which_7 : decode cX13_which 7 = .ok (.iload_n 3, 1) := dk_29 (dk_at dksX13_which_0 7 rfl rfl)
theorem dX13_which_8 : decode cX13_which 8 = .ok (.ifCond .eq 11, 3) := dk_153 0 11 (dk_at dksX13_which_0 8 rfl rfl)
theorem dX13_which_11 : decode cX13_which 11 = .ok (.aload_n 0, 1) := dk_42 (dk_at dksX13_which_0 11 rfl rfl)
theorem dX13_which_12 : decode cX13_which 12 = .ok (.iload_n 3, 1) := dk_29 (dk_at dksX13_which_0 12 rfl rfl)
theorem dX13_which_13 : decode cX13_which 13 = .ok (.invokevirtual 92, 3) := dk_182 0 92 (dk_at dksX13_which_0 13 rfl rfl)
theorem dX13_which_16 : decode cX13_which 16 = .ok (.goto 7, 3) := dk_167 0 7 (dk_at dksX13_which_0 16 rfl rfl)
theorem dX13_which_19 : decode cX13_which 19 = .ok (.aload_n 0, 1) := dk_42 (dk_at dksX13_which_0 19 rfl rfl)
theorem dX13_which_20 : decode cX13_which 20 = .ok (.getfield 245, 3) := dk_180 0 245 (dk_at dksX13_which_0 20 rfl rfl)
theorem dX13_which_23 : decode cX13_which 23 = .ok (.ireturn, 1) := dk_172 (dk_at dksX13_which_0 23 rfl rfl)
abbrev cX13_who : ByteArray := prog_16_method_71_code
def yX13_who : MethodName := ⟨RX13, "who", "(I)I"⟩
def dkwX13_who_4 : List UInt8 := [132, 4, 1, 167, 255, 198, 28, 156, 0, 12, 42, 18, 160, 182, 0, 92, 167, 0, 4, 28, 172]
abbrev dktX13_who_4 : List UInt8 := dkwX13_who_4 ++ []
def dkwX13_who_3 : List UInt8 := [54, 5, 21, 5, 29, 162, 0, 8, 21, 4, 167, 0, 4, 28, 61, 29, 21, 5, 184, 0, 136, 62]
abbrev dktX13_who_3 : List UInt8 := dkwX13_who_3 ++ dktX13_who_4
def dkwX13_who_2 : List UInt8 := [162, 0, 52, 42, 21, 4, 182, 0, 123, 154, 0, 13, 42, 21, 4, 27, 182, 0, 233, 167, 0, 5, 18, 170]
abbrev dktX13_who_2 : List UInt8 := dkwX13_who_2 ++ dktX13_who_3
def dkwX13_who_1 : List UInt8 := [42, 18, 184, 182, 0, 92, 172, 2, 61, 18, 170, 62, 3, 54, 4, 21, 4, 42, 180, 0, 9, 16, 42, 46]
abbrev dktX13_who_1 : List UInt8 := dkwX13_who_1 ++ dktX13_who_2
def dkwX13_who_0 : List UInt8 := [42, 27, 8, 182, 0, 224, 154, 0, 10, 42, 18, 72, 182, 0, 92, 172, 42, 27, 182, 0, 227, 154, 0, 10]
abbrev dktX13_who_0 : List UInt8 := dkwX13_who_0 ++ dktX13_who_1
theorem dksX13_who_0 : cX13_who.data.toList.drop 0 = dktX13_who_0 := by decide +kernel
theorem dksX13_who_1 : cX13_who.data.toList.drop 24 = dktX13_who_1 := dk_seg dksX13_who_0 24 rfl rfl
theorem dksX13_who_2 : cX13_who.data.toList.drop 48 = dktX13_who_2 := dk_seg dksX13_who_1 24 rfl rfl
theorem dksX13_who_3 : cX13_who.data.toList.drop 72 = dktX13_who_3 := dk_seg dksX13_who_2 24 rfl rfl
theorem dksX13_who_4 : cX13_who.data.toList.drop 94 = dktX13_who_4 := dk_seg dksX13_who_3 22 rfl rfl
theorem dX13_who_0 : decode cX13_who 0 = .ok (.aload_n 0, 1) := dk_42 (dk_at dksX13_who_0 0 rfl rfl)
theorem dX13_who_1 : decode cX13_who 1 = .ok (.iload_n 1, 1) := dk_27 (dk_at dksX13_who_0 1 rfl rfl)
theorem dX13_who_2 : decode cX13_who 2 = .ok (.iconst 5, 1) := dk_8 (dk_at dksX13_who_0 2 rfl rfl)
theorem dX13_who_3 : decode cX13_who 3 = .ok (.invokevirtual 224, 3) := dk_182 0 224 (dk_at dksX13_who_0 3 rfl rfl)
theorem dX13_who_6 : decode cX13_who 6 = .ok (.ifCond .ne 10, 3) := dk_154 0 10 (dk_at dksX13_who_0 6 rfl rfl)
theorem dX13_who_9 : decode cX13_who 9 = .ok (.aload_n 0, 1) := dk_42 (dk_at dksX13_who_0 9 rfl rfl)
theorem dX13_who_10 : decode cX13_who 10 = .ok (.ldc 72, 2) := dk_18 72 (dk_at dksX13_who_0 10 rfl rfl)
theorem dX13_who_12 : decode cX13_who 12 = .ok (.invokevirtual 92, 3) := dk_182 0 92 (dk_at dksX13_who_0 12 rfl rfl)
theorem dX13_who_15 : decode cX13_who 15 = .ok (.ireturn, 1) := dk_172 (dk_at dksX13_who_0 15 rfl rfl)
theorem dX13_who_16 : decode cX13_who 16 = .ok (.aload_n 0, 1) := dk_42 (dk_at dksX13_who_0 16 rfl rfl)
theorem dX13_who_17 : decode cX13_who 17 = .ok (.iload_n 1, 1) := dk_27 (dk_at dksX13_who_0 17 rfl rfl)
theorem dX13_who_18 : decode cX13_who 18 = .ok (.invokevirtual 227, 3) := dk_182 0 227 (dk_at dksX13_who_0 18 rfl rfl)
theorem dX13_who_21 : decode cX13_who 21 = .ok (.ifCond .ne 10, 3) := dk_154 0 10 (dk_at dksX13_who_0 21 rfl rfl)
theorem dX13_who_24 : decode cX13_who 24 = .ok (.aload_n 0, 1) := dk_42 (dk_at dksX13_who_1 0 rfl rfl)
theorem dX13_who_25 : decode cX13_who 25 = .ok (.ldc 184, 2) := dk_18 184 (dk_at dksX13_who_1 1 rfl rfl)
theorem dX13_who_27 : decode cX13_who 27 = .ok (.invokevirtual 92, 3) := dk_182 0 92 (dk_at dksX13_who_1 3 rfl rfl)
theorem dX13_who_30 : decode cX13_who 30 = .ok (.ireturn, 1) := dk_172 (dk_at dksX13_who_1 6 rfl rfl)
theorem dX13_who_31 : decode cX13_who 31 = .ok (.iconst (-1), 1) := dk_2 (dk_at dksX13_who_1 7 rfl rfl)
theorem dX13_who_32 : decode cX13_who 32 = .ok (.istore_n 2, 1) := dk_61 (dk_at dksX13_who_1 8 rfl rfl)
theorem dX13_who_33 : decode cX13_who 33 = .ok (.ldc 170, 2) := dk_18 170 (dk_at dksX13_who_1 9 rfl rfl)
theorem dX13_who_35 : decode cX13_who 35 = .ok (.istore_n 3, 1) := dk_62 (dk_at dksX13_who_1 11 rfl rfl)
theorem dX13_who_36 : decode cX13_who 36 = .ok (.iconst 0, 1) := dk_3 (dk_at dksX13_who_1 12 rfl rfl)
theorem dX13_who_37 : decode cX13_who 37 = .ok (.istore 4, 2) := dk_54 4 (dk_at dksX13_who_1 13 rfl rfl)
theorem dX13_who_39 : decode cX13_who 39 = .ok (.iload 4, 2) := dk_21 4 (dk_at dksX13_who_1 15 rfl rfl)
theorem dX13_who_41 : decode cX13_who 41 = .ok (.aload_n 0, 1) := dk_42 (dk_at dksX13_who_1 17 rfl rfl)
theorem dX13_who_42 : decode cX13_who 42 = .ok (.getfield 9, 3) := dk_180 0 9 (dk_at dksX13_who_1 18 rfl rfl)
theorem dX13_who_45 : decode cX13_who 45 = .ok (.bipush 42, 2) := dk_16 42 (dk_at dksX13_who_1 21 rfl rfl)
theorem dX13_who_47 : decode cX13_who 47 = .ok (.iaload, 1) := dk_46 (dk_at dksX13_who_1 23 rfl rfl)
theorem dX13_who_48 : decode cX13_who 48 = .ok (.if_icmp .ge 52, 3) := dk_162 0 52 (dk_at dksX13_who_2 0 rfl rfl)
theorem dX13_who_51 : decode cX13_who 51 = .ok (.aload_n 0, 1) := dk_42 (dk_at dksX13_who_2 3 rfl rfl)
theorem dX13_who_52 : decode cX13_who 52 = .ok (.iload 4, 2) := dk_21 4 (dk_at dksX13_who_2 4 rfl rfl)
theorem dX13_who_54 : decode cX13_who 54 = .ok (.invokevirtual 123, 3) := dk_182 0 123 (dk_at dksX13_who_2 6 rfl rfl)
theorem dX13_who_57 : decode cX13_who 57 = .ok (.ifCond .ne 13, 3) := dk_154 0 13 (dk_at dksX13_who_2 9 rfl rfl)
theorem dX13_who_60 : decode cX13_who 60 = .ok (.aload_n 0, 1) := dk_42 (dk_at dksX13_who_2 12 rfl rfl)
theorem dX13_who_61 : decode cX13_who 61 = .ok (.iload 4, 2) := dk_21 4 (dk_at dksX13_who_2 13 rfl rfl)
theorem dX13_who_63 : decode cX13_who 63 = .ok (.iload_n 1, 1) := dk_27 (dk_at dksX13_who_2 15 rfl rfl)
theorem dX13_who_64 : decode cX13_who 64 = .ok (.invokevirtual 233, 3) := dk_182 0 233 (dk_at dksX13_who_2 16 rfl rfl)
theorem dX13_who_67 : decode cX13_who 67 = .ok (.goto 5, 3) := dk_167 0 5 (dk_at dksX13_who_2 19 rfl rfl)
theorem dX13_who_70 : decode cX13_who 70 = .ok (.ldc 170, 2) := dk_18 170 (dk_at dksX13_who_2 22 rfl rfl)
theorem dX13_who_72 : decode cX13_who 72 = .ok (.istore 5, 2) := dk_54 5 (dk_at dksX13_who_3 0 rfl rfl)
theorem dX13_who_74 : decode cX13_who 74 = .ok (.iload 5, 2) := dk_21 5 (dk_at dksX13_who_3 2 rfl rfl)
theorem dX13_who_76 : decode cX13_who 76 = .ok (.iload_n 3, 1) := dk_29 (dk_at dksX13_who_3 4 rfl rfl)
theorem dX13_who_77 : decode cX13_who 77 = .ok (.if_icmp .ge 8, 3) := dk_162 0 8 (dk_at dksX13_who_3 5 rfl rfl)
theorem dX13_who_80 : decode cX13_who 80 = .ok (.iload 4, 2) := dk_21 4 (dk_at dksX13_who_3 8 rfl rfl)
theorem dX13_who_82 : decode cX13_who 82 = .ok (.goto 4, 3) := dk_167 0 4 (dk_at dksX13_who_3 10 rfl rfl)
theorem dX13_who_85 : decode cX13_who 85 = .ok (.iload_n 2, 1) := dk_28 (dk_at dksX13_who_3 13 rfl rfl)
theorem dX13_who_86 : decode cX13_who 86 = .ok (.istore_n 2, 1) := dk_61 (dk_at dksX13_who_3 14 rfl rfl)
theorem dX13_who_87 : decode cX13_who 87 = .ok (.iload_n 3, 1) := dk_29 (dk_at dksX13_who_3 15 rfl rfl)
theorem dX13_who_88 : decode cX13_who 88 = .ok (.iload 5, 2) := dk_21 5 (dk_at dksX13_who_3 16 rfl rfl)
theorem dX13_who_90 : decode cX13_who 90 = .ok (.invokestatic 136, 3) := dk_184 0 136 (dk_at dksX13_who_3 18 rfl rfl)
theorem dX13_who_93 : decode cX13_who 93 = .ok (.istore_n 3, 1) := dk_62 (dk_at dksX13_who_3 21 rfl rfl)
theorem dX13_who_94 : decode cX13_who 94 = .ok (.iinc 4 1, 3) := dk_132 4 1 (dk_at dksX13_who_4 0 rfl rfl)
theorem dX13_who_97 : decode cX13_who 97 = .ok (.goto (-58), 3) := dk_167 255 198 (dk_at dksX13_who_4 3 rfl rfl)
theorem dX13_who_100 : decode cX13_who 100 = .ok (.iload_n 2, 1) := dk_28 (dk_at dksX13_who_4 6 rfl rfl)
theorem dX13_who_101 : decode cX13_who 101 = .ok (.ifCond .ge 12, 3) := dk_156 0 12 (dk_at dksX13_who_4 7 rfl rfl)
theorem dX13_who_104 : decode cX13_who 104 = .ok (.aload_n 0, 1) := dk_42 (dk_at dksX13_who_4 10 rfl rfl)
theorem dX13_who_105 : decode cX13_who 105 = .ok (.ldc 160, 2) := dk_18 160 (dk_at dksX13_who_4 11 rfl rfl)
theorem dX13_who_107 : decode cX13_who 107 = .ok (.invokevirtual 92, 3) := dk_182 0 92 (dk_at dksX13_who_4 13 rfl rfl)
theorem dX13_who_110 : decode cX13_who 110 = .ok (.goto 4, 3) := dk_167 0 4 (dk_at dksX13_who_4 16 rfl rfl)
theorem dX13_who_113 : decode cX13_who 113 = .ok (.iload_n 2, 1) := dk_28 (dk_at dksX13_who_4 19 rfl rfl)
theorem dX13_who_114 : decode cX13_who 114 = .ok (.ireturn, 1) := dk_172 (dk_at dksX13_who_4 20 rfl rfl)
abbrev cX13_joined : ByteArray := prog_16_method_72_code
def yX13_joined : MethodName := ⟨RX13, "joined", "(II)I"⟩
def dkwX13_joined_5 : List UInt8 := [167, 0, 8, 21, 5, 21, 4, 100, 172]
abbrev dktX13_joined_5 : List UInt8 := dkwX13_joined_5 ++ []
def dkwX13_joined_4 : List UInt8 := [96, 46, 96, 54, 5, 132, 6, 1, 167, 255, 184, 21, 4, 18, 170, 161, 0, 12, 42, 18, 160, 182, 0, 92]
abbrev dktX13_joined_4 : List UInt8 := dkwX13_joined_4 ++ dktX13_joined_5
def dkwX13_joined_3 : List UInt8 := [54, 5, 21, 5, 42, 180, 0, 22, 16, 7, 42, 21, 6, 5, 182, 0, 111, 104, 42, 27, 4, 182, 0, 104]
abbrev dktX13_joined_3 : List UInt8 := dkwX13_joined_3 ++ dktX13_joined_4
def dkwX13_joined_2 : List UInt8 := [162, 0, 59, 28, 21, 6, 184, 0, 114, 153, 0, 44, 21, 5, 42, 27, 4, 21, 6, 120, 182, 0, 233, 96]
abbrev dktX13_joined_2 : List UInt8 := dkwX13_joined_2 ++ dktX13_joined_3
def dkwX13_joined_1 : List UInt8 := [54, 4, 3, 54, 5, 3, 54, 6, 21, 6, 42, 180, 0, 9, 16, 43, 46, 162, 0, 66, 21, 4, 18, 170]
abbrev dktX13_joined_1 : List UInt8 := dkwX13_joined_1 ++ dktX13_joined_2
def dkwX13_joined_0 : List UInt8 := [42, 27, 28, 182, 0, 230, 62, 29, 153, 0, 9, 42, 29, 182, 0, 92, 172, 42, 27, 28, 182, 0, 233]
abbrev dktX13_joined_0 : List UInt8 := dkwX13_joined_0 ++ dktX13_joined_1
theorem dksX13_joined_0 : cX13_joined.data.toList.drop 0 = dktX13_joined_0 := by decide +kernel
theorem dksX13_joined_1 : cX13_joined.data.toList.drop 23 = dktX13_joined_1 := dk_seg dksX13_joined_0 23 rfl rfl
theorem dksX13_joined_2 : cX13_joined.data.toList.drop 47 = dktX13_joined_2 := dk_seg dksX13_joined_1 24 rfl rfl
theorem dksX13_joined_3 : cX13_joined.data.toList.drop 71 = dktX13_joined_3 := dk_seg dksX13_joined_2 24 rfl rfl
theorem dksX13_joined_4 : cX13_joined.data.toList.drop 95 = dktX13_joined_4 := dk_seg dksX13_joined_3 24 rfl rfl
theorem dksX13_joined_5 : cX13_joined.data.toList.drop 119 = dktX13_joined_5 := dk_seg dksX13_joined_4 24 rfl rfl
theorem dX13_joined_0 : decode cX13_joined 0 = .ok (.aload_n 0, 1) := dk_42 (dk_at dksX13_joined_0 0 rfl rfl)
theorem dX13_joined_1 : decode cX13_joined 1 = .ok (.iload_n 1, 1) := dk_27 (dk_at dksX13_joined_0 1 rfl rfl)
theorem dX13_joined_2 : decode cX13_joined 2 = .ok (.iload_n 2, 1) := dk_28 (dk_at dksX13_joined_0 2 rfl rfl)
theorem dX13_joined_3 : decode cX13_joined 3 = .ok (.invokevirtual 230, 3) := dk_182 0 230 (dk_at dksX13_joined_0 3 rfl rfl)
theorem dX13_joined_6 : decode cX13_joined 6 = .ok (.istore_n 3, 1) := dk_62 (dk_at dksX13_joined_0 6 rfl rfl)
theorem dX13_joined_7 : decode cX13_joined 7 = .ok (.iload_n 3, 1) := dk_29 (dk_at dksX13_joined_0 7 rfl rfl)
theorem dX13_joined_8 : decode cX13_joined 8 = .ok (.ifCond .eq 9, 3) := dk_153 0 9 (dk_at dksX13_joined_0 8 rfl rfl)
theorem dX13_joined_11 : decode cX13_joined 11 = .ok (.aload_n 0, 1) := dk_42 (dk_at dksX13_joined_0 11 rfl rfl)
theorem dX13_joined_12 : decode cX13_joined 12 = .ok (.iload_n 3, 1) := dk_29 (dk_at dksX13_joined_0 12 rfl rfl)
theorem dX13_joined_13 : decode cX13_joined 13 = .ok (.invokevirtual 92, 3) := dk_182 0 92 (dk_at dksX13_joined_0 13 rfl rfl)
theorem dX13_joined_16 : decode cX13_joined 16 = .ok (.ireturn, 1) := dk_172 (dk_at dksX13_joined_0 16 rfl rfl)
theorem dX13_joined_17 : decode cX13_joined 17 = .ok (.aload_n 0, 1) := dk_42 (dk_at dksX13_joined_0 17 rfl rfl)
theorem dX13_joined_18 : decode cX13_joined 18 = .ok (.iload_n 1, 1) := dk_27 (dk_at dksX13_joined_0 18 rfl rfl)
theorem dX13_joined_19 : decode cX13_joined 19 = .ok (.iload_n 2, 1) := dk_28 (dk_at dksX13_joined_0 19 rfl rfl)
theorem dX13_joined_20 : decode cX13_joined 20 = .ok (.invokevirtual 233, 3) := dk_182 0 233 (dk_at dksX13_joined_0 20 rfl rfl)
theorem dX13_joined_23 : decode cX13_joined 23 = .ok (.istore 4, 2) := dk_54 4 (dk_at dksX13_joined_1 0 rfl rfl)
theorem dX13_joined_25 : decode cX13_joined 25 = .ok (.iconst 0, 1) := dk_3 (dk_at dksX13_joined_1 2 rfl rfl)
theorem dX13_joined_26 : decode cX13_joined 26 = .ok (.istore 5, 2) := dk_54 5 (dk_at dksX13_joined_1 3 rfl rfl)
theorem dX13_joined_28 : decode cX13_joined 28 = .ok (.iconst 0, 1) := dk_3 (dk_at dksX13_joined_1 5 rfl rfl)
theorem dX13_joined_29 : decode cX13_joined 29 = .ok (.istore 6, 2) := dk_54 6 (dk_at dksX13_joined_1 6 rfl rfl)
theorem dX13_joined_31 : decode cX13_joined 31 = .ok (.iload 6, 2) := dk_21 6 (dk_at dksX13_joined_1 8 rfl rfl)
theorem dX13_joined_33 : decode cX13_joined 33 = .ok (.aload_n 0, 1) := dk_42 (dk_at dksX13_joined_1 10 rfl rfl)
theorem dX13_joined_34 : decode cX13_joined 34 = .ok (.getfield 9, 3) := dk_180 0 9 (dk_at dksX13_joined_1 11 rfl rfl)
theorem dX13_joined_37 : decode cX13_joined 37 = .ok (.bipush 43, 2) := dk_16 43 (dk_at dksX13_joined_1 14 rfl rfl)
theorem dX13_joined_39 : decode cX13_joined 39 = .ok (.iaload, 1) := dk_46 (dk_at dksX13_joined_1 16 rfl rfl)
theorem dX13_joined_40 : decode cX13_joined 40 = .ok (.if_icmp .ge 66, 3) := dk_162 0 66 (dk_at dksX13_joined_1 17 rfl rfl)
theorem dX13_joined_43 : decode cX13_joined 43 = .ok (.iload 4, 2) := dk_21 4 (dk_at dksX13_joined_1 20 rfl rfl)
theorem dX13_joined_45 : decode cX13_joined 45 = .ok (.ldc 170, 2) := dk_18 170 (dk_at dksX13_joined_1 22 rfl rfl)
theorem dX13_joined_47 : decode cX13_joined 47 = .ok (.if_icmp .ge 59, 3) := dk_162 0 59 (dk_at dksX13_joined_2 0 rfl rfl)
theorem dX13_joined_50 : decode cX13_joined 50 = .ok (.iload_n 2, 1) := dk_28 (dk_at dksX13_joined_2 3 rfl rfl)
theorem dX13_joined_51 : decode cX13_joined 51 = .ok (.iload 6, 2) := dk_21 6 (dk_at dksX13_joined_2 4 rfl rfl)
theorem dX13_joined_53 : decode cX13_joined 53 = .ok (.invokestatic 114, 3) := dk_184 0 114 (dk_at dksX13_joined_2 6 rfl rfl)
theorem dX13_joined_56 : decode cX13_joined 56 = .ok (.ifCond .eq 44, 3) := dk_153 0 44 (dk_at dksX13_joined_2 9 rfl rfl)
theorem dX13_joined_59 : decode cX13_joined 59 = .ok (.iload 5, 2) := dk_21 5 (dk_at dksX13_joined_2 12 rfl rfl)
theorem dX13_joined_61 : decode cX13_joined 61 = .ok (.aload_n 0, 1) := dk_42 (dk_at dksX13_joined_2 14 rfl rfl)
theorem dX13_joined_62 : decode cX13_joined 62 = .ok (.iload_n 1, 1) := dk_27 (dk_at dksX13_joined_2 15 rfl rfl)
theorem dX13_joined_63 : decode cX13_joined 63 = .ok (.iconst 1, 1) := dk_4 (dk_at dksX13_joined_2 16 rfl rfl)
theorem dX13_joined_64 : decode cX13_joined 64 = .ok (.iload 6, 2) := dk_21 6 (dk_at dksX13_joined_2 17 rfl rfl)
theorem dX13_joined_66 : decode cX13_joined 66 = .ok (.ishl, 1) := dk_120 (dk_at dksX13_joined_2 19 rfl rfl)
theorem dX13_joined_67 : decode cX13_joined 67 = .ok (.invokevirtual 233, 3) := dk_182 0 233 (dk_at dksX13_joined_2 20 rfl rfl)
theorem dX13_joined_70 : decode cX13_joined 70 = .ok (.iadd, 1) := dk_96 (dk_at dksX13_joined_2 23 rfl rfl)
theorem dX13_joined_71 : decode cX13_joined 71 = .ok (.istore 5, 2) := dk_54 5 (dk_at dksX13_joined_3 0 rfl rfl)
theorem dX13_joined_73 : decode cX13_joined 73 = .ok (.iload 5, 2) := dk_21 5 (dk_at dksX13_joined_3 2 rfl rfl)
theorem dX13_joined_75 : decode cX13_joined 75 = .ok (.aload_n 0, 1) := dk_42 (dk_at dksX13_joined_3 4 rfl rfl)
theorem dX13_joined_76 : decode cX13_joined 76 = .ok (.getfield 22, 3) := dk_180 0 22 (dk_at dksX13_joined_3 5 rfl rfl)
theorem dX13_joined_79 : decode cX13_joined 79 = .ok (.bipush 7, 2) := dk_16 7 (dk_at dksX13_joined_3 8 rfl rfl)
theorem dX13_joined_81 : decode cX13_joined 81 = .ok (.aload_n 0, 1) := dk_42 (dk_at dksX13_joined_3 10 rfl rfl)
theorem dX13_joined_82 : decode cX13_joined 82 = .ok (.iload 6, 2) := dk_21 6 (dk_at dksX13_joined_3 11 rfl rfl)
theorem dX13_joined_84 : decode cX13_joined 84 = .ok (.iconst 2, 1) := dk_5 (dk_at dksX13_joined_3 13 rfl rfl)
theorem dX13_joined_85 : decode cX13_joined 85 = .ok (.invokevirtual 111, 3) := dk_182 0 111 (dk_at dksX13_joined_3 14 rfl rfl)
theorem dX13_joined_88 : decode cX13_joined 88 = .ok (.imul, 1) := dk_104 (dk_at dksX13_joined_3 17 rfl rfl)
theorem dX13_joined_89 : decode cX13_joined 89 = .ok (.aload_n 0, 1) := dk_42 (dk_at dksX13_joined_3 18 rfl rfl)
theorem dX13_joined_90 : decode cX13_joined 90 = .ok (.iload_n 1, 1) := dk_27 (dk_at dksX13_joined_3 19 rfl rfl)
theorem dX13_joined_91 : decode cX13_joined 91 = .ok (.iconst 1, 1) := dk_4 (dk_at dksX13_joined_3 20 rfl rfl)
theorem dX13_joined_92 : decode cX13_joined 92 = .ok (.invokevirtual 104, 3) := dk_182 0 104 (dk_at dksX13_joined_3 21 rfl rfl)
theorem dX13_joined_95 : decode cX13_joined 95 = .ok (.iadd, 1) := dk_96 (dk_at dksX13_joined_4 0 rfl rfl)
theorem dX13_joined_96 : decode cX13_joined 96 = .ok (.iaload, 1) := dk_46 (dk_at dksX13_joined_4 1 rfl rfl)
theorem dX13_joined_97 : decode cX13_joined 97 = .ok (.iadd, 1) := dk_96 (dk_at dksX13_joined_4 2 rfl rfl)
theorem dX13_joined_98 : decode cX13_joined 98 = .ok (.istore 5, 2) := dk_54 5 (dk_at dksX13_joined_4 3 rfl rfl)
theorem dX13_joined_100 : decode cX13_joined 100 = .ok (.iinc 6 1, 3) := dk_132 6 1 (dk_at dksX13_joined_4 5 rfl rfl)
theorem dX13_joined_103 : decode cX13_joined 103 = .ok (.goto (-72), 3) := dk_167 255 184 (dk_at dksX13_joined_4 8 rfl rfl)
theorem dX13_joined_106 : decode cX13_joined 106 = .ok (.iload 4, 2) := dk_21 4 (dk_at dksX13_joined_4 11 rfl rfl)
theorem dX13_joined_108 : decode cX13_joined 108 = .ok (.ldc 170, 2) := dk_18 170 (dk_at dksX13_joined_4 13 rfl rfl)
theorem dX13_joined_110 : decode cX13_joined 110 = .ok (.if_icmp .lt 12, 3) := dk_161 0 12 (dk_at dksX13_joined_4 15 rfl rfl)
theorem dX13_joined_113 : decode cX13_joined 113 = .ok (.aload_n 0, 1) := dk_42 (dk_at dksX13_joined_4 18 rfl rfl)
theorem dX13_joined_114 : decode cX13_joined 114 = .ok (.ldc 160, 2) := dk_18 160 (dk_at dksX13_joined_4 19 rfl rfl)
theorem dX13_joined_116 : decode cX13_joined 116 = .ok (.invokevirtual 92, 3) := dk_182 0 92 (dk_at dksX13_joined_4 21 rfl rfl)
theorem dX13_joined_119 : decode cX13_joined 119 = .ok (.goto 8, 3) := dk_167 0 8 (dk_at dksX13_joined_5 0 rfl rfl)
theorem dX13_joined_122 : decode cX13_joined 122 = .ok (.iload 5, 2) := dk_21 5 (dk_at dksX13_joined_5 3 rfl rfl)
theorem dX13_joined_124 : decode cX13_joined 124 = .ok (.iload 4, 2) := dk_21 4 (dk_at dksX13_joined_5 5 rfl rfl)
theorem dX13_joined_126 : decode cX13_joined 126 = .ok (.isub, 1) := dk_100 (dk_at dksX13_joined_5 7 rfl rfl)
theorem dX13_joined_127 : decode cX13_joined 127 = .ok (.ireturn, 1) := dk_172 (dk_at dksX13_joined_5 8 rfl rfl)
abbrev cX13_shared : ByteArray := prog_16_method_74_code
def yX13_shared : MethodName := ⟨RX13, "shared", "(III)I"⟩
def dkwX13_shared_1 : List UInt8 := [180, 0, 242, 172]
abbrev dktX13_shared_1 : List UInt8 := dkwX13_shared_1 ++ []
def dkwX13_shared_0 : List UInt8 := [42, 27, 28, 29, 182, 0, 251, 54, 4, 21, 4, 153, 0, 12, 42, 21, 4, 182, 0, 92, 167, 0, 7, 42]
abbrev dktX13_shared_0 : List UInt8 := dkwX13_shared_0 ++ dktX13_shared_1
theorem dksX13_shared_0 : cX13_shared.data.toList.drop 0 = dktX13_shared_0 := by decide +kernel
theorem dksX13_shared_1 : cX13_shared.data.toList.drop 24 = dktX13_shared_1 := dk_seg dksX13_shared_0 24 rfl rfl
theorem dX13_shared_0 : decode cX13_shared 0 = .ok (.aload_n 0, 1) := dk_42 (dk_at dksX13_shared_0 0 rfl rfl)
theorem dX13_shared_1 : decode cX13_shared 1 = .ok (.iload_n 1, 1) := dk_27 (dk_at dksX13_shared_0 1 rfl rfl)
theorem dX13_shared_2 : decode cX13_shared 2 = .ok (.iload_n 2, 1) := dk_28 (dk_at dksX13_shared_0 2 rfl rfl)
theorem dX13_shared_3 : decode cX13_shared 3 = .ok (.iload_n 3, 1) := dk_29 (dk_at dksX13_shared_0 3 rfl rfl)
theorem dX13_shared_4 : decode cX13_shared 4 = .ok (.invokevirtual 251, 3) := dk_182 0 251 (dk_at dksX13_shared_0 4 rfl rfl)
theorem dX13_shared_7 : decode cX13_shared 7 = .ok (.istore 4, 2) := dk_54 4 (dk_at dksX13_shared_0 7 rfl rfl)
theorem dX13_shared_9 : decode cX13_shared 9 = .ok (.iload 4, 2) := dk_21 4 (dk_at dksX13_shared_0 9 rfl rfl)
theorem dX13_shared_11 : decode cX13_shared 11 = .ok (.ifCond .eq 12, 3) := dk_153 0 12 (dk_at dksX13_shared_0 11 rfl rfl)
theorem dX13_shared_14 : decode cX13_shared 14 = .ok (.aload_n 0, 1) := dk_42 (dk_at dksX13_shared_0 14 rfl rfl)
theorem dX13_shared_15 : decode cX13_shared 15 = .ok (.iload 4, 2) := dk_21 4 (dk_at dksX13_shared_0 15 rfl rfl)
theorem dX13_shared_17 : decode cX13_shared 17 = .ok (.invokevirtual 92, 3) := dk_182 0 92 (dk_at dksX13_shared_0 17 rfl rfl)
theorem dX13_shared_20 : decode cX13_shared 20 = .ok (.goto 7, 3) := dk_167 0 7 (dk_at dksX13_shared_0 20 rfl rfl)
theorem dX13_shared_23 : decode cX13_shared 23 = .ok (.aload_n 0, 1) := dk_42 (dk_at dksX13_shared_0 23 rfl rfl)
theorem dX13_shared_24 : decode cX13_shared 24 = .ok (.getfield 242, 3) := dk_180 0 242 (dk_at dksX13_shared_1 0 rfl rfl)
theorem dX13_shared_27 : decode cX13_shared 27 = .ok (.ireturn, 1) := dk_172 (dk_at dksX13_shared_1 3 rfl rfl)
abbrev cX13_refusesShared : ByteArray := prog_16_method_73_code
def yX13_refusesShared : MethodName := ⟨RX13, "refusesShared", "(III)I"⟩
def dkwX13_refusesShared_6 : List UInt8 := [180, 0, 242, 18, 170, 161, 0, 8, 18, 160, 167, 0, 4, 3, 172]
abbrev dktX13_refusesShared_6 : List UInt8 := dkwX13_refusesShared_6 ++ []
def dkwX13_refusesShared_5 : List UInt8 := [162, 0, 15, 42, 21, 5, 181, 0, 242, 42, 21, 4, 181, 0, 245, 132, 4, 1, 167, 255, 192, 42]
abbrev dktX13_refusesShared_5 : List UInt8 := dkwX13_refusesShared_5 ++ dktX13_refusesShared_6
def dkwX13_refusesShared_4 : List UInt8 := [21, 5, 42, 28, 29, 21, 4, 2, 130, 126, 182, 0, 233, 96, 54, 5, 21, 5, 42, 180, 0, 242]
abbrev dktX13_refusesShared_4 : List UInt8 := dkwX13_refusesShared_4 ++ dktX13_refusesShared_5
def dkwX13_refusesShared_3 : List UInt8 := [21, 4, 29, 163, 0, 64, 21, 4, 29, 2, 130, 126, 154, 0, 49, 42, 27, 21, 4, 182, 0, 233, 54, 5]
abbrev dktX13_refusesShared_3 : List UInt8 := dkwX13_refusesShared_3 ++ dktX13_refusesShared_4
def dkwX13_refusesShared_2 : List UInt8 := [154, 0, 11, 42, 28, 182, 0, 123, 153, 0, 6, 18, 184, 172, 42, 18, 170, 181, 0, 242, 3, 54, 4]
abbrev dktX13_refusesShared_2 : List UInt8 := dkwX13_refusesShared_2 ++ dktX13_refusesShared_3
def dkwX13_refusesShared_1 : List UInt8 := [182, 0, 224, 154, 0, 6, 18, 72, 172, 42, 29, 182, 0, 227, 153, 0, 19, 42, 27, 182, 0, 123]
abbrev dktX13_refusesShared_1 : List UInt8 := dkwX13_refusesShared_1 ++ dktX13_refusesShared_2
def dkwX13_refusesShared_0 : List UInt8 := [42, 27, 182, 0, 117, 153, 0, 25, 42, 28, 182, 0, 117, 153, 0, 17, 27, 28, 159, 0, 12, 42, 29, 8]
abbrev dktX13_refusesShared_0 : List UInt8 := dkwX13_refusesShared_0 ++ dktX13_refusesShared_1
theorem dksX13_refusesShared_0 : cX13_refusesShared.data.toList.drop 0 = dktX13_refusesShared_0 := by decide +kernel
theorem dksX13_refusesShared_1 : cX13_refusesShared.data.toList.drop 24 = dktX13_refusesShared_1 := dk_seg dksX13_refusesShared_0 24 rfl rfl
theorem dksX13_refusesShared_2 : cX13_refusesShared.data.toList.drop 46 = dktX13_refusesShared_2 := dk_seg dksX13_refusesShared_1 22 rfl rfl
theorem dksX13_refusesShared_3 : cX13_refusesShared.data.toList.drop 69 = dktX13_refusesShared_3 := dk_seg dksX13_refusesShared_2 23 rfl rfl
theorem dksX13_refusesShared_4 : cX13_refusesShared.data.toList.drop 93 = dktX13_refusesShared_4 := dk_seg dksX13_refusesShared_3 24 rfl rfl
theorem dksX13_refusesShared_5 : cX13_refusesShared.data.toList.drop 115 = dktX13_refusesShared_5 := dk_seg dksX13_refusesShared_4 22 rfl rfl
theorem dksX13_refusesShared_6 : cX13_refusesShared.data.toList.drop 137 = dktX13_refusesShared_6 := dk_seg dksX13_refusesShared_5 22 rfl rfl
theorem dX13_refusesShared_0 : decode cX13_refusesShared 0 = .ok (.aload_n 0, 1) := dk_42 (dk_at dksX13_refusesShared_0 0 rfl rfl)
theorem dX13_refusesShared_1 : decode cX13_refusesShared 1 = .ok (.iload_n 1, 1) := dk_27 (dk_at dksX13_refusesShared_0 1 rfl rfl)
theorem dX13_refusesShared_2 : decode cX13_refusesShared 2 = .ok (.invokevirtual 117, 3) := dk_182 0 117 (dk_at dksX13_refusesShared_0 2 rfl rfl)
theorem dX13_refusesShared_5 : decode cX13_refusesShared 5 = .ok (.ifCond .eq 25, 3) := dk_153 0 25 (dk_at dksX13_refusesShared_0 5 rfl rfl)
theorem dX13_refusesShared_8 : decode cX13_refusesShared 8 = .ok (.aload_n 0, 1) := dk_42 (dk_at dksX13_refusesShared_0 8 rfl rfl)
theorem dX13_refusesShared_9 : decode cX13_refusesShared 9 = .ok (.iload_n 2, 1) := dk_28 (dk_at dksX13_refusesShared_0 9 rfl rfl)
theorem dX13_refusesShared_10 : decode cX13_refusesShared 10 = .ok (.invokevirtual 117, 3) := dk_182 0 117 (dk_at dksX13_refusesShared_0 10 rfl rfl)
theorem dX13_refusesShared_13 : decode cX13_refusesShared 13 = .ok (.ifCond .eq 17, 3) := dk_153 0 17 (dk_at dksX13_refusesShared_0 13 rfl rfl)
theorem dX13_refusesShared_16 : decode cX13_refusesShared 16 = .ok (.iload_n 1, 1) := dk_27 (dk_at dksX13_refusesShared_0 16 rfl rfl)
theorem dX13_refusesShared_17 : decode cX13_refusesShared 17 = .ok (.iload_n 2, 1) := dk_28 (dk_at dksX13_refusesShared_0 17 rfl rfl)
theorem dX13_refusesShared_18 : decode cX13_refusesShared 18 = .ok (.if_icmp .eq 12, 3) := dk_159 0 12 (dk_at dksX13_refusesShared_0 18 rfl rfl)
theorem dX13_refusesShared_21 : decode cX13_refusesShared 21 = .ok (.aload_n 0, 1) := dk_42 (dk_at dksX13_refusesShared_0 21 rfl rfl)
theorem dX13_refusesShared_22 : decode cX13_refusesShared 22 = .ok (.iload_n 3, 1) := dk_29 (dk_at dksX13_refusesShared_0 22 rfl rfl)
theorem dX13_refusesShared_23 : decode cX13_refusesShared 23 = .ok (.iconst 5, 1) := dk_8 (dk_at dksX13_refusesShared_0 23 rfl rfl)
theorem dX13_refusesShared_24 : decode cX13_refusesShared 24 = .ok (.invokevirtual 224, 3) := dk_182 0 224 (dk_at dksX13_refusesShared_1 0 rfl rfl)
theorem dX13_refusesShared_27 : decode cX13_refusesShared 27 = .ok (.ifCond .ne 6, 3) := dk_154 0 6 (dk_at dksX13_refusesShared_1 3 rfl rfl)
theorem dX13_refusesShared_30 : decode cX13_refusesShared 30 = .ok (.ldc 72, 2) := dk_18 72 (dk_at dksX13_refusesShared_1 6 rfl rfl)
theorem dX13_refusesShared_32 : decode cX13_refusesShared 32 = .ok (.ireturn, 1) := dk_172 (dk_at dksX13_refusesShared_1 8 rfl rfl)
theorem dX13_refusesShared_33 : decode cX13_refusesShared 33 = .ok (.aload_n 0, 1) := dk_42 (dk_at dksX13_refusesShared_1 9 rfl rfl)
theorem dX13_refusesShared_34 : decode cX13_refusesShared 34 = .ok (.iload_n 3, 1) := dk_29 (dk_at dksX13_refusesShared_1 10 rfl rfl)
theorem dX13_refusesShared_35 : decode cX13_refusesShared 35 = .ok (.invokevirtual 227, 3) := dk_182 0 227 (dk_at dksX13_refusesShared_1 11 rfl rfl)
theorem dX13_refusesShared_38 : decode cX13_refusesShared 38 = .ok (.ifCond .eq 19, 3) := dk_153 0 19 (dk_at dksX13_refusesShared_1 14 rfl rfl)
theorem dX13_refusesShared_41 : decode cX13_refusesShared 41 = .ok (.aload_n 0, 1) := dk_42 (dk_at dksX13_refusesShared_1 17 rfl rfl)
theorem dX13_refusesShared_42 : decode cX13_refusesShared 42 = .ok (.iload_n 1, 1) := dk_27 (dk_at dksX13_refusesShared_1 18 rfl rfl)
theorem dX13_refusesShared_43 : decode cX13_refusesShared 43 = .ok (.invokevirtual 123, 3) := dk_182 0 123 (dk_at dksX13_refusesShared_1 19 rfl rfl)
theorem dX13_refusesShared_46 : decode cX13_refusesShared 46 = .ok (.ifCond .ne 11, 3) := dk_154 0 11 (dk_at dksX13_refusesShared_2 0 rfl rfl)
theorem dX13_refusesShared_49 : decode cX13_refusesShared 49 = .ok (.aload_n 0, 1) := dk_42 (dk_at dksX13_refusesShared_2 3 rfl rfl)
theorem dX13_refusesShared_50 : decode cX13_refusesShared 50 = .ok (.iload_n 2, 1) := dk_28 (dk_at dksX13_refusesShared_2 4 rfl rfl)
theorem dX13_refusesShared_51 : decode cX13_refusesShared 51 = .ok (.invokevirtual 123, 3) := dk_182 0 123 (dk_at dksX13_refusesShared_2 5 rfl rfl)
theorem dX13_refusesShared_54 : decode cX13_refusesShared 54 = .ok (.ifCond .eq 6, 3) := dk_153 0 6 (dk_at dksX13_refusesShared_2 8 rfl rfl)
theorem dX13_refusesShared_57 : decode cX13_refusesShared 57 = .ok (.ldc 184, 2) := dk_18 184 (dk_at dksX13_refusesShared_2 11 rfl rfl)
theorem dX13_refusesShared_59 : decode cX13_refusesShared 59 = .ok (.ireturn, 1) := dk_172 (dk_at dksX13_refusesShared_2 13 rfl rfl)
theorem dX13_refusesShared_60 : decode cX13_refusesShared 60 = .ok (.aload_n 0, 1) := dk_42 (dk_at dksX13_refusesShared_2 14 rfl rfl)
theorem dX13_refusesShared_61 : decode cX13_refusesShared 61 = .ok (.ldc 170, 2) := dk_18 170 (dk_at dksX13_refusesShared_2 15 rfl rfl)
theorem dX13_refusesShared_63 : decode cX13_refusesShared 63 = .ok (.putfield 242, 3) := dk_181 0 242 (dk_at dksX13_refusesShared_2 17 rfl rfl)
theorem dX13_refusesShared_66 : decode cX13_refusesShared 66 = .ok (.iconst 0, 1) := dk_3 (dk_at dksX13_refusesShared_2 20 rfl rfl)
theorem dX13_refusesShared_67 : decode cX13_refusesShared 67 = .ok (.istore 4, 2) := dk_54 4 (dk_at dksX13_refusesShared_2 21 rfl rfl)
theorem dX13_refusesShared_69 : decode cX13_refusesShared 69 = .ok (.iload 4, 2) := dk_21 4 (dk_at dksX13_refusesShared_3 0 rfl rfl)
theorem dX13_refusesShared_71 : decode cX13_refusesShared 71 = .ok (.iload_n 3, 1) := dk_29 (dk_at dksX13_refusesShared_3 2 rfl rfl)
theorem dX13_refusesShared_72 : decode cX13_refusesShared 72 = .ok (.if_icmp .gt 64, 3) := dk_163 0 64 (dk_at dksX13_refusesShared_3 3 rfl rfl)
theorem dX13_refusesShared_75 : decode cX13_refusesShared 75 = .ok (.iload 4, 2) := dk_21 4 (dk_at dksX13_refusesShared_3 6 rfl rfl)
theorem dX13_refusesShared_77 : decode cX13_refusesShared 77 = .ok (.iload_n 3, 1) := dk_29 (dk_at dksX13_refusesShared_3 8 rfl rfl)
theorem dX13_refusesShared_78 : decode cX13_refusesShared 78 = .ok (.iconst (-1), 1) := dk_2 (dk_at dksX13_refusesShared_3 9 rfl rfl)
theorem dX13_refusesShared_79 : decode cX13_refusesShared 79 = .ok (.ixor, 1) := dk_130 (dk_at dksX13_refusesShared_3 10 rfl rfl)
theorem dX13_refusesShared_80 : decode cX13_refusesShared 80 = .ok (.iand, 1) := dk_126 (dk_at dksX13_refusesShared_3 11 rfl rfl)
theorem dX13_refusesShared_81 : decode cX13_refusesShared 81 = .ok (.ifCond .ne 49, 3) := dk_154 0 49 (dk_at dksX13_refusesShared_3 12 rfl rfl)
theorem dX13_refusesShared_84 : decode cX13_refusesShared 84 = .ok (.aload_n 0, 1) := dk_42 (dk_at dksX13_refusesShared_3 15 rfl rfl)
theorem dX13_refusesShared_85 : decode cX13_refusesShared 85 = .ok (.iload_n 1, 1) := dk_27 (dk_at dksX13_refusesShared_3 16 rfl rfl)
theorem dX13_refusesShared_86 : decode cX13_refusesShared 86 = .ok (.iload 4, 2) := dk_21 4 (dk_at dksX13_refusesShared_3 17 rfl rfl)
theorem dX13_refusesShared_88 : decode cX13_refusesShared 88 = .ok (.invokevirtual 233, 3) := dk_182 0 233 (dk_at dksX13_refusesShared_3 19 rfl rfl)
theorem dX13_refusesShared_91 : decode cX13_refusesShared 91 = .ok (.istore 5, 2) := dk_54 5 (dk_at dksX13_refusesShared_3 22 rfl rfl)
theorem dX13_refusesShared_93 : decode cX13_refusesShared 93 = .ok (.iload 5, 2) := dk_21 5 (dk_at dksX13_refusesShared_4 0 rfl rfl)
theorem dX13_refusesShared_95 : decode cX13_refusesShared 95 = .ok (.aload_n 0, 1) := dk_42 (dk_at dksX13_refusesShared_4 2 rfl rfl)
theorem dX13_refusesShared_96 : decode cX13_refusesShared 96 = .ok (.iload_n 2, 1) := dk_28 (dk_at dksX13_refusesShared_4 3 rfl rfl)
theorem dX13_refusesShared_97 : decode cX13_refusesShared 97 = .ok (.iload_n 3, 1) := dk_29 (dk_at dksX13_refusesShared_4 4 rfl rfl)
theorem dX13_refusesShared_98 : decode cX13_refusesShared 98 = .ok (.iload 4, 2) := dk_21 4 (dk_at dksX13_refusesShared_4 5 rfl rfl)
theorem dX13_refusesShared_100 : decode cX13_refusesShared 100 = .ok (.iconst (-1), 1) := dk_2 (dk_at dksX13_refusesShared_4 7 rfl rfl)
theorem dX13_refusesShared_101 : decode cX13_refusesShared 101 = .ok (.ixor, 1) := dk_130 (dk_at dksX13_refusesShared_4 8 rfl rfl)
theorem dX13_refusesShared_102 : decode cX13_refusesShared 102 = .ok (.iand, 1) := dk_126 (dk_at dksX13_refusesShared_4 9 rfl rfl)
theorem dX13_refusesShared_103 : decode cX13_refusesShared 103 = .ok (.invokevirtual 233, 3) := dk_182 0 233 (dk_at dksX13_refusesShared_4 10 rfl rfl)
theorem dX13_refusesShared_106 : decode cX13_refusesShared 106 = .ok (.iadd, 1) := dk_96 (dk_at dksX13_refusesShared_4 13 rfl rfl)
theorem dX13_refusesShared_107 : decode cX13_refusesShared 107 = .ok (.istore 5, 2) := dk_54 5 (dk_at dksX13_refusesShared_4 14 rfl rfl)
theorem dX13_refusesShared_109 : decode cX13_refusesShared 109 = .ok (.iload 5, 2) := dk_21 5 (dk_at dksX13_refusesShared_4 16 rfl rfl)
theorem dX13_refusesShared_111 : decode cX13_refusesShared 111 = .ok (.aload_n 0, 1) := dk_42 (dk_at dksX13_refusesShared_4 18 rfl rfl)
theorem dX13_refusesShared_112 : decode cX13_refusesShared 112 = .ok (.getfield 242, 3) := dk_180 0 242 (dk_at dksX13_refusesShared_4 19 rfl rfl)
theorem dX13_refusesShared_115 : decode cX13_refusesShared 115 = .ok (.if_icmp .ge 15, 3) := dk_162 0 15 (dk_at dksX13_refusesShared_5 0 rfl rfl)
theorem dX13_refusesShared_118 : decode cX13_refusesShared 118 = .ok (.aload_n 0, 1) := dk_42 (dk_at dksX13_refusesShared_5 3 rfl rfl)
theorem dX13_refusesShared_119 : decode cX13_refusesShared 119 = .ok (.iload 5, 2) := dk_21 5 (dk_at dksX13_refusesShared_5 4 rfl rfl)
theorem dX13_refusesShared_121 : decode cX13_refusesShared 121 = .ok (.putfield 242, 3) := dk_181 0 242 (dk_at dksX13_refusesShared_5 6 rfl rfl)
theorem dX13_refusesShared_124 : decode cX13_refusesShared 124 = .ok (.aload_n 0, 1) := dk_42 (dk_at dksX13_refusesShared_5 9 rfl rfl)
theorem dX13_refusesShared_125 : decode cX13_refusesShared 125 = .ok (.iload 4, 2) := dk_21 4 (dk_at dksX13_refusesShared_5 10 rfl rfl)
theorem dX13_refusesShared_127 : decode cX13_refusesShared 127 = .ok (.putfield 245, 3) := dk_181 0 245 (dk_at dksX13_refusesShared_5 12 rfl rfl)
theorem dX13_refusesShared_130 : decode cX13_refusesShared 130 = .ok (.iinc 4 1, 3) := dk_132 4 1 (dk_at dksX13_refusesShared_5 15 rfl rfl)
theorem dX13_refusesShared_133 : decode cX13_refusesShared 133 = .ok (.goto (-64), 3) := dk_167 255 192 (dk_at dksX13_refusesShared_5 18 rfl rfl)
theorem dX13_refusesShared_136 : decode cX13_refusesShared 136 = .ok (.aload_n 0, 1) := dk_42 (dk_at dksX13_refusesShared_5 21 rfl rfl)
theorem dX13_refusesShared_137 : decode cX13_refusesShared 137 = .ok (.getfield 242, 3) := dk_180 0 242 (dk_at dksX13_refusesShared_6 0 rfl rfl)
theorem dX13_refusesShared_140 : decode cX13_refusesShared 140 = .ok (.ldc 170, 2) := dk_18 170 (dk_at dksX13_refusesShared_6 3 rfl rfl)
theorem dX13_refusesShared_142 : decode cX13_refusesShared 142 = .ok (.if_icmp .lt 8, 3) := dk_161 0 8 (dk_at dksX13_refusesShared_6 5 rfl rfl)
theorem dX13_refusesShared_145 : decode cX13_refusesShared 145 = .ok (.ldc 160, 2) := dk_18 160 (dk_at dksX13_refusesShared_6 8 rfl rfl)
theorem dX13_refusesShared_147 : decode cX13_refusesShared 147 = .ok (.goto 4, 3) := dk_167 0 4 (dk_at dksX13_refusesShared_6 10 rfl rfl)
theorem dX13_refusesShared_150 : decode cX13_refusesShared 150 = .ok (.iconst 0, 1) := dk_3 (dk_at dksX13_refusesShared_6 13 rfl rfl)
theorem dX13_refusesShared_151 : decode cX13_refusesShared 151 = .ok (.ireturn, 1) := dk_172 (dk_at dksX13_refusesShared_6 14 rfl rfl)
abbrev cX13_part : ByteArray := prog_16_method_75_code
def yX13_part : MethodName := ⟨RX13, "part", "(III)I"⟩
def dkwX13_part_1 : List UInt8 := [180, 0, 245, 172]
abbrev dktX13_part_1 : List UInt8 := dkwX13_part_1 ++ []
def dkwX13_part_0 : List UInt8 := [42, 27, 28, 29, 182, 0, 251, 54, 4, 21, 4, 153, 0, 12, 42, 21, 4, 182, 0, 92, 167, 0, 7, 42]
abbrev dktX13_part_0 : List UInt8 := dkwX13_part_0 ++ dktX13_part_1
theorem dksX13_part_0 : cX13_part.data.toList.drop 0 = dktX13_part_0 := by decide +kernel
theorem dksX13_part_1 : cX13_part.data.toList.drop 24 = dktX13_part_1 := dk_seg dksX13_part_0 24 rfl rfl
theorem dX13_part_0 : decode cX13_part 0 = .ok (.aload_n 0, 1) := dk_42 (dk_at dksX13_part_0 0 rfl rfl)
theorem dX13_part_1 : decode cX13_part 1 = .ok (.iload_n 1, 1) := dk_27 (dk_at dksX13_part_0 1 rfl rfl)
theorem dX13_part_2 : decode cX13_part 2 = .ok (.iload_n 2, 1) := dk_28 (dk_at dksX13_part_0 2 rfl rfl)
theorem dX13_part_3 : decode cX13_part 3 = .ok (.iload_n 3, 1) := dk_29 (dk_at dksX13_part_0 3 rfl rfl)
theorem dX13_part_4 : decode cX13_part 4 = .ok (.invokevirtual 251, 3) := dk_182 0 251 (dk_at dksX13_part_0 4 rfl rfl)
theorem dX13_part_7 : decode cX13_part 7 = .ok (.istore 4, 2) := dk_54 4 (dk_at dksX13_part_0 7 rfl rfl)
theorem dX13_part_9 : decode cX13_part 9 = .ok (.iload 4, 2) := dk_21 4 (dk_at dksX13_part_0 9 rfl rfl)
theorem dX13_part_11 : decode cX13_part 11 = .ok (.ifCond .eq 12, 3) := dk_153 0 12 (dk_at dksX13_part_0 11 rfl rfl)
theorem dX13_part_14 : decode cX13_part 14 = .ok (.aload_n 0, 1) := dk_42 (dk_at dksX13_part_0 14 rfl rfl)
theorem dX13_part_15 : decode cX13_part 15 = .ok (.iload 4, 2) := dk_21 4 (dk_at dksX13_part_0 15 rfl rfl)
theorem dX13_part_17 : decode cX13_part 17 = .ok (.invokevirtual 92, 3) := dk_182 0 92 (dk_at dksX13_part_0 17 rfl rfl)
theorem dX13_part_20 : decode cX13_part 20 = .ok (.goto 7, 3) := dk_167 0 7 (dk_at dksX13_part_0 20 rfl rfl)
theorem dX13_part_23 : decode cX13_part 23 = .ok (.aload_n 0, 1) := dk_42 (dk_at dksX13_part_0 23 rfl rfl)
theorem dX13_part_24 : decode cX13_part 24 = .ok (.getfield 245, 3) := dk_180 0 245 (dk_at dksX13_part_1 0 rfl rfl)
theorem dX13_part_27 : decode cX13_part 27 = .ok (.ireturn, 1) := dk_172 (dk_at dksX13_part_1 3 rfl rfl)
abbrev cX13_strength : ByteArray := prog_16_method_76_code
def yX13_strength : MethodName := ⟨RX13, "strength", "(II)I"⟩
def dkwX13_strength_4 : List UInt8 := [18, 160, 182, 0, 92, 167, 0, 5, 21, 5, 172]
abbrev dktX13_strength_4 : List UInt8 := dkwX13_strength_4 ++ []
def dkwX13_strength_3 : List UInt8 := [167, 255, 219, 42, 180, 0, 9, 27, 5, 184, 0, 81, 21, 4, 79, 21, 6, 18, 170, 161, 0, 12, 42]
abbrev dktX13_strength_3 : List UInt8 := dkwX13_strength_3 ++ dktX13_strength_4
def dkwX13_strength_2 : List UInt8 := [132, 5, 1, 42, 180, 0, 9, 27, 5, 184, 0, 81, 21, 5, 79, 42, 27, 28, 182, 0, 233, 54, 6]
abbrev dktX13_strength_2 : List UInt8 := dkwX13_strength_2 ++ dktX13_strength_3
def dkwX13_strength_1 : List UInt8 := [54, 4, 3, 54, 5, 18, 170, 54, 6, 21, 5, 16, 99, 162, 0, 36, 21, 6, 18, 170, 161, 0, 29]
abbrev dktX13_strength_1 : List UInt8 := dkwX13_strength_1 ++ dktX13_strength_2
def dkwX13_strength_0 : List UInt8 := [42, 27, 28, 182, 0, 230, 62, 29, 153, 0, 9, 42, 29, 182, 0, 92, 172, 42, 27, 5, 182, 0, 104]
abbrev dktX13_strength_0 : List UInt8 := dkwX13_strength_0 ++ dktX13_strength_1
theorem dksX13_strength_0 : cX13_strength.data.toList.drop 0 = dktX13_strength_0 := by decide +kernel
theorem dksX13_strength_1 : cX13_strength.data.toList.drop 23 = dktX13_strength_1 := dk_seg dksX13_strength_0 23 rfl rfl
theorem dksX13_strength_2 : cX13_strength.data.toList.drop 46 = dktX13_strength_2 := dk_seg dksX13_strength_1 23 rfl rfl
theorem dksX13_strength_3 : cX13_strength.data.toList.drop 69 = dktX13_strength_3 := dk_seg dksX13_strength_2 23 rfl rfl
theorem dksX13_strength_4 : cX13_strength.data.toList.drop 92 = dktX13_strength_4 := dk_seg dksX13_strength_3 23 rfl rfl
theorem dX13_strength_0 : decode cX13_strength 0 = .ok (.aload_n 0, 1) := dk_42 (dk_at dksX13_strength_0 0 rfl rfl)
theorem dX13_strength_1 : decode cX13_strength 1 = .ok (.iload_n 1, 1) := dk_27 (dk_at dksX13_strength_0 1 rfl rfl)
theorem dX13_strength_2 : decode cX13_strength 2 = .ok (.iload_n 2, 1) := dk_28 (dk_at dksX13_strength_0 2 rfl rfl)
theorem dX13_strength_3 : decode cX13_strength 3 = .ok (.invokevirtual 230, 3) := dk_182 0 230 (dk_at dksX13_strength_0 3 rfl rfl)
theorem dX13_strength_6 : decode cX13_strength 6 = .ok (.istore_n 3, 1) := dk_62 (dk_at dksX13_strength_0 6 rfl rfl)
theorem dX13_strength_7 : decode cX13_strength 7 = .ok (.iload_n 3, 1) := dk_29 (dk_at dksX13_strength_0 7 rfl rfl)
theorem dX13_strength_8 : decode cX13_strength 8 = .ok (.ifCond .eq 9, 3) := dk_153 0 9 (dk_at dksX13_strength_0 8 rfl rfl)
theorem dX13_strength_11 : decode cX13_strength 11 = .ok (.aload_n 0, 1) := dk_42 (dk_at dksX13_strength_0 11 rfl rfl)
theorem dX13_strength_12 : decode cX13_strength 12 = .ok (.iload_n 3, 1) := dk_29 (dk_at dksX13_strength_0 12 rfl rfl)
theorem dX13_strength_13 : decode cX13_strength 13 = .ok (.invokevirtual 92, 3) := dk_182 0 92 (dk_at dksX13_strength_0 13 rfl rfl)
theorem dX13_strength_16 : decode cX13_strength 16 = .ok (.ireturn, 1) := dk_172 (dk_at dksX13_strength_0 16 rfl rfl)
theorem dX13_strength_17 : decode cX13_strength 17 = .ok (.aload_n 0, 1) := dk_42 (dk_at dksX13_strength_0 17 rfl rfl)
theorem dX13_strength_18 : decode cX13_strength 18 = .ok (.iload_n 1, 1) := dk_27 (dk_at dksX13_strength_0 18 rfl rfl)
theorem dX13_strength_19 : decode cX13_strength 19 = .ok (.iconst 2, 1) := dk_5 (dk_at dksX13_strength_0 19 rfl rfl)
theorem dX13_strength_20 : decode cX13_strength 20 = .ok (.invokevirtual 104, 3) := dk_182 0 104 (dk_at dksX13_strength_0 20 rfl rfl)
theorem dX13_strength_23 : decode cX13_strength 23 = .ok (.istore 4, 2) := dk_54 4 (dk_at dksX13_strength_1 0 rfl rfl)
theorem dX13_strength_25 : decode cX13_strength 25 = .ok (.iconst 0, 1) := dk_3 (dk_at dksX13_strength_1 2 rfl rfl)
theorem dX13_strength_26 : decode cX13_strength 26 = .ok (.istore 5, 2) := dk_54 5 (dk_at dksX13_strength_1 3 rfl rfl)
theorem dX13_strength_28 : decode cX13_strength 28 = .ok (.ldc 170, 2) := dk_18 170 (dk_at dksX13_strength_1 5 rfl rfl)
theorem dX13_strength_30 : decode cX13_strength 30 = .ok (.istore 6, 2) := dk_54 6 (dk_at dksX13_strength_1 7 rfl rfl)
theorem dX13_strength_32 : decode cX13_strength 32 = .ok (.iload 5, 2) := dk_21 5 (dk_at dksX13_strength_1 9 rfl rfl)
theorem dX13_strength_34 : decode cX13_strength 34 = .ok (.bipush 99, 2) := dk_16 99 (dk_at dksX13_strength_1 11 rfl rfl)
theorem dX13_strength_36 : decode cX13_strength 36 = .ok (.if_icmp .ge 36, 3) := dk_162 0 36 (dk_at dksX13_strength_1 13 rfl rfl)
theorem dX13_strength_39 : decode cX13_strength 39 = .ok (.iload 6, 2) := dk_21 6 (dk_at dksX13_strength_1 16 rfl rfl)
theorem dX13_strength_41 : decode cX13_strength 41 = .ok (.ldc 170, 2) := dk_18 170 (dk_at dksX13_strength_1 18 rfl rfl)
theorem dX13_strength_43 : decode cX13_strength 43 = .ok (.if_icmp .lt 29, 3) := dk_161 0 29 (dk_at dksX13_strength_1 20 rfl rfl)
theorem dX13_strength_46 : decode cX13_strength 46 = .ok (.iinc 5 1, 3) := dk_132 5 1 (dk_at dksX13_strength_2 0 rfl rfl)
theorem dX13_strength_49 : decode cX13_strength 49 = .ok (.aload_n 0, 1) := dk_42 (dk_at dksX13_strength_2 3 rfl rfl)
theorem dX13_strength_50 : decode cX13_strength 50 = .ok (.getfield 9, 3) := dk_180 0 9 (dk_at dksX13_strength_2 4 rfl rfl)
theorem dX13_strength_53 : decode cX13_strength 53 = .ok (.iload_n 1, 1) := dk_27 (dk_at dksX13_strength_2 7 rfl rfl)
theorem dX13_strength_54 : decode cX13_strength 54 = .ok (.iconst 2, 1) := dk_5 (dk_at dksX13_strength_2 8 rfl rfl)
theorem dX13_strength_55 : decode cX13_strength 55 = .ok (.invokestatic 81, 3) := dk_184 0 81 (dk_at dksX13_strength_2 9 rfl rfl)
theorem dX13_strength_58 : decode cX13_strength 58 = .ok (.iload 5, 2) := dk_21 5 (dk_at dksX13_strength_2 12 rfl rfl)
theorem dX13_strength_60 : decode cX13_strength 60 = .ok (.iastore, 1) := dk_79 (dk_at dksX13_strength_2 14 rfl rfl)
theorem dX13_strength_61 : decode cX13_strength 61 = .ok (.aload_n 0, 1) := dk_42 (dk_at dksX13_strength_2 15 rfl rfl)
theorem dX13_strength_62 : decode cX13_strength 62 = .ok (.iload_n 1, 1) := dk_27 (dk_at dksX13_strength_2 16 rfl rfl)
theorem dX13_strength_63 : decode cX13_strength 63 = .ok (.iload_n 2, 1) := dk_28 (dk_at dksX13_strength_2 17 rfl rfl)
theorem dX13_strength_64 : decode cX13_strength 64 = .ok (.invokevirtual 233, 3) := dk_182 0 233 (dk_at dksX13_strength_2 18 rfl rfl)
theorem dX13_strength_67 : decode cX13_strength 67 = .ok (.istore 6, 2) := dk_54 6 (dk_at dksX13_strength_2 21 rfl rfl)
theorem dX13_strength_69 : decode cX13_strength 69 = .ok (.goto (-37), 3) := dk_167 255 219 (dk_at dksX13_strength_3 0 rfl rfl)
theorem dX13_strength_72 : decode cX13_strength 72 = .ok (.aload_n 0, 1) := dk_42 (dk_at dksX13_strength_3 3 rfl rfl)
theorem dX13_strength_73 : decode cX13_strength 73 = .ok (.getfield 9, 3) := dk_180 0 9 (dk_at dksX13_strength_3 4 rfl rfl)
theorem dX13_strength_76 : decode cX13_strength 76 = .ok (.iload_n 1, 1) := dk_27 (dk_at dksX13_strength_3 7 rfl rfl)
theorem dX13_strength_77 : decode cX13_strength 77 = .ok (.iconst 2, 1) := dk_5 (dk_at dksX13_strength_3 8 rfl rfl)
theorem dX13_strength_78 : decode cX13_strength 78 = .ok (.invokestatic 81, 3) := dk_184 0 81 (dk_at dksX13_strength_3 9 rfl rfl)
theorem dX13_strength_81 : decode cX13_strength 81 = .ok (.iload 4, 2) := dk_21 4 (dk_at dksX13_strength_3 12 rfl rfl)
theorem dX13_strength_83 : decode cX13_strength 83 = .ok (.iastore, 1) := dk_79 (dk_at dksX13_strength_3 14 rfl rfl)
theorem dX13_strength_84 : decode cX13_strength 84 = .ok (.iload 6, 2) := dk_21 6 (dk_at dksX13_strength_3 15 rfl rfl)
theorem dX13_strength_86 : decode cX13_strength 86 = .ok (.ldc 170, 2) := dk_18 170 (dk_at dksX13_strength_3 17 rfl rfl)
theorem dX13_strength_88 : decode cX13_strength 88 = .ok (.if_icmp .lt 12, 3) := dk_161 0 12 (dk_at dksX13_strength_3 19 rfl rfl)
theorem dX13_strength_91 : decode cX13_strength 91 = .ok (.aload_n 0, 1) := dk_42 (dk_at dksX13_strength_3 22 rfl rfl)
theorem dX13_strength_92 : decode cX13_strength 92 = .ok (.ldc 160, 2) := dk_18 160 (dk_at dksX13_strength_4 0 rfl rfl)
theorem dX13_strength_94 : decode cX13_strength 94 = .ok (.invokevirtual 92, 3) := dk_182 0 92 (dk_at dksX13_strength_4 2 rfl rfl)
theorem dX13_strength_97 : decode cX13_strength 97 = .ok (.goto 5, 3) := dk_167 0 5 (dk_at dksX13_strength_4 5 rfl rfl)
theorem dX13_strength_100 : decode cX13_strength 100 = .ok (.iload 5, 2) := dk_21 5 (dk_at dksX13_strength_4 8 rfl rfl)
theorem dX13_strength_102 : decode cX13_strength 102 = .ok (.ireturn, 1) := dk_172 (dk_at dksX13_strength_4 10 rfl rfl)
abbrev cX13_kindFor : ByteArray := prog_16_method_77_code
def yX13_kindFor : MethodName := ⟨RX13, "kindFor", "(II)I"⟩
def dkwX13_kindFor_5 : List UInt8 := [167, 0, 5, 21, 5, 172]
abbrev dktX13_kindFor_5 : List UInt8 := dkwX13_kindFor_5 ++ []
def dkwX13_kindFor_4 : List UInt8 := [180, 0, 9, 27, 3, 184, 0, 81, 21, 4, 79, 21, 5, 156, 0, 12, 42, 18, 160, 182, 0, 92]
abbrev dktX13_kindFor_4 : List UInt8 := dkwX13_kindFor_4 ++ dktX13_kindFor_5
def dkwX13_kindFor_3 : List UInt8 := [167, 0, 5, 21, 5, 54, 5, 21, 6, 21, 8, 184, 0, 136, 54, 6, 132, 7, 1, 167, 255, 201, 42]
abbrev dktX13_kindFor_3 : List UInt8 := dkwX13_kindFor_3 ++ dktX13_kindFor_4
def dkwX13_kindFor_2 : List UInt8 := [3, 184, 0, 81, 21, 7, 79, 42, 27, 28, 182, 0, 233, 54, 8, 21, 8, 21, 6, 162, 0, 8, 21, 7]
abbrev dktX13_kindFor_2 : List UInt8 := dkwX13_kindFor_2 ++ dktX13_kindFor_3
def dkwX13_kindFor_1 : List UInt8 := [54, 4, 2, 54, 5, 18, 170, 54, 6, 3, 54, 7, 21, 7, 16, 6, 163, 0, 54, 42, 180, 0, 9, 27]
abbrev dktX13_kindFor_1 : List UInt8 := dkwX13_kindFor_1 ++ dktX13_kindFor_2
def dkwX13_kindFor_0 : List UInt8 := [42, 27, 28, 182, 0, 230, 62, 29, 153, 0, 9, 42, 29, 182, 0, 92, 172, 42, 27, 3, 182, 0, 104]
abbrev dktX13_kindFor_0 : List UInt8 := dkwX13_kindFor_0 ++ dktX13_kindFor_1
theorem dksX13_kindFor_0 : cX13_kindFor.data.toList.drop 0 = dktX13_kindFor_0 := by decide +kernel
theorem dksX13_kindFor_1 : cX13_kindFor.data.toList.drop 23 = dktX13_kindFor_1 := dk_seg dksX13_kindFor_0 23 rfl rfl
theorem dksX13_kindFor_2 : cX13_kindFor.data.toList.drop 47 = dktX13_kindFor_2 := dk_seg dksX13_kindFor_1 24 rfl rfl
theorem dksX13_kindFor_3 : cX13_kindFor.data.toList.drop 71 = dktX13_kindFor_3 := dk_seg dksX13_kindFor_2 24 rfl rfl
theorem dksX13_kindFor_4 : cX13_kindFor.data.toList.drop 94 = dktX13_kindFor_4 := dk_seg dksX13_kindFor_3 23 rfl rfl
theorem dksX13_kindFor_5 : cX13_kindFor.data.toList.drop 116 = dktX13_kindFor_5 := dk_seg dksX13_kindFor_4 22 rfl rfl
theorem dX13_kindFor_0 : decode cX13_kindFor 0 = .ok (.aload_n 0, 1) := dk_42 (dk_at dksX13_kindFor_0 0 rfl rfl)
theorem dX13_kindFor_1 : decode cX13_kindFor 1 = .ok (.iload_n 1, 1) := dk_27 (dk_at dksX13_kindFor_0 1 rfl rfl)
theorem dX13_kindFor_2 : decode cX13_kindFor 2 = .ok (.iload_n 2, 1) := dk_28 (dk_at dksX13_kindFor_0 2 rfl rfl)
theorem dX13_kindFor_3 : decode cX13_kindFor 3 = .ok (.invokevirtual 230, 3) := dk_182 0 230 (dk_at dksX13_kindFor_0 3 rfl rfl)
theorem dX13_kindFor_6 : decode cX13_kindFor 6 = .ok (.istore_n 3, 1) := dk_62 (dk_at dksX13_kindFor_0 6 rfl rfl)
theorem dX13_kindFor_7 : decode cX13_kindFor 7 = .ok (.iload_n 3, 1) := dk_29 (dk_at dksX13_kindFor_0 7 rfl rfl)
theorem dX13_kindFor_8 : decode cX13_kindFor 8 = .ok (.ifCond .eq 9, 3) := dk_153 0 9 (dk_at dksX13_kindFor_0 8 rfl rfl)
theorem dX13_kindFor_11 : decode cX13_kindFor 11 = .ok (.aload_n 0, 1) := dk_42 (dk_at dksX13_kindFor_0 11 rfl rfl)
theorem dX13_kindFor_12 : decode cX13_kindFor 12 = .ok (.iload_n 3, 1) := dk_29 (dk_at dksX13_kindFor_0 12 rfl rfl)
theorem dX13_kindFor_13 : decode cX13_kindFor 13 = .ok (.invokevirtual 92, 3) := dk_182 0 92 (dk_at dksX13_kindFor_0 13 rfl rfl)
theorem dX13_kindFor_16 : decode cX13_kindFor 16 = .ok (.ireturn, 1) := dk_172 (dk_at dksX13_kindFor_0 16 rfl rfl)
theorem dX13_kindFor_17 : decode cX13_kindFor 17 = .ok (.aload_n 0, 1) := dk_42 (dk_at dksX13_kindFor_0 17 rfl rfl)
theorem dX13_kindFor_18 : decode cX13_kindFor 18 = .ok (.iload_n 1, 1) := dk_27 (dk_at dksX13_kindFor_0 18 rfl rfl)
theorem dX13_kindFor_19 : decode cX13_kindFor 19 = .ok (.iconst 0, 1) := dk_3 (dk_at dksX13_kindFor_0 19 rfl rfl)
theorem dX13_kindFor_20 : decode cX13_kindFor 20 = .ok (.invokevirtual 104, 3) := dk_182 0 104 (dk_at dksX13_kindFor_0 20 rfl rfl)
theorem dX13_kindFor_23 : decode cX13_kindFor 23 = .ok (.istore 4, 2) := dk_54 4 (dk_at dksX13_kindFor_1 0 rfl rfl)
theorem dX13_kindFor_25 : decode cX13_kindFor 25 = .ok (.iconst (-1), 1) := dk_2 (dk_at dksX13_kindFor_1 2 rfl rfl)
theorem dX13_kindFor_26 : decode cX13_kindFor 26 = .ok (.istore 5, 2) := dk_54 5 (dk_at dksX13_kindFor_1 3 rfl rfl)
theorem dX13_kindFor_28 : decode cX13_kindFor 28 = .ok (.ldc 170, 2) := dk_18 170 (dk_at dksX13_kindFor_1 5 rfl rfl)
theorem dX13_kindFor_30 : decode cX13_kindFor 30 = .ok (.istore 6, 2) := dk_54 6 (dk_at dksX13_kindFor_1 7 rfl rfl)
theorem dX13_kindFor_32 : decode cX13_kindFor 32 = .ok (.iconst 0, 1) := dk_3 (dk_at dksX13_kindFor_1 9 rfl rfl)
theorem dX13_kindFor_33 : decode cX13_kindFor 33 = .ok (.istore 7, 2) := dk_54 7 (dk_at dksX13_kindFor_1 10 rfl rfl)
theorem dX13_kindFor_35 : decode cX13_kindFor 35 = .ok (.iload 7, 2) := dk_21 7 (dk_at dksX13_kindFor_1 12 rfl rfl)
theorem dX13_kindFor_37 : decode cX13_kindFor 37 = .ok (.bipush 6, 2) := dk_16 6 (dk_at dksX13_kindFor_1 14 rfl rfl)
theorem dX13_kindFor_39 : decode cX13_kindFor 39 = .ok (.if_icmp .gt 54, 3) := dk_163 0 54 (dk_at dksX13_kindFor_1 16 rfl rfl)
theorem dX13_kindFor_42 : decode cX13_kindFor 42 = .ok (.aload_n 0, 1) := dk_42 (dk_at dksX13_kindFor_1 19 rfl rfl)
theorem dX13_kindFor_43 : decode cX13_kindFor 43 = .ok (.getfield 9, 3) := dk_180 0 9 (dk_at dksX13_kindFor_1 20 rfl rfl)
theorem dX13_kindFor_46 : decode cX13_kindFor 46 = .ok (.iload_n 1, 1) := dk_27 (dk_at dksX13_kindFor_1 23 rfl rfl)
theorem dX13_kindFor_47 : decode cX13_kindFor 47 = .ok (.iconst 0, 1) := dk_3 (dk_at dksX13_kindFor_2 0 rfl rfl)
theorem dX13_kindFor_48 : decode cX13_kindFor 48 = .ok (.invokestatic 81, 3) := dk_184 0 81 (dk_at dksX13_kindFor_2 1 rfl rfl)
theorem dX13_kindFor_51 : decode cX13_kindFor 51 = .ok (.iload 7, 2) := dk_21 7 (dk_at dksX13_kindFor_2 4 rfl rfl)
theorem dX13_kindFor_53 : decode cX13_kindFor 53 = .ok (.iastore, 1) := dk_79 (dk_at dksX13_kindFor_2 6 rfl rfl)
theorem dX13_kindFor_54 : decode cX13_kindFor 54 = .ok (.aload_n 0, 1) := dk_42 (dk_at dksX13_kindFor_2 7 rfl rfl)
theorem dX13_kindFor_55 : decode cX13_kindFor 55 = .ok (.iload_n 1, 1) := dk_27 (dk_at dksX13_kindFor_2 8 rfl rfl)
theorem dX13_kindFor_56 : decode cX13_kindFor 56 = .ok (.iload_n 2, 1) := dk_28 (dk_at dksX13_kindFor_2 9 rfl rfl)
theorem dX13_kindFor_57 : decode cX13_kindFor 57 = .ok (.invokevirtual 233, 3) := dk_182 0 233 (dk_at dksX13_kindFor_2 10 rfl rfl)
theorem dX13_kindFor_60 : decode cX13_kindFor 60 = .ok (.istore 8, 2) := dk_54 8 (dk_at dksX13_kindFor_2 13 rfl rfl)
theorem dX13_kindFor_62 : decode cX13_kindFor 62 = .ok (.iload 8, 2) := dk_21 8 (dk_at dksX13_kindFor_2 15 rfl rfl)
theorem dX13_kindFor_64 : decode cX13_kindFor 64 = .ok (.iload 6, 2) := dk_21 6 (dk_at dksX13_kindFor_2 17 rfl rfl)
theorem dX13_kindFor_66 : decode cX13_kindFor 66 = .ok (.if_icmp .ge 8, 3) := dk_162 0 8 (dk_at dksX13_kindFor_2 19 rfl rfl)
theorem dX13_kindFor_69 : decode cX13_kindFor 69 = .ok (.iload 7, 2) := dk_21 7 (dk_at dksX13_kindFor_2 22 rfl rfl)
theorem dX13_kindFor_71 : decode cX13_kindFor 71 = .ok (.goto 5, 3) := dk_167 0 5 (dk_at dksX13_kindFor_3 0 rfl rfl)
theorem dX13_kindFor_74 : decode cX13_kindFor 74 = .ok (.iload 5, 2) := dk_21 5 (dk_at dksX13_kindFor_3 3 rfl rfl)
theorem dX13_kindFor_76 : decode cX13_kindFor 76 = .ok (.istore 5, 2) := dk_54 5 (dk_at dksX13_kindFor_3 5 rfl rfl)
theorem dX13_kindFor_78 : decode cX13_kindFor 78 = .ok (.iload 6, 2) := dk_21 6 (dk_at dksX13_kindFor_3 7 rfl rfl)
theorem dX13_kindFor_80 : decode cX13_kindFor 80 = .ok (.iload 8, 2) := dk_21 8 (dk_at dksX13_kindFor_3 9 rfl rfl)
theorem dX13_kindFor_82 : decode cX13_kindFor 82 = .ok (.invokestatic 136, 3) := dk_184 0 136 (dk_at dksX13_kindFor_3 11 rfl rfl)
theorem dX13_kindFor_85 : decode cX13_kindFor 85 = .ok (.istore 6, 2) := dk_54 6 (dk_at dksX13_kindFor_3 14 rfl rfl)
theorem dX13_kindFor_87 : decode cX13_kindFor 87 = .ok (.iinc 7 1, 3) := dk_132 7 1 (dk_at dksX13_kindFor_3 16 rfl rfl)
theorem dX13_kindFor_90 : decode cX13_kindFor 90 = .ok (.goto (-55), 3) := dk_167 255 201 (dk_at dksX13_kindFor_3 19 rfl rfl)
theorem dX13_kindFor_93 : decode cX13_kindFor 93 = .ok (.aload_n 0, 1) := dk_42 (dk_at dksX13_kindFor_3 22 rfl rfl)
theorem dX13_kindFor_94 : decode cX13_kindFor 94 = .ok (.getfield 9, 3) := dk_180 0 9 (dk_at dksX13_kindFor_4 0 rfl rfl)
theorem dX13_kindFor_97 : decode cX13_kindFor 97 = .ok (.iload_n 1, 1) := dk_27 (dk_at dksX13_kindFor_4 3 rfl rfl)
theorem dX13_kindFor_98 : decode cX13_kindFor 98 = .ok (.iconst 0, 1) := dk_3 (dk_at dksX13_kindFor_4 4 rfl rfl)
theorem dX13_kindFor_99 : decode cX13_kindFor 99 = .ok (.invokestatic 81, 3) := dk_184 0 81 (dk_at dksX13_kindFor_4 5 rfl rfl)
theorem dX13_kindFor_102 : decode cX13_kindFor 102 = .ok (.iload 4, 2) := dk_21 4 (dk_at dksX13_kindFor_4 8 rfl rfl)
theorem dX13_kindFor_104 : decode cX13_kindFor 104 = .ok (.iastore, 1) := dk_79 (dk_at dksX13_kindFor_4 10 rfl rfl)
theorem dX13_kindFor_105 : decode cX13_kindFor 105 = .ok (.iload 5, 2) := dk_21 5 (dk_at dksX13_kindFor_4 11 rfl rfl)
theorem dX13_kindFor_107 : decode cX13_kindFor 107 = .ok (.ifCond .ge 12, 3) := dk_156 0 12 (dk_at dksX13_kindFor_4 13 rfl rfl)
theorem dX13_kindFor_110 : decode cX13_kindFor 110 = .ok (.aload_n 0, 1) := dk_42 (dk_at dksX13_kindFor_4 16 rfl rfl)
theorem dX13_kindFor_111 : decode cX13_kindFor 111 = .ok (.ldc 160, 2) := dk_18 160 (dk_at dksX13_kindFor_4 17 rfl rfl)
theorem dX13_kindFor_113 : decode cX13_kindFor 113 = .ok (.invokevirtual 92, 3) := dk_182 0 92 (dk_at dksX13_kindFor_4 19 rfl rfl)
theorem dX13_kindFor_116 : decode cX13_kindFor 116 = .ok (.goto 5, 3) := dk_167 0 5 (dk_at dksX13_kindFor_5 0 rfl rfl)
theorem dX13_kindFor_119 : decode cX13_kindFor 119 = .ok (.iload 5, 2) := dk_21 5 (dk_at dksX13_kindFor_5 3 rfl rfl)
theorem dX13_kindFor_121 : decode cX13_kindFor 121 = .ok (.ireturn, 1) := dk_172 (dk_at dksX13_kindFor_5 5 rfl rfl)
abbrev cX13_bridge : ByteArray := prog_16_method_79_code
def yX13_bridge : MethodName := ⟨RX13, "bridge", "(II)I"⟩
def dkwX13_bridge_0 : List UInt8 := [42, 27, 28, 182, 1, 1, 62, 29, 153, 0, 11, 42, 29, 182, 0, 92, 167, 0, 7, 42, 180, 0, 254, 172]
abbrev dktX13_bridge_0 : List UInt8 := dkwX13_bridge_0 ++ []
theorem dksX13_bridge_0 : cX13_bridge.data.toList.drop 0 = dktX13_bridge_0 := by decide +kernel
theorem dX13_bridge_0 : decode cX13_bridge 0 = .ok (.aload_n 0, 1) := dk_42 (dk_at dksX13_bridge_0 0 rfl rfl)
theorem dX13_bridge_1 : decode cX13_bridge 1 = .ok (.iload_n 1, 1) := dk_27 (dk_at dksX13_bridge_0 1 rfl rfl)
theorem dX13_bridge_2 : decode cX13_bridge 2 = .ok (.iload_n 2, 1) := dk_28 (dk_at dksX13_bridge_0 2 rfl rfl)
theorem dX13_bridge_3 : decode cX13_bridge 3 = .ok (.invokevirtual 257, 3) := dk_182 1 1 (dk_at dksX13_bridge_0 3 rfl rfl)
theorem dX13_bridge_6 : decode cX13_bridge 6 = .ok (.istore_n 3, 1) := dk_62 (dk_at dksX13_bridge_0 6 rfl rfl)
theorem dX13_bridge_7 : decode cX13_bridge 7 = .ok (.iload_n 3, 1) := dk_29 (dk_at dksX13_bridge_0 7 rfl rfl)
theorem dX13_bridge_8 : decode cX13_bridge 8 = .ok (.ifCond .eq 11, 3) := dk_153 0 11 (dk_at dksX13_bridge_0 8 rfl rfl)
theorem dX13_bridge_11 : decode cX13_bridge 11 = .ok (.aload_n 0, 1) := dk_42 (dk_at dksX13_bridge_0 11 rfl rfl)
theorem dX13_bridge_12 : decode cX13_bridge 12 = .ok (.iload_n 3, 1) := dk_29 (dk_at dksX13_bridge_0 12 rfl rfl)
theorem dX13_bridge_13 : decode cX13_bridge 13 = .ok (.invokevirtual 92, 3) := dk_182 0 92 (dk_at dksX13_bridge_0 13 rfl rfl)
theorem dX13_bridge_16 : decode cX13_bridge 16 = .ok (.goto 7, 3) := dk_167 0 7 (dk_at dksX13_bridge_0 16 rfl rfl)
theorem dX13_bridge_19 : decode cX13_bridge 19 = .ok (.aload_n 0, 1) := dk_42 (dk_at dksX13_bridge_0 19 rfl rfl)
theorem dX13_bridge_20 : decode cX13_bridge 20 = .ok (.getfield 254, 3) := dk_180 0 254 (dk_at dksX13_bridge_0 20 rfl rfl)
theorem dX13_bridge_23 : decode cX13_bridge 23 = .ok (.ireturn, 1) := dk_172 (dk_at dksX13_bridge_0 23 rfl rfl)
abbrev cX13_refusesBridge : ByteArray := prog_16_method_78_code
def yX13_refusesBridge : MethodName := ⟨RX13, "refusesBridge", "(II)I"⟩
def dkwX13_refusesBridge_7 : List UInt8 := [180, 0, 242, 18, 170, 161, 0, 8, 18, 160, 167, 0, 4, 3, 172]
abbrev dktX13_refusesBridge_7 : List UInt8 := dkwX13_refusesBridge_7 ++ []
def dkwX13_refusesBridge_6 : List UInt8 := [180, 0, 242, 21, 6, 184, 0, 136, 181, 0, 242, 132, 5, 1, 167, 255, 134, 132, 4, 1, 167, 255, 115, 42]
abbrev dktX13_refusesBridge_6 : List UInt8 := dkwX13_refusesBridge_6 ++ dktX13_refusesBridge_7
def dkwX13_refusesBridge_5 : List UInt8 := [162, 0, 14, 16, 10, 21, 4, 104, 21, 5, 96, 167, 0, 7, 42, 180, 0, 254, 181, 0, 254, 42, 42]
abbrev dktX13_refusesBridge_5 : List UInt8 := dkwX13_refusesBridge_5 ++ dktX13_refusesBridge_6
def dkwX13_refusesBridge_4 : List UInt8 := [54, 6, 42, 180, 0, 9, 21, 4, 21, 5, 184, 0, 144, 4, 96, 4, 79, 42, 21, 6, 42, 180, 0, 242]
abbrev dktX13_refusesBridge_4 : List UInt8 := dkwX13_refusesBridge_4 ++ dktX13_refusesBridge_5
def dkwX13_refusesBridge_3 : List UInt8 := [160, 0, 82, 42, 180, 0, 9, 21, 4, 21, 5, 184, 0, 144, 4, 96, 3, 79, 42, 27, 28, 182, 0, 233]
abbrev dktX13_refusesBridge_3 : List UInt8 := dkwX13_refusesBridge_3 ++ dktX13_refusesBridge_4
def dkwX13_refusesBridge_2 : List UInt8 := [21, 5, 184, 0, 144, 46, 158, 0, 100, 42, 180, 0, 9, 21, 4, 21, 5, 184, 0, 144, 4, 96, 46, 4]
abbrev dktX13_refusesBridge_2 : List UInt8 := dkwX13_refusesBridge_2 ++ dktX13_refusesBridge_3
def dkwX13_refusesBridge_1 : List UInt8 := [16, 7, 162, 0, 140, 21, 4, 4, 96, 54, 5, 21, 5, 16, 7, 162, 0, 121, 42, 180, 0, 9, 21, 4]
abbrev dktX13_refusesBridge_1 : List UInt8 := dkwX13_refusesBridge_1 ++ dktX13_refusesBridge_2
def dkwX13_refusesBridge_0 : List UInt8 := [42, 27, 28, 182, 0, 230, 62, 29, 153, 0, 5, 29, 172, 42, 18, 170, 181, 0, 242, 3, 54, 4, 21, 4]
abbrev dktX13_refusesBridge_0 : List UInt8 := dkwX13_refusesBridge_0 ++ dktX13_refusesBridge_1
theorem dksX13_refusesBridge_0 : cX13_refusesBridge.data.toList.drop 0 = dktX13_refusesBridge_0 := by decide +kernel
theorem dksX13_refusesBridge_1 : cX13_refusesBridge.data.toList.drop 24 = dktX13_refusesBridge_1 := dk_seg dksX13_refusesBridge_0 24 rfl rfl
theorem dksX13_refusesBridge_2 : cX13_refusesBridge.data.toList.drop 48 = dktX13_refusesBridge_2 := dk_seg dksX13_refusesBridge_1 24 rfl rfl
theorem dksX13_refusesBridge_3 : cX13_refusesBridge.data.toList.drop 72 = dktX13_refusesBridge_3 := dk_seg dksX13_refusesBridge_2 24 rfl rfl
theorem dksX13_refusesBridge_4 : cX13_refusesBridge.data.toList.drop 96 = dktX13_refusesBridge_4 := dk_seg dksX13_refusesBridge_3 24 rfl rfl
theorem dksX13_refusesBridge_5 : cX13_refusesBridge.data.toList.drop 120 = dktX13_refusesBridge_5 := dk_seg dksX13_refusesBridge_4 24 rfl rfl
theorem dksX13_refusesBridge_6 : cX13_refusesBridge.data.toList.drop 143 = dktX13_refusesBridge_6 := dk_seg dksX13_refusesBridge_5 23 rfl rfl
theorem dksX13_refusesBridge_7 : cX13_refusesBridge.data.toList.drop 167 = dktX13_refusesBridge_7 := dk_seg dksX13_refusesBridge_6 24 rfl rfl
theorem dX13_refusesBridge_0 : decode cX13_refusesBridge 0 = .ok (.aload_n 0, 1) := dk_42 (dk_at dksX13_refusesBridge_0 0 rfl rfl)
theorem dX13_refusesBridge_1 : decode cX13_refusesBridge 1 = .ok (.iload_n 1, 1) := dk_27 (dk_at dksX13_refusesBridge_0 1 rfl rfl)
theorem dX13_refusesBridge_2 : decode cX13_refusesBridge 2 = .ok (.iload_n 2, 1) := dk_28 (dk_at dksX13_refusesBridge_0 2 rfl rfl)
theorem dX13_refusesBridge_3 : decode cX13_refusesBridge 3 = .ok (.invokevirtual 230, 3) := dk_182 0 230 (dk_at dksX13_refusesBridge_0 3 rfl rfl)
theorem dX13_refusesBridge_6 : decode cX13_refusesBridge 6 = .ok (.istore_n 3, 1) := dk_62 (dk_at dksX13_refusesBridge_0 6 rfl rfl)
theorem dX13_refusesBridge_7 : decode cX13_refusesBridge 7 = .ok (.iload_n 3, 1) := dk_29 (dk_at dksX13_refusesBridge_0 7 rfl rfl)
theorem dX13_refusesBridge_8 : decode cX13_refusesBridge 8 = .ok (.ifCond .eq 5, 3) := dk_153 0 5 (dk_at dksX13_refusesBridge_0 8 rfl rfl)
theorem dX13_refusesBridge_11 : decode cX13_refusesBridge 11 = .ok (.iload_n 3, 1) := dk_29 (dk_at dksX13_refusesBridge_0 11 rfl rfl)
theorem dX13_refusesBridge_12 : decode cX13_refusesBridge 12 = .ok (.ireturn, 1) := dk_172 (dk_at dksX13_refusesBridge_0 12 rfl rfl)
theorem dX13_refusesBridge_13 : decode cX13_refusesBridge 13 = .ok (.aload_n 0, 1) := dk_42 (dk_at dksX13_refusesBridge_0 13 rfl rfl)
theorem dX13_refusesBridge_14 : decode cX13_refusesBridge 14 = .ok (.ldc 170, 2) := dk_18 170 (dk_at dksX13_refusesBridge_0 14 rfl rfl)
theorem dX13_refusesBridge_16 : decode cX13_refusesBridge 16 = .ok (.putfield 242, 3) := dk_181 0 242 (dk_at dksX13_refusesBridge_0 16 rfl rfl)
theorem dX13_refusesBridge_19 : decode cX13_refusesBridge 19 = .ok (.iconst 0, 1) := dk_3 (dk_at dksX13_refusesBridge_0 19 rfl rfl)
theorem dX13_refusesBridge_20 : decode cX13_refusesBridge 20 = .ok (.istore 4, 2) := dk_54 4 (dk_at dksX13_refusesBridge_0 20 rfl rfl)
theorem dX13_refusesBridge_22 : decode cX13_refusesBridge 22 = .ok (.iload 4, 2) := dk_21 4 (dk_at dksX13_refusesBridge_0 22 rfl rfl)
theorem dX13_refusesBridge_24 : decode cX13_refusesBridge 24 = .ok (.bipush 7, 2) := dk_16 7 (dk_at dksX13_refusesBridge_1 0 rfl rfl)
theorem dX13_refusesBridge_26 : decode cX13_refusesBridge 26 = .ok (.if_icmp .ge 140, 3) := dk_162 0 140 (dk_at dksX13_refusesBridge_1 2 rfl rfl)
theorem dX13_refusesBridge_29 : decode cX13_refusesBridge 29 = .ok (.iload 4, 2) := dk_21 4 (dk_at dksX13_refusesBridge_1 5 rfl rfl)
theorem dX13_refusesBridge_31 : decode cX13_refusesBridge 31 = .ok (.iconst 1, 1) := dk_4 (dk_at dksX13_refusesBridge_1 7 rfl rfl)
theorem dX13_refusesBridge_32 : decode cX13_refusesBridge 32 = .ok (.iadd, 1) := dk_96 (dk_at dksX13_refusesBridge_1 8 rfl rfl)
theorem dX13_refusesBridge_33 : decode cX13_refusesBridge 33 = .ok (.istore 5, 2) := dk_54 5 (dk_at dksX13_refusesBridge_1 9 rfl rfl)
theorem dX13_refusesBridge_35 : decode cX13_refusesBridge 35 = .ok (.iload 5, 2) := dk_21 5 (dk_at dksX13_refusesBridge_1 11 rfl rfl)
theorem dX13_refusesBridge_37 : decode cX13_refusesBridge 37 = .ok (.bipush 7, 2) := dk_16 7 (dk_at dksX13_refusesBridge_1 13 rfl rfl)
theorem dX13_refusesBridge_39 : decode cX13_refusesBridge 39 = .ok (.if_icmp .ge 121, 3) := dk_162 0 121 (dk_at dksX13_refusesBridge_1 15 rfl rfl)
theorem dX13_refusesBridge_42 : decode cX13_refusesBridge 42 = .ok (.aload_n 0, 1) := dk_42 (dk_at dksX13_refusesBridge_1 18 rfl rfl)
theorem dX13_refusesBridge_43 : decode cX13_refusesBridge 43 = .ok (.getfield 9, 3) := dk_180 0 9 (dk_at dksX13_refusesBridge_1 19 rfl rfl)
theorem dX13_refusesBridge_46 : decode cX13_refusesBridge 46 = .ok (.iload 4, 2) := dk_21 4 (dk_at dksX13_refusesBridge_1 22 rfl rfl)
theorem dX13_refusesBridge_48 : decode cX13_refusesBridge 48 = .ok (.iload 5, 2) := dk_21 5 (dk_at dksX13_refusesBridge_2 0 rfl rfl)
theorem dX13_refusesBridge_50 : decode cX13_refusesBridge 50 = .ok (.invokestatic 144, 3) := dk_184 0 144 (dk_at dksX13_refusesBridge_2 2 rfl rfl)
theorem dX13_refusesBridge_53 : decode cX13_refusesBridge 53 = .ok (.iaload, 1) := dk_46 (dk_at dksX13_refusesBridge_2 5 rfl rfl)
theorem dX13_refusesBridge_54 : decode cX13_refusesBridge 54 = .ok (.ifCond .le 100, 3) := dk_158 0 100 (dk_at dksX13_refusesBridge_2 6 rfl rfl)
theorem dX13_refusesBridge_57 : decode cX13_refusesBridge 57 = .ok (.aload_n 0, 1) := dk_42 (dk_at dksX13_refusesBridge_2 9 rfl rfl)
theorem dX13_refusesBridge_58 : decode cX13_refusesBridge 58 = .ok (.getfield 9, 3) := dk_180 0 9 (dk_at dksX13_refusesBridge_2 10 rfl rfl)
theorem dX13_refusesBridge_61 : decode cX13_refusesBridge 61 = .ok (.iload 4, 2) := dk_21 4 (dk_at dksX13_refusesBridge_2 13 rfl rfl)
theorem dX13_refusesBridge_63 : decode cX13_refusesBridge 63 = .ok (.iload 5, 2) := dk_21 5 (dk_at dksX13_refusesBridge_2 15 rfl rfl)
theorem dX13_refusesBridge_65 : decode cX13_refusesBridge 65 = .ok (.invokestatic 144, 3) := dk_184 0 144 (dk_at dksX13_refusesBridge_2 17 rfl rfl)
theorem dX13_refusesBridge_68 : decode cX13_refusesBridge 68 = .ok (.iconst 1, 1) := dk_4 (dk_at dksX13_refusesBridge_2 20 rfl rfl)
theorem dX13_refusesBridge_69 : decode cX13_refusesBridge 69 = .ok (.iadd, 1) := dk_96 (dk_at dksX13_refusesBridge_2 21 rfl rfl)
theorem dX13_refusesBridge_70 : decode cX13_refusesBridge 70 = .ok (.iaload, 1) := dk_46 (dk_at dksX13_refusesBridge_2 22 rfl rfl)
theorem dX13_refusesBridge_71 : decode cX13_refusesBridge 71 = .ok (.iconst 1, 1) := dk_4 (dk_at dksX13_refusesBridge_2 23 rfl rfl)
theorem dX13_refusesBridge_72 : decode cX13_refusesBridge 72 = .ok (.if_icmp .ne 82, 3) := dk_160 0 82 (dk_at dksX13_refusesBridge_3 0 rfl rfl)
theorem dX13_refusesBridge_75 : decode cX13_refusesBridge 75 = .ok (.aload_n 0, 1) := dk_42 (dk_at dksX13_refusesBridge_3 3 rfl rfl)
theorem dX13_refusesBridge_76 : decode cX13_refusesBridge 76 = .ok (.getfield 9, 3) := dk_180 0 9 (dk_at dksX13_refusesBridge_3 4 rfl rfl)
theorem dX13_refusesBridge_79 : decode cX13_refusesBridge 79 = .ok (.iload 4, 2) := dk_21 4 (dk_at dksX13_refusesBridge_3 7 rfl rfl)
theorem dX13_refusesBridge_81 : decode cX13_refusesBridge 81 = .ok (.iload 5, 2) := dk_21 5 (dk_at dksX13_refusesBridge_3 9 rfl rfl)
theorem dX13_refusesBridge_83 : decode cX13_refusesBridge 83 = .ok (.invokestatic 144, 3) := dk_184 0 144 (dk_at dksX13_refusesBridge_3 11 rfl rfl)
theorem dX13_refusesBridge_86 : decode cX13_refusesBridge 86 = .ok (.iconst 1, 1) := dk_4 (dk_at dksX13_refusesBridge_3 14 rfl rfl)
theorem dX13_refusesBridge_87 : decode cX13_refusesBridge 87 = .ok (.iadd, 1) := dk_96 (dk_at dksX13_refusesBridge_3 15 rfl rfl)
theorem dX13_refusesBridge_88 : decode cX13_refusesBridge 88 = .ok (.iconst 0, 1) := dk_3 (dk_at dksX13_refusesBridge_3 16 rfl rfl)
theorem dX13_refusesBridge_89 : decode cX13_refusesBridge 89 = .ok (.iastore, 1) := dk_79 (dk_at dksX13_refusesBridge_3 17 rfl rfl)
theorem dX13_refusesBridge_90 : decode cX13_refusesBridge 90 = .ok (.aload_n 0, 1) := dk_42 (dk_at dksX13_refusesBridge_3 18 rfl rfl)
theorem dX13_refusesBridge_91 : decode cX13_refusesBridge 91 = .ok (.iload_n 1, 1) := dk_27 (dk_at dksX13_refusesBridge_3 19 rfl rfl)
theorem dX13_refusesBridge_92 : decode cX13_refusesBridge 92 = .ok (.iload_n 2, 1) := dk_28 (dk_at dksX13_refusesBridge_3 20 rfl rfl)
theorem dX13_refusesBridge_93 : decode cX13_refusesBridge 93 = .ok (.invokevirtual 233, 3) := dk_182 0 233 (dk_at dksX13_refusesBridge_3 21 rfl rfl)
theorem dX13_refusesBridge_96 : decode cX13_refusesBridge 96 = .ok (.istore 6, 2) := dk_54 6 (dk_at dksX13_refusesBridge_4 0 rfl rfl)
theorem dX13_refusesBridge_98 : decode cX13_refusesBridge 98 = .ok (.aload_n 0, 1) := dk_42 (dk_at dksX13_refusesBridge_4 2 rfl rfl)
theorem dX13_refusesBridge_99 : decode cX13_refusesBridge 99 = .ok (.getfield 9, 3) := dk_180 0 9 (dk_at dksX13_refusesBridge_4 3 rfl rfl)
theorem dX13_refusesBridge_102 : decode cX13_refusesBridge 102 = .ok (.iload 4, 2) := dk_21 4 (dk_at dksX13_refusesBridge_4 6 rfl rfl)
theorem dX13_refusesBridge_104 : decode cX13_refusesBridge 104 = .ok (.iload 5, 2) := dk_21 5 (dk_at dksX13_refusesBridge_4 8 rfl rfl)
theorem dX13_refusesBridge_106 : decode cX13_refusesBridge 106 = .ok (.invokestatic 144, 3) := dk_184 0 144 (dk_at dksX13_refusesBridge_4 10 rfl rfl)
theorem dX13_refusesBridge_109 : decode cX13_refusesBridge 109 = .ok (.iconst 1, 1) := dk_4 (dk_at dksX13_refusesBridge_4 13 rfl rfl)
theorem dX13_refusesBridge_110 : decode cX13_refusesBridge 110 = .ok (.iadd, 1) := dk_96 (dk_at dksX13_refusesBridge_4 14 rfl rfl)
theorem dX13_refusesBridge_111 : decode cX13_refusesBridge 111 = .ok (.iconst 1, 1) := dk_4 (dk_at dksX13_refusesBridge_4 15 rfl rfl)
theorem dX13_refusesBridge_112 : decode cX13_refusesBridge 112 = .ok (.iastore, 1) := dk_79 (dk_at dksX13_refusesBridge_4 16 rfl rfl)
theorem dX13_refusesBridge_113 : decode cX13_refusesBridge 113 = .ok (.aload_n 0, 1) := dk_42 (dk_at dksX13_refusesBridge_4 17 rfl rfl)
theorem dX13_refusesBridge_114 : decode cX13_refusesBridge 114 = .ok (.iload 6, 2) := dk_21 6 (dk_at dksX13_refusesBridge_4 18 rfl rfl)
theorem dX13_refusesBridge_116 : decode cX13_refusesBridge 116 = .ok (.aload_n 0, 1) := dk_42 (dk_at dksX13_refusesBridge_4 20 rfl rfl)
theorem dX13_refusesBridge_117 : decode cX13_refusesBridge 117 = .ok (.getfield 242, 3) := dk_180 0 242 (dk_at dksX13_refusesBridge_4 21 rfl rfl)
theorem dX13_refusesBridge_120 : decode cX13_refusesBridge 120 = .ok (.if_icmp .ge 14, 3) := dk_162 0 14 (dk_at dksX13_refusesBridge_5 0 rfl rfl)
theorem dX13_refusesBridge_123 : decode cX13_refusesBridge 123 = .ok (.bipush 10, 2) := dk_16 10 (dk_at dksX13_refusesBridge_5 3 rfl rfl)
theorem dX13_refusesBridge_125 : decode cX13_refusesBridge 125 = .ok (.iload 4, 2) := dk_21 4 (dk_at dksX13_refusesBridge_5 5 rfl rfl)
theorem dX13_refusesBridge_127 : decode cX13_refusesBridge 127 = .ok (.imul, 1) := dk_104 (dk_at dksX13_refusesBridge_5 7 rfl rfl)
theorem dX13_refusesBridge_128 : decode cX13_refusesBridge 128 = .ok (.iload 5, 2) := dk_21 5 (dk_at dksX13_refusesBridge_5 8 rfl rfl)
theorem dX13_refusesBridge_130 : decode cX13_refusesBridge 130 = .ok (.iadd, 1) := dk_96 (dk_at dksX13_refusesBridge_5 10 rfl rfl)
theorem dX13_refusesBridge_131 : decode cX13_refusesBridge 131 = .ok (.goto 7, 3) := dk_167 0 7 (dk_at dksX13_refusesBridge_5 11 rfl rfl)
theorem dX13_refusesBridge_134 : decode cX13_refusesBridge 134 = .ok (.aload_n 0, 1) := dk_42 (dk_at dksX13_refusesBridge_5 14 rfl rfl)
theorem dX13_refusesBridge_135 : decode cX13_refusesBridge 135 = .ok (.getfield 254, 3) := dk_180 0 254 (dk_at dksX13_refusesBridge_5 15 rfl rfl)
theorem dX13_refusesBridge_138 : decode cX13_refusesBridge 138 = .ok (.putfield 254, 3) := dk_181 0 254 (dk_at dksX13_refusesBridge_5 18 rfl rfl)
theorem dX13_refusesBridge_141 : decode cX13_refusesBridge 141 = .ok (.aload_n 0, 1) := dk_42 (dk_at dksX13_refusesBridge_5 21 rfl rfl)
theorem dX13_refusesBridge_142 : decode cX13_refusesBridge 142 = .ok (.aload_n 0, 1) := dk_42 (dk_at dksX13_refusesBridge_5 22 rfl rfl)
theorem dX13_refusesBridge_143 : decode cX13_refusesBridge 143 = .ok (.getfield 242, 3) := dk_180 0 242 (dk_at dksX13_refusesBridge_6 0 rfl rfl)
theorem dX13_refusesBridge_146 : decode cX13_refusesBridge 146 = .ok (.iload 6, 2) := dk_21 6 (dk_at dksX13_refusesBridge_6 3 rfl rfl)
theorem dX13_refusesBridge_148 : decode cX13_refusesBridge 148 = .ok (.invokestatic 136, 3) := dk_184 0 136 (dk_at dksX13_refusesBridge_6 5 rfl rfl)
theorem dX13_refusesBridge_151 : decode cX13_refusesBridge 151 = .ok (.putfield 242, 3) := dk_181 0 242 (dk_at dksX13_refusesBridge_6 8 rfl rfl)
theorem dX13_refusesBridge_154 : decode cX13_refusesBridge 154 = .ok (.iinc 5 1, 3) := dk_132 5 1 (dk_at dksX13_refusesBridge_6 11 rfl rfl)
theorem dX13_refusesBridge_157 : decode cX13_refusesBridge 157 = .ok (.goto (-122), 3) := dk_167 255 134 (dk_at dksX13_refusesBridge_6 14 rfl rfl)
theorem dX13_refusesBridge_160 : decode cX13_refusesBridge 160 = .ok (.iinc 4 1, 3) := dk_132 4 1 (dk_at dksX13_refusesBridge_6 17 rfl rfl)
theorem dX13_refusesBridge_163 : decode cX13_refusesBridge 163 = .ok (.goto (-141), 3) := dk_167 255 115 (dk_at dksX13_refusesBridge_6 20 rfl rfl)
theorem dX13_refusesBridge_166 : decode cX13_refusesBridge 166 = .ok (.aload_n 0, 1) := dk_42 (dk_at dksX13_refusesBridge_6 23 rfl rfl)
theorem dX13_refusesBridge_167 : decode cX13_refusesBridge 167 = .ok (.getfield 242, 3) := dk_180 0 242 (dk_at dksX13_refusesBridge_7 0 rfl rfl)
theorem dX13_refusesBridge_170 : decode cX13_refusesBridge 170 = .ok (.ldc 170, 2) := dk_18 170 (dk_at dksX13_refusesBridge_7 3 rfl rfl)
theorem dX13_refusesBridge_172 : decode cX13_refusesBridge 172 = .ok (.if_icmp .lt 8, 3) := dk_161 0 8 (dk_at dksX13_refusesBridge_7 5 rfl rfl)
theorem dX13_refusesBridge_175 : decode cX13_refusesBridge 175 = .ok (.ldc 160, 2) := dk_18 160 (dk_at dksX13_refusesBridge_7 8 rfl rfl)
theorem dX13_refusesBridge_177 : decode cX13_refusesBridge 177 = .ok (.goto 4, 3) := dk_167 0 4 (dk_at dksX13_refusesBridge_7 10 rfl rfl)
theorem dX13_refusesBridge_180 : decode cX13_refusesBridge 180 = .ok (.iconst 0, 1) := dk_3 (dk_at dksX13_refusesBridge_7 13 rfl rfl)
theorem dX13_refusesBridge_181 : decode cX13_refusesBridge 181 = .ok (.ireturn, 1) := dk_172 (dk_at dksX13_refusesBridge_7 14 rfl rfl)
abbrev cX13_worth : ByteArray := prog_16_method_80_code
def yX13_worth : MethodName := ⟨RX13, "worth", "(II)I"⟩
def dkwX13_worth_2 : List UInt8 := [100, 172]
abbrev dktX13_worth_2 : List UInt8 := dkwX13_worth_2 ++ []
def dkwX13_worth_1 : List UInt8 := [54, 4, 21, 4, 18, 170, 161, 0, 12, 42, 18, 160, 182, 0, 92, 167, 0, 10, 21, 4, 42, 180, 0, 242]
abbrev dktX13_worth_1 : List UInt8 := dkwX13_worth_1 ++ dktX13_worth_2
def dkwX13_worth_0 : List UInt8 := [42, 27, 28, 182, 1, 1, 62, 29, 153, 0, 9, 42, 29, 182, 0, 92, 172, 42, 27, 28, 182, 0, 233]
abbrev dktX13_worth_0 : List UInt8 := dkwX13_worth_0 ++ dktX13_worth_1
theorem dksX13_worth_0 : cX13_worth.data.toList.drop 0 = dktX13_worth_0 := by decide +kernel
theorem dksX13_worth_1 : cX13_worth.data.toList.drop 23 = dktX13_worth_1 := dk_seg dksX13_worth_0 23 rfl rfl
theorem dksX13_worth_2 : cX13_worth.data.toList.drop 47 = dktX13_worth_2 := dk_seg dksX13_worth_1 24 rfl rfl
theorem dX13_worth_0 : decode cX13_worth 0 = .ok (.aload_n 0, 1) := dk_42 (dk_at dksX13_worth_0 0 rfl rfl)
theorem dX13_worth_1 : decode cX13_worth 1 = .ok (.iload_n 1, 1) := dk_27 (dk_at dksX13_worth_0 1 rfl rfl)
theorem dX13_worth_2 : decode cX13_worth 2 = .ok (.iload_n 2, 1) := dk_28 (dk_at dksX13_worth_0 2 rfl rfl)
theorem dX13_worth_3 : decode cX13_worth 3 = .ok (.invokevirtual 257, 3) := dk_182 1 1 (dk_at dksX13_worth_0 3 rfl rfl)
theorem dX13_worth_6 : decode cX13_worth 6 = .ok (.istore_n 3, 1) := dk_62 (dk_at dksX13_worth_0 6 rfl rfl)
theorem dX13_worth_7 : decode cX13_worth 7 = .ok (.iload_n 3, 1) := dk_29 (dk_at dksX13_worth_0 7 rfl rfl)
theorem dX13_worth_8 : decode cX13_worth 8 = .ok (.ifCond .eq 9, 3) := dk_153 0 9 (dk_at dksX13_worth_0 8 rfl rfl)
theorem dX13_worth_11 : decode cX13_worth 11 = .ok (.aload_n 0, 1) := dk_42 (dk_at dksX13_worth_0 11 rfl rfl)
theorem dX13_worth_12 : decode cX13_worth 12 = .ok (.iload_n 3, 1) := dk_29 (dk_at dksX13_worth_0 12 rfl rfl)
theorem dX13_worth_13 : decode cX13_worth 13 = .ok (.invokevirtual 92, 3) := dk_182 0 92 (dk_at dksX13_worth_0 13 rfl rfl)
theorem dX13_worth_16 : decode cX13_worth 16 = .ok (.ireturn, 1) := dk_172 (dk_at dksX13_worth_0 16 rfl rfl)
theorem dX13_worth_17 : decode cX13_worth 17 = .ok (.aload_n 0, 1) := dk_42 (dk_at dksX13_worth_0 17 rfl rfl)
theorem dX13_worth_18 : decode cX13_worth 18 = .ok (.iload_n 1, 1) := dk_27 (dk_at dksX13_worth_0 18 rfl rfl)
theorem dX13_worth_19 : decode cX13_worth 19 = .ok (.iload_n 2, 1) := dk_28 (dk_at dksX13_worth_0 19 rfl rfl)
theorem dX13_worth_20 : decode cX13_worth 20 = .ok (.invokevirtual 233, 3) := dk_182 0 233 (dk_at dksX13_worth_0 20 rfl rfl)
theorem dX13_worth_23 : decode cX13_worth 23 = .ok (.istore 4, 2) := dk_54 4 (dk_at dksX13_worth_1 0 rfl rfl)
theorem dX13_worth_25 : decode cX13_worth 25 = .ok (.iload 4, 2) := dk_21 4 (dk_at dksX13_worth_1 2 rfl rfl)
theorem dX13_worth_27 : decode cX13_worth 27 = .ok (.ldc 170, 2) := dk_18 170 (dk_at dksX13_worth_1 4 rfl rfl)
theorem dX13_worth_29 : decode cX13_worth 29 = .ok (.if_icmp .lt 12, 3) := dk_161 0 12 (dk_at dksX13_worth_1 6 rfl rfl)
theorem dX13_worth_32 : decode cX13_worth 32 = .ok (.aload_n 0, 1) := dk_42 (dk_at dksX13_worth_1 9 rfl rfl)
theorem dX13_worth_33 : decode cX13_worth 33 = .ok (.ldc 160, 2) := dk_18 160 (dk_at dksX13_worth_1 10 rfl rfl)
theorem dX13_worth_35 : decode cX13_worth 35 = .ok (.invokevirtual 92, 3) := dk_182 0 92 (dk_at dksX13_worth_1 12 rfl rfl)
theorem dX13_worth_38 : decode cX13_worth 38 = .ok (.goto 10, 3) := dk_167 0 10 (dk_at dksX13_worth_1 15 rfl rfl)
theorem dX13_worth_41 : decode cX13_worth 41 = .ok (.iload 4, 2) := dk_21 4 (dk_at dksX13_worth_1 18 rfl rfl)
theorem dX13_worth_43 : decode cX13_worth 43 = .ok (.aload_n 0, 1) := dk_42 (dk_at dksX13_worth_1 20 rfl rfl)
theorem dX13_worth_44 : decode cX13_worth 44 = .ok (.getfield 242, 3) := dk_180 0 242 (dk_at dksX13_worth_1 21 rfl rfl)
theorem dX13_worth_47 : decode cX13_worth 47 = .ok (.isub, 1) := dk_100 (dk_at dksX13_worth_2 0 rfl rfl)
theorem dX13_worth_48 : decode cX13_worth 48 = .ok (.ireturn, 1) := dk_172 (dk_at dksX13_worth_2 1 rfl rfl)
abbrev cX13_reach : ByteArray := prog_16_method_81_code
def yX13_reach : MethodName := ⟨RX13, "reach", "(I)I"⟩
def dkwX13_reach_3 : List UInt8 := [167, 255, 216, 28, 172]
abbrev dktX13_reach_3 : List UInt8 := dkwX13_reach_3 ++ []
def dkwX13_reach_2 : List UInt8 := [182, 0, 104, 104, 29, 96, 46, 18, 170, 162, 0, 9, 4, 29, 120, 167, 0, 4, 3, 128, 61, 132, 3, 1]
abbrev dktX13_reach_2 : List UInt8 := dkwX13_reach_2 ++ dktX13_reach_3
def dkwX13_reach_1 : List UInt8 := [182, 0, 174, 3, 61, 3, 62, 29, 16, 7, 162, 0, 40, 28, 42, 180, 0, 22, 16, 7, 42, 27, 4]
abbrev dktX13_reach_1 : List UInt8 := dkwX13_reach_1 ++ dktX13_reach_2
def dkwX13_reach_0 : List UInt8 := [42, 27, 182, 0, 117, 154, 0, 10, 42, 18, 72, 182, 0, 92, 172, 42, 42, 27, 3, 182, 0, 104]
abbrev dktX13_reach_0 : List UInt8 := dkwX13_reach_0 ++ dktX13_reach_1
theorem dksX13_reach_0 : cX13_reach.data.toList.drop 0 = dktX13_reach_0 := by decide +kernel
theorem dksX13_reach_1 : cX13_reach.data.toList.drop 22 = dktX13_reach_1 := dk_seg dksX13_reach_0 22 rfl rfl
theorem dksX13_reach_2 : cX13_reach.data.toList.drop 45 = dktX13_reach_2 := dk_seg dksX13_reach_1 23 rfl rfl
theorem dksX13_reach_3 : cX13_reach.data.toList.drop 69 = dktX13_reach_3 := dk_seg dksX13_reach_2 24 rfl rfl
theorem dX13_reach_0 : decode cX13_reach 0 = .ok (.aload_n 0, 1) := dk_42 (dk_at dksX13_reach_0 0 rfl rfl)
theorem dX13_reach_1 : decode cX13_reach 1 = .ok (.iload_n 1, 1) := dk_27 (dk_at dksX13_reach_0 1 rfl rfl)
theorem dX13_reach_2 : decode cX13_reach 2 = .ok (.invokevirtual 117, 3) := dk_182 0 117 (dk_at dksX13_reach_0 2 rfl rfl)
theorem dX13_reach_5 : decode cX13_reach 5 = .ok (.ifCond .ne 10, 3) := dk_154 0 10 (dk_at dksX13_reach_0 5 rfl rfl)
theorem dX13_reach_8 : decode cX13_reach 8 = .ok (.aload_n 0, 1) := dk_42 (dk_at dksX13_reach_0 8 rfl rfl)
theorem dX13_reach_9 : decode cX13_reach 9 = .ok (.ldc 72, 2) := dk_18 72 (dk_at dksX13_reach_0 9 rfl rfl)
theorem dX13_reach_11 : decode cX13_reach 11 = .ok (.invokevirtual 92, 3) := dk_182 0 92 (dk_at dksX13_reach_0 11 rfl rfl)
theorem dX13_reach_14 : decode cX13_reach 14 = .ok (.ireturn, 1) := dk_172 (dk_at dksX13_reach_0 14 rfl rfl)
theorem dX13_reach_15 : decode cX13_reach 15 = .ok (.aload_n 0, 1) := dk_42 (dk_at dksX13_reach_0 15 rfl rfl)
theorem dX13_reach_16 : decode cX13_reach 16 = .ok (.aload_n 0, 1) := dk_42 (dk_at dksX13_reach_0 16 rfl rfl)
theorem dX13_reach_17 : decode cX13_reach 17 = .ok (.iload_n 1, 1) := dk_27 (dk_at dksX13_reach_0 17 rfl rfl)
theorem dX13_reach_18 : decode cX13_reach 18 = .ok (.iconst 0, 1) := dk_3 (dk_at dksX13_reach_0 18 rfl rfl)
theorem dX13_reach_19 : decode cX13_reach 19 = .ok (.invokevirtual 104, 3) := dk_182 0 104 (dk_at dksX13_reach_0 19 rfl rfl)
theorem dX13_reach_22 : decode cX13_reach 22 = .ok (.invokevirtual 174, 3) := dk_182 0 174 (dk_at dksX13_reach_1 0 rfl rfl)
theorem dX13_reach_25 : decode cX13_reach 25 = .ok (.iconst 0, 1) := dk_3 (dk_at dksX13_reach_1 3 rfl rfl)
theorem dX13_reach_26 : decode cX13_reach 26 = .ok (.istore_n 2, 1) := dk_61 (dk_at dksX13_reach_1 4 rfl rfl)
theorem dX13_reach_27 : decode cX13_reach 27 = .ok (.iconst 0, 1) := dk_3 (dk_at dksX13_reach_1 5 rfl rfl)
theorem dX13_reach_28 : decode cX13_reach 28 = .ok (.istore_n 3, 1) := dk_62 (dk_at dksX13_reach_1 6 rfl rfl)
theorem dX13_reach_29 : decode cX13_reach 29 = .ok (.iload_n 3, 1) := dk_29 (dk_at dksX13_reach_1 7 rfl rfl)
theorem dX13_reach_30 : decode cX13_reach 30 = .ok (.bipush 7, 2) := dk_16 7 (dk_at dksX13_reach_1 8 rfl rfl)
theorem dX13_reach_32 : decode cX13_reach 32 = .ok (.if_icmp .ge 40, 3) := dk_162 0 40 (dk_at dksX13_reach_1 10 rfl rfl)
theorem dX13_reach_35 : decode cX13_reach 35 = .ok (.iload_n 2, 1) := dk_28 (dk_at dksX13_reach_1 13 rfl rfl)
theorem dX13_reach_36 : decode cX13_reach 36 = .ok (.aload_n 0, 1) := dk_42 (dk_at dksX13_reach_1 14 rfl rfl)
theorem dX13_reach_37 : decode cX13_reach 37 = .ok (.getfield 22, 3) := dk_180 0 22 (dk_at dksX13_reach_1 15 rfl rfl)
theorem dX13_reach_40 : decode cX13_reach 40 = .ok (.bipush 7, 2) := dk_16 7 (dk_at dksX13_reach_1 18 rfl rfl)
theorem dX13_reach_42 : decode cX13_reach 42 = .ok (.aload_n 0, 1) := dk_42 (dk_at dksX13_reach_1 20 rfl rfl)
theorem dX13_reach_43 : decode cX13_reach 43 = .ok (.iload_n 1, 1) := dk_27 (dk_at dksX13_reach_1 21 rfl rfl)
theorem dX13_reach_44 : decode cX13_reach 44 = .ok (.iconst 1, 1) := dk_4 (dk_at dksX13_reach_1 22 rfl rfl)
theorem dX13_reach_45 : decode cX13_reach 45 = .ok (.invokevirtual 104, 3) := dk_182 0 104 (dk_at dksX13_reach_2 0 rfl rfl)
theorem dX13_reach_48 : decode cX13_reach 48 = .ok (.imul, 1) := dk_104 (dk_at dksX13_reach_2 3 rfl rfl)
theorem dX13_reach_49 : decode cX13_reach 49 = .ok (.iload_n 3, 1) := dk_29 (dk_at dksX13_reach_2 4 rfl rfl)
theorem dX13_reach_50 : decode cX13_reach 50 = .ok (.iadd, 1) := dk_96 (dk_at dksX13_reach_2 5 rfl rfl)
theorem dX13_reach_51 : decode cX13_reach 51 = .ok (.iaload, 1) := dk_46 (dk_at dksX13_reach_2 6 rfl rfl)
theorem dX13_reach_52 : decode cX13_reach 52 = .ok (.ldc 170, 2) := dk_18 170 (dk_at dksX13_reach_2 7 rfl rfl)
theorem dX13_reach_54 : decode cX13_reach 54 = .ok (.if_icmp .ge 9, 3) := dk_162 0 9 (dk_at dksX13_reach_2 9 rfl rfl)
theorem dX13_reach_57 : decode cX13_reach 57 = .ok (.iconst 1, 1) := dk_4 (dk_at dksX13_reach_2 12 rfl rfl)
theorem dX13_reach_58 : decode cX13_reach 58 = .ok (.iload_n 3, 1) := dk_29 (dk_at dksX13_reach_2 13 rfl rfl)
theorem dX13_reach_59 : decode cX13_reach 59 = .ok (.ishl, 1) := dk_120 (dk_at dksX13_reach_2 14 rfl rfl)
theorem dX13_reach_60 : decode cX13_reach 60 = .ok (.goto 4, 3) := dk_167 0 4 (dk_at dksX13_reach_2 15 rfl rfl)
theorem dX13_reach_63 : decode cX13_reach 63 = .ok (.iconst 0, 1) := dk_3 (dk_at dksX13_reach_2 18 rfl rfl)
theorem dX13_reach_64 : decode cX13_reach 64 = .ok (.ior, 1) := dk_128 (dk_at dksX13_reach_2 19 rfl rfl)
theorem dX13_reach_65 : decode cX13_reach 65 = .ok (.istore_n 2, 1) := dk_61 (dk_at dksX13_reach_2 20 rfl rfl)
theorem dX13_reach_66 : decode cX13_reach 66 = .ok (.iinc 3 1, 3) := dk_132 3 1 (dk_at dksX13_reach_2 21 rfl rfl)
theorem dX13_reach_69 : decode cX13_reach 69 = .ok (.goto (-40), 3) := dk_167 255 216 (dk_at dksX13_reach_3 0 rfl rfl)
theorem dX13_reach_72 : decode cX13_reach 72 = .ok (.iload_n 2, 1) := dk_28 (dk_at dksX13_reach_3 3 rfl rfl)
theorem dX13_reach_73 : decode cX13_reach 73 = .ok (.ireturn, 1) := dk_172 (dk_at dksX13_reach_3 4 rfl rfl)
abbrev cX13_middle : ByteArray := prog_16_method_82_code
def yX13_middle : MethodName := ⟨RX13, "middle", "(I)I"⟩
def dkwX13_middle_9 : List UInt8 := [167, 0, 4, 29, 172]
abbrev dktX13_middle_9 : List UInt8 := dkwX13_middle_9 ++ []
def dkwX13_middle_8 : List UInt8 := [21, 6, 184, 0, 136, 54, 4, 132, 5, 1, 167, 255, 156, 29, 156, 0, 12, 42, 18, 160, 182, 0, 92]
abbrev dktX13_middle_8 : List UInt8 := dkwX13_middle_8 ++ dktX13_middle_9
def dkwX13_middle_7 : List UInt8 := [54, 6, 132, 7, 1, 167, 255, 212, 21, 6, 21, 4, 162, 0, 8, 21, 5, 167, 0, 4, 29, 62, 21, 4]
abbrev dktX13_middle_7 : List UInt8 := dkwX13_middle_7 ++ dktX13_middle_8
def dkwX13_middle_6 : List UInt8 := [21, 6, 42, 180, 0, 22, 16, 7, 21, 5, 104, 21, 7, 96, 46, 184, 0, 141, 167, 0, 5, 21, 6]
abbrev dktX13_middle_6 : List UInt8 := dkwX13_middle_6 ++ dktX13_middle_7
def dkwX13_middle_5 : List UInt8 := [18, 170, 54, 6, 3, 54, 7, 21, 7, 16, 7, 162, 0, 43, 28, 21, 7, 184, 0, 114, 153, 0, 24]
abbrev dktX13_middle_5 : List UInt8 := dkwX13_middle_5 ++ dktX13_middle_6
def dkwX13_middle_4 : List UInt8 := [3, 54, 5, 21, 5, 16, 7, 162, 0, 99, 28, 21, 5, 184, 0, 114, 153, 0, 7, 3, 167, 0, 5]
abbrev dktX13_middle_4 : List UInt8 := dkwX13_middle_4 ++ dktX13_middle_5
def dkwX13_middle_3 : List UInt8 := [167, 0, 4, 3, 128, 61, 132, 4, 1, 167, 255, 216, 132, 3, 1, 167, 255, 201, 2, 62, 18, 170, 54, 4]
abbrev dktX13_middle_3 : List UInt8 := dkwX13_middle_3 ++ dktX13_middle_4
def dkwX13_middle_2 : List UInt8 := [29, 21, 4, 159, 0, 23, 42, 180, 0, 9, 29, 21, 4, 184, 0, 144, 46, 158, 0, 9, 4, 29, 120]
abbrev dktX13_middle_2 : List UInt8 := dkwX13_middle_2 ++ dktX13_middle_3
def dkwX13_middle_1 : List UInt8 := [182, 0, 174, 3, 61, 3, 62, 29, 16, 7, 162, 0, 55, 3, 54, 4, 21, 4, 16, 7, 162, 0, 39, 28]
abbrev dktX13_middle_1 : List UInt8 := dkwX13_middle_1 ++ dktX13_middle_2
def dkwX13_middle_0 : List UInt8 := [42, 27, 182, 0, 117, 154, 0, 10, 42, 18, 72, 182, 0, 92, 172, 42, 42, 27, 3, 182, 0, 104]
abbrev dktX13_middle_0 : List UInt8 := dkwX13_middle_0 ++ dktX13_middle_1
theorem dksX13_middle_0 : cX13_middle.data.toList.drop 0 = dktX13_middle_0 := by decide +kernel
theorem dksX13_middle_1 : cX13_middle.data.toList.drop 22 = dktX13_middle_1 := dk_seg dksX13_middle_0 22 rfl rfl
theorem dksX13_middle_2 : cX13_middle.data.toList.drop 46 = dktX13_middle_2 := dk_seg dksX13_middle_1 24 rfl rfl
theorem dksX13_middle_3 : cX13_middle.data.toList.drop 69 = dktX13_middle_3 := dk_seg dksX13_middle_2 23 rfl rfl
theorem dksX13_middle_4 : cX13_middle.data.toList.drop 93 = dktX13_middle_4 := dk_seg dksX13_middle_3 24 rfl rfl
theorem dksX13_middle_5 : cX13_middle.data.toList.drop 116 = dktX13_middle_5 := dk_seg dksX13_middle_4 23 rfl rfl
theorem dksX13_middle_6 : cX13_middle.data.toList.drop 139 = dktX13_middle_6 := dk_seg dksX13_middle_5 23 rfl rfl
theorem dksX13_middle_7 : cX13_middle.data.toList.drop 162 = dktX13_middle_7 := dk_seg dksX13_middle_6 23 rfl rfl
theorem dksX13_middle_8 : cX13_middle.data.toList.drop 186 = dktX13_middle_8 := dk_seg dksX13_middle_7 24 rfl rfl
theorem dksX13_middle_9 : cX13_middle.data.toList.drop 209 = dktX13_middle_9 := dk_seg dksX13_middle_8 23 rfl rfl
theorem dX13_middle_0 : decode cX13_middle 0 = .ok (.aload_n 0, 1) := dk_42 (dk_at dksX13_middle_0 0 rfl rfl)
theorem dX13_middle_1 : decode cX13_middle 1 = .ok (.iload_n 1, 1) := dk_27 (dk_at dksX13_middle_0 1 rfl rfl)
theorem dX13_middle_2 : decode cX13_middle 2 = .ok (.invokevirtual 117, 3) := dk_182 0 117 (dk_at dksX13_middle_0 2 rfl rfl)
theorem dX13_middle_5 : decode cX13_middle 5 = .ok (.ifCond .ne 10, 3) := dk_154 0 10 (dk_at dksX13_middle_0 5 rfl rfl)
theorem dX13_middle_8 : decode cX13_middle 8 = .ok (.aload_n 0, 1) := dk_42 (dk_at dksX13_middle_0 8 rfl rfl)
theorem dX13_middle_9 : decode cX13_middle 9 = .ok (.ldc 72, 2) := dk_18 72 (dk_at dksX13_middle_0 9 rfl rfl)
theorem dX13_middle_11 : decode cX13_middle 11 = .ok (.invokevirtual 92, 3) := dk_182 0 92 (dk_at dksX13_middle_0 11 rfl rfl)
theorem dX13_middle_14 : decode cX13_middle 14 = .ok (.ireturn, 1) := dk_172 (dk_at dksX13_middle_0 14 rfl rfl)
theorem dX13_middle_15 : decode cX13_middle 15 = .ok (.aload_n 0, 1) := dk_42 (dk_at dksX13_middle_0 15 rfl rfl)
theorem dX13_middle_16 : decode cX13_middle 16 = .ok (.aload_n 0, 1) := dk_42 (dk_at dksX13_middle_0 16 rfl rfl)
theorem dX13_middle_17 : decode cX13_middle 17 = .ok (.iload_n 1, 1) := dk_27 (dk_at dksX13_middle_0 17 rfl rfl)
theorem dX13_middle_18 : decode cX13_middle 18 = .ok (.iconst 0, 1) := dk_3 (dk_at dksX13_middle_0 18 rfl rfl)
theorem dX13_middle_19 : decode cX13_middle 19 = .ok (.invokevirtual 104, 3) := dk_182 0 104 (dk_at dksX13_middle_0 19 rfl rfl)
theorem dX13_middle_22 : decode cX13_middle 22 = .ok (.invokevirtual 174, 3) := dk_182 0 174 (dk_at dksX13_middle_1 0 rfl rfl)
theorem dX13_middle_25 : decode cX13_middle 25 = .ok (.iconst 0, 1) := dk_3 (dk_at dksX13_middle_1 3 rfl rfl)
theorem dX13_middle_26 : decode cX13_middle 26 = .ok (.istore_n 2, 1) := dk_61 (dk_at dksX13_middle_1 4 rfl rfl)
theorem dX13_middle_27 : decode cX13_middle 27 = .ok (.iconst 0, 1) := dk_3 (dk_at dksX13_middle_1 5 rfl rfl)
theorem dX13_middle_28 : decode cX13_middle 28 = .ok (.istore_n 3, 1) := dk_62 (dk_at dksX13_middle_1 6 rfl rfl)
theorem dX13_middle_29 : decode cX13_middle 29 = .ok (.iload_n 3, 1) := dk_29 (dk_at dksX13_middle_1 7 rfl rfl)
theorem dX13_middle_30 : decode cX13_middle 30 = .ok (.bipush 7, 2) := dk_16 7 (dk_at dksX13_middle_1 8 rfl rfl)
theorem dX13_middle_32 : decode cX13_middle 32 = .ok (.if_icmp .ge 55, 3) := dk_162 0 55 (dk_at dksX13_middle_1 10 rfl rfl)
theorem dX13_middle_35 : decode cX13_middle 35 = .ok (.iconst 0, 1) := dk_3 (dk_at dksX13_middle_1 13 rfl rfl)
theorem dX13_middle_36 : decode cX13_middle 36 = .ok (.istore 4, 2) := dk_54 4 (dk_at dksX13_middle_1 14 rfl rfl)
theorem dX13_middle_38 : decode cX13_middle 38 = .ok (.iload 4, 2) := dk_21 4 (dk_at dksX13_middle_1 16 rfl rfl)
theorem dX13_middle_40 : decode cX13_middle 40 = .ok (.bipush 7, 2) := dk_16 7 (dk_at dksX13_middle_1 18 rfl rfl)
theorem dX13_middle_42 : decode cX13_middle 42 = .ok (.if_icmp .ge 39, 3) := dk_162 0 39 (dk_at dksX13_middle_1 20 rfl rfl)
theorem dX13_middle_45 : decode cX13_middle 45 = .ok (.iload_n 2, 1) := dk_28 (dk_at dksX13_middle_1 23 rfl rfl)
theorem dX13_middle_46 : decode cX13_middle 46 = .ok (.iload_n 3, 1) := dk_29 (dk_at dksX13_middle_2 0 rfl rfl)
theorem dX13_middle_47 : decode cX13_middle 47 = .ok (.iload 4, 2) := dk_21 4 (dk_at dksX13_middle_2 1 rfl rfl)
theorem dX13_middle_49 : decode cX13_middle 49 = .ok (.if_icmp .eq 23, 3) := dk_159 0 23 (dk_at dksX13_middle_2 3 rfl rfl)
theorem dX13_middle_52 : decode cX13_middle 52 = .ok (.aload_n 0, 1) := dk_42 (dk_at dksX13_middle_2 6 rfl rfl)
theorem dX13_middle_53 : decode cX13_middle 53 = .ok (.getfield 9, 3) := dk_180 0 9 (dk_at dksX13_middle_2 7 rfl rfl)
theorem dX13_middle_56 : decode cX13_middle 56 = .ok (.iload_n 3, 1) := dk_29 (dk_at dksX13_middle_2 10 rfl rfl)
theorem dX13_middle_57 : decode cX13_middle 57 = .ok (.iload 4, 2) := dk_21 4 (dk_at dksX13_middle_2 11 rfl rfl)
theorem dX13_middle_59 : decode cX13_middle 59 = .ok (.invokestatic 144, 3) := dk_184 0 144 (dk_at dksX13_middle_2 13 rfl rfl)
theorem dX13_middle_62 : decode cX13_middle 62 = .ok (.iaload, 1) := dk_46 (dk_at dksX13_middle_2 16 rfl rfl)
theorem dX13_middle_63 : decode cX13_middle 63 = .ok (.ifCond .le 9, 3) := dk_158 0 9 (dk_at dksX13_middle_2 17 rfl rfl)
theorem dX13_middle_66 : decode cX13_middle 66 = .ok (.iconst 1, 1) := dk_4 (dk_at dksX13_middle_2 20 rfl rfl)
theorem dX13_middle_67 : decode cX13_middle 67 = .ok (.iload_n 3, 1) := dk_29 (dk_at dksX13_middle_2 21 rfl rfl)
theorem dX13_middle_68 : decode cX13_middle 68 = .ok (.ishl, 1) := dk_120 (dk_at dksX13_middle_2 22 rfl rfl)
theorem dX13_middle_69 : decode cX13_middle 69 = .ok (.goto 4, 3) := dk_167 0 4 (dk_at dksX13_middle_3 0 rfl rfl)
theorem dX13_middle_72 : decode cX13_middle 72 = .ok (.iconst 0, 1) := dk_3 (dk_at dksX13_middle_3 3 rfl rfl)
theorem dX13_middle_73 : decode cX13_middle 73 = .ok (.ior, 1) := dk_128 (dk_at dksX13_middle_3 4 rfl rfl)
theorem dX13_middle_74 : decode cX13_middle 74 = .ok (.istore_n 2, 1) := dk_61 (dk_at dksX13_middle_3 5 rfl rfl)
theorem dX13_middle_75 : decode cX13_middle 75 = .ok (.iinc 4 1, 3) := dk_132 4 1 (dk_at dksX13_middle_3 6 rfl rfl)
theorem dX13_middle_78 : decode cX13_middle 78 = .ok (.goto (-40), 3) := dk_167 255 216 (dk_at dksX13_middle_3 9 rfl rfl)
theorem dX13_middle_81 : decode cX13_middle 81 = .ok (.iinc 3 1, 3) := dk_132 3 1 (dk_at dksX13_middle_3 12 rfl rfl)
theorem dX13_middle_84 : decode cX13_middle 84 = .ok (.goto (-55), 3) := dk_167 255 201 (dk_at dksX13_middle_3 15 rfl rfl)
theorem dX13_middle_87 : decode cX13_middle 87 = .ok (.iconst (-1), 1) := dk_2 (dk_at dksX13_middle_3 18 rfl rfl)
theorem dX13_middle_88 : decode cX13_middle 88 = .ok (.istore_n 3, 1) := dk_62 (dk_at dksX13_middle_3 19 rfl rfl)
theorem dX13_middle_89 : decode cX13_middle 89 = .ok (.ldc 170, 2) := dk_18 170 (dk_at dksX13_middle_3 20 rfl rfl)
theorem dX13_middle_91 : decode cX13_middle 91 = .ok (.istore 4, 2) := dk_54 4 (dk_at dksX13_middle_3 22 rfl rfl)
theorem dX13_middle_93 : decode cX13_middle 93 = .ok (.iconst 0, 1) := dk_3 (dk_at dksX13_middle_4 0 rfl rfl)
theorem dX13_middle_94 : decode cX13_middle 94 = .ok (.istore 5, 2) := dk_54 5 (dk_at dksX13_middle_4 1 rfl rfl)
theorem dX13_middle_96 : decode cX13_middle 96 = .ok (.iload 5, 2) := dk_21 5 (dk_at dksX13_middle_4 3 rfl rfl)
theorem dX13_middle_98 : decode cX13_middle 98 = .ok (.bipush 7, 2) := dk_16 7 (dk_at dksX13_middle_4 5 rfl rfl)
theorem dX13_middle_100 : decode cX13_middle 100 = .ok (.if_icmp .ge 99, 3) := dk_162 0 99 (dk_at dksX13_middle_4 7 rfl rfl)
theorem dX13_middle_103 : decode cX13_middle 103 = .ok (.iload_n 2, 1) := dk_28 (dk_at dksX13_middle_4 10 rfl rfl)
theorem dX13_middle_104 : decode cX13_middle 104 = .ok (.iload 5, 2) := dk_21 5 (dk_at dksX13_middle_4 11 rfl rfl)
theorem dX13_middle_106 : decode cX13_middle 106 = .ok (.invokestatic 114, 3) := dk_184 0 114 (dk_at dksX13_middle_4 13 rfl rfl)
theorem dX13_middle_109 : decode cX13_middle 109 = .ok (.ifCond .eq 7, 3) := dk_153 0 7 (dk_at dksX13_middle_4 16 rfl rfl)
theorem dX13_middle_112 : decode cX13_middle 112 = .ok (.iconst 0, 1) := dk_3 (dk_at dksX13_middle_4 19 rfl rfl)
theorem dX13_middle_113 : decode cX13_middle 113 = .ok (.goto 5, 3) := dk_167 0 5 (dk_at dksX13_middle_4 20 rfl rfl)
theorem dX13_middle_116 : decode cX13_middle 116 = .ok (.ldc 170, 2) := dk_18 170 (dk_at dksX13_middle_5 0 rfl rfl)
theorem dX13_middle_118 : decode cX13_middle 118 = .ok (.istore 6, 2) := dk_54 6 (dk_at dksX13_middle_5 2 rfl rfl)
theorem dX13_middle_120 : decode cX13_middle 120 = .ok (.iconst 0, 1) := dk_3 (dk_at dksX13_middle_5 4 rfl rfl)
theorem dX13_middle_121 : decode cX13_middle 121 = .ok (.istore 7, 2) := dk_54 7 (dk_at dksX13_middle_5 5 rfl rfl)
theorem dX13_middle_123 : decode cX13_middle 123 = .ok (.iload 7, 2) := dk_21 7 (dk_at dksX13_middle_5 7 rfl rfl)
theorem dX13_middle_125 : decode cX13_middle 125 = .ok (.bipush 7, 2) := dk_16 7 (dk_at dksX13_middle_5 9 rfl rfl)
theorem dX13_middle_127 : decode cX13_middle 127 = .ok (.if_icmp .ge 43, 3) := dk_162 0 43 (dk_at dksX13_middle_5 11 rfl rfl)
theorem dX13_middle_130 : decode cX13_middle 130 = .ok (.iload_n 2, 1) := dk_28 (dk_at dksX13_middle_5 14 rfl rfl)
theorem dX13_middle_131 : decode cX13_middle 131 = .ok (.iload 7, 2) := dk_21 7 (dk_at dksX13_middle_5 15 rfl rfl)
theorem dX13_middle_133 : decode cX13_middle 133 = .ok (.invokestatic 114, 3) := dk_184 0 114 (dk_at dksX13_middle_5 17 rfl rfl)
theorem dX13_middle_136 : decode cX13_middle 136 = .ok (.ifCond .eq 24, 3) := dk_153 0 24 (dk_at dksX13_middle_5 20 rfl rfl)
theorem dX13_middle_139 : decode cX13_middle 139 = .ok (.iload 6, 2) := dk_21 6 (dk_at dksX13_middle_6 0 rfl rfl)
theorem dX13_middle_141 : decode cX13_middle 141 = .ok (.aload_n 0, 1) := dk_42 (dk_at dksX13_middle_6 2 rfl rfl)
theorem dX13_middle_142 : decode cX13_middle 142 = .ok (.getfield 22, 3) := dk_180 0 22 (dk_at dksX13_middle_6 3 rfl rfl)
theorem dX13_middle_145 : decode cX13_middle 145 = .ok (.bipush 7, 2) := dk_16 7 (dk_at dksX13_middle_6 6 rfl rfl)
theorem dX13_middle_147 : decode cX13_middle 147 = .ok (.iload 5, 2) := dk_21 5 (dk_at dksX13_middle_6 8 rfl rfl)
theorem dX13_middle_149 : decode cX13_middle 149 = .ok (.imul, 1) := dk_104 (dk_at dksX13_middle_6 10 rfl rfl)
theorem dX13_middle_150 : decode cX13_middle 150 = .ok (.iload 7, 2) := dk_21 7 (dk_at dksX13_middle_6 11 rfl rfl)
theorem dX13_middle_152 : decode cX13_middle 152 = .ok (.iadd, 1) := dk_96 (dk_at dksX13_middle_6 13 rfl rfl)
theorem dX13_middle_153 : decode cX13_middle 153 = .ok (.iaload, 1) := dk_46 (dk_at dksX13_middle_6 14 rfl rfl)
theorem dX13_middle_154 : decode cX13_middle 154 = .ok (.invokestatic 141, 3) := dk_184 0 141 (dk_at dksX13_middle_6 15 rfl rfl)
theorem dX13_middle_157 : decode cX13_middle 157 = .ok (.goto 5, 3) := dk_167 0 5 (dk_at dksX13_middle_6 18 rfl rfl)
theorem dX13_middle_160 : decode cX13_middle 160 = .ok (.iload 6, 2) := dk_21 6 (dk_at dksX13_middle_6 21 rfl rfl)
theorem dX13_middle_162 : decode cX13_middle 162 = .ok (.istore 6, 2) := dk_54 6 (dk_at dksX13_middle_7 0 rfl rfl)
theorem dX13_middle_164 : decode cX13_middle 164 = .ok (.iinc 7 1, 3) := dk_132 7 1 (dk_at dksX13_middle_7 2 rfl rfl)
theorem dX13_middle_167 : decode cX13_middle 167 = .ok (.goto (-44), 3) := dk_167 255 212 (dk_at dksX13_middle_7 5 rfl rfl)
theorem dX13_middle_170 : decode cX13_middle 170 = .ok (.iload 6, 2) := dk_21 6 (dk_at dksX13_middle_7 8 rfl rfl)
theorem dX13_middle_172 : decode cX13_middle 172 = .ok (.iload 4, 2) := dk_21 4 (dk_at dksX13_middle_7 10 rfl rfl)
theorem dX13_middle_174 : decode cX13_middle 174 = .ok (.if_icmp .ge 8, 3) := dk_162 0 8 (dk_at dksX13_middle_7 12 rfl rfl)
theorem dX13_middle_177 : decode cX13_middle 177 = .ok (.iload 5, 2) := dk_21 5 (dk_at dksX13_middle_7 15 rfl rfl)
theorem dX13_middle_179 : decode cX13_middle 179 = .ok (.goto 4, 3) := dk_167 0 4 (dk_at dksX13_middle_7 17 rfl rfl)
theorem dX13_middle_182 : decode cX13_middle 182 = .ok (.iload_n 3, 1) := dk_29 (dk_at dksX13_middle_7 20 rfl rfl)
theorem dX13_middle_183 : decode cX13_middle 183 = .ok (.istore_n 3, 1) := dk_62 (dk_at dksX13_middle_7 21 rfl rfl)
theorem dX13_middle_184 : decode cX13_middle 184 = .ok (.iload 4, 2) := dk_21 4 (dk_at dksX13_middle_7 22 rfl rfl)
theorem dX13_middle_186 : decode cX13_middle 186 = .ok (.iload 6, 2) := dk_21 6 (dk_at dksX13_middle_8 0 rfl rfl)
theorem dX13_middle_188 : decode cX13_middle 188 = .ok (.invokestatic 136, 3) := dk_184 0 136 (dk_at dksX13_middle_8 2 rfl rfl)
theorem dX13_middle_191 : decode cX13_middle 191 = .ok (.istore 4, 2) := dk_54 4 (dk_at dksX13_middle_8 5 rfl rfl)
theorem dX13_middle_193 : decode cX13_middle 193 = .ok (.iinc 5 1, 3) := dk_132 5 1 (dk_at dksX13_middle_8 7 rfl rfl)
theorem dX13_middle_196 : decode cX13_middle 196 = .ok (.goto (-100), 3) := dk_167 255 156 (dk_at dksX13_middle_8 10 rfl rfl)
theorem dX13_middle_199 : decode cX13_middle 199 = .ok (.iload_n 3, 1) := dk_29 (dk_at dksX13_middle_8 13 rfl rfl)
theorem dX13_middle_200 : decode cX13_middle 200 = .ok (.ifCond .ge 12, 3) := dk_156 0 12 (dk_at dksX13_middle_8 14 rfl rfl)
theorem dX13_middle_203 : decode cX13_middle 203 = .ok (.aload_n 0, 1) := dk_42 (dk_at dksX13_middle_8 17 rfl rfl)
theorem dX13_middle_204 : decode cX13_middle 204 = .ok (.ldc 160, 2) := dk_18 160 (dk_at dksX13_middle_8 18 rfl rfl)
theorem dX13_middle_206 : decode cX13_middle 206 = .ok (.invokevirtual 92, 3) := dk_182 0 92 (dk_at dksX13_middle_8 20 rfl rfl)
theorem dX13_middle_209 : decode cX13_middle 209 = .ok (.goto 4, 3) := dk_167 0 4 (dk_at dksX13_middle_9 0 rfl rfl)
theorem dX13_middle_212 : decode cX13_middle 212 = .ok (.iload_n 3, 1) := dk_29 (dk_at dksX13_middle_9 3 rfl rfl)
theorem dX13_middle_213 : decode cX13_middle 213 = .ok (.ireturn, 1) := dk_172 (dk_at dksX13_middle_9 4 rfl rfl)
abbrev cX13_heavy : ByteArray := prog_16_method_83_code
def yX13_heavy : MethodName := ⟨RX13, "heavy", "(II)I"⟩
def dkwX13_heavy_4 : List UInt8 := [164, 0, 10, 4, 21, 5, 120, 167, 0, 4, 3, 128, 54, 4, 132, 5, 1, 167, 255, 200, 21, 4, 172]
abbrev dktX13_heavy_4 : List UInt8 := dkwX13_heavy_4 ++ []
def dkwX13_heavy_3 : List UInt8 := [184, 0, 114, 153, 0, 29, 29, 42, 21, 5, 3, 182, 0, 111, 5, 108, 96, 42, 27, 182, 0, 120]
abbrev dktX13_heavy_3 : List UInt8 := dkwX13_heavy_3 ++ dktX13_heavy_4
def dkwX13_heavy_2 : List UInt8 := [54, 4, 3, 54, 5, 21, 5, 42, 180, 0, 9, 16, 43, 46, 162, 0, 50, 21, 4, 28, 21, 5]
abbrev dktX13_heavy_2 : List UInt8 := dkwX13_heavy_2 ++ dktX13_heavy_3
def dkwX13_heavy_1 : List UInt8 := [172, 42, 28, 182, 0, 126, 62, 29, 42, 27, 182, 0, 120, 164, 0, 10, 42, 18, 184, 182, 0, 92, 172, 3]
abbrev dktX13_heavy_1 : List UInt8 := dkwX13_heavy_1 ++ dktX13_heavy_2
def dkwX13_heavy_0 : List UInt8 := [42, 27, 182, 0, 117, 153, 0, 13, 42, 28, 16, 8, 182, 0, 224, 154, 0, 10, 42, 18, 72, 182, 0, 92]
abbrev dktX13_heavy_0 : List UInt8 := dkwX13_heavy_0 ++ dktX13_heavy_1
theorem dksX13_heavy_0 : cX13_heavy.data.toList.drop 0 = dktX13_heavy_0 := by decide +kernel
theorem dksX13_heavy_1 : cX13_heavy.data.toList.drop 24 = dktX13_heavy_1 := dk_seg dksX13_heavy_0 24 rfl rfl
theorem dksX13_heavy_2 : cX13_heavy.data.toList.drop 48 = dktX13_heavy_2 := dk_seg dksX13_heavy_1 24 rfl rfl
theorem dksX13_heavy_3 : cX13_heavy.data.toList.drop 70 = dktX13_heavy_3 := dk_seg dksX13_heavy_2 22 rfl rfl
theorem dksX13_heavy_4 : cX13_heavy.data.toList.drop 92 = dktX13_heavy_4 := dk_seg dksX13_heavy_3 22 rfl rfl
theorem dX13_heavy_0 : decode cX13_heavy 0 = .ok (.aload_n 0, 1) := dk_42 (dk_at dksX13_heavy_0 0 rfl rfl)
theorem dX13_heavy_1 : decode cX13_heavy 1 = .ok (.iload_n 1, 1) := dk_27 (dk_at dksX13_heavy_0 1 rfl rfl)
theorem dX13_heavy_2 : decode cX13_heavy 2 = .ok (.invokevirtual 117, 3) := dk_182 0 117 (dk_at dksX13_heavy_0 2 rfl rfl)
theorem dX13_heavy_5 : decode cX13_heavy 5 = .ok (.ifCond .eq 13, 3) := dk_153 0 13 (dk_at dksX13_heavy_0 5 rfl rfl)
theorem dX13_heavy_8 : decode cX13_heavy 8 = .ok (.aload_n 0, 1) := dk_42 (dk_at dksX13_heavy_0 8 rfl rfl)
theorem dX13_heavy_9 : decode cX13_heavy 9 = .ok (.iload_n 2, 1) := dk_28 (dk_at dksX13_heavy_0 9 rfl rfl)
theorem dX13_heavy_10 : decode cX13_heavy 10 = .ok (.bipush 8, 2) := dk_16 8 (dk_at dksX13_heavy_0 10 rfl rfl)
theorem dX13_heavy_12 : decode cX13_heavy 12 = .ok (.invokevirtual 224, 3) := dk_182 0 224 (dk_at dksX13_heavy_0 12 rfl rfl)
theorem dX13_heavy_15 : decode cX13_heavy 15 = .ok (.ifCond .ne 10, 3) := dk_154 0 10 (dk_at dksX13_heavy_0 15 rfl rfl)
theorem dX13_heavy_18 : decode cX13_heavy 18 = .ok (.aload_n 0, 1) := dk_42 (dk_at dksX13_heavy_0 18 rfl rfl)
theorem dX13_heavy_19 : decode cX13_heavy 19 = .ok (.ldc 72, 2) := dk_18 72 (dk_at dksX13_heavy_0 19 rfl rfl)
theorem dX13_heavy_21 : decode cX13_heavy 21 = .ok (.invokevirtual 92, 3) := dk_182 0 92 (dk_at dksX13_heavy_0 21 rfl rfl)
theorem dX13_heavy_24 : decode cX13_heavy 24 = .ok (.ireturn, 1) := dk_172 (dk_at dksX13_heavy_1 0 rfl rfl)
theorem dX13_heavy_25 : decode cX13_heavy 25 = .ok (.aload_n 0, 1) := dk_42 (dk_at dksX13_heavy_1 1 rfl rfl)
theorem dX13_heavy_26 : decode cX13_heavy 26 = .ok (.iload_n 2, 1) := dk_28 (dk_at dksX13_heavy_1 2 rfl rfl)
theorem dX13_heavy_27 : decode cX13_heavy 27 = .ok (.invokevirtual 126, 3) := dk_182 0 126 (dk_at dksX13_heavy_1 3 rfl rfl)
theorem dX13_heavy_30 : decode cX13_heavy 30 = .ok (.istore_n 3, 1) := dk_62 (dk_at dksX13_heavy_1 6 rfl rfl)
theorem dX13_heavy_31 : decode cX13_heavy 31 = .ok (.iload_n 3, 1) := dk_29 (dk_at dksX13_heavy_1 7 rfl rfl)
theorem dX13_heavy_32 : decode cX13_heavy 32 = .ok (.aload_n 0, 1) := dk_42 (dk_at dksX13_heavy_1 8 rfl rfl)
theorem dX13_heavy_33 : decode cX13_heavy 33 = .ok (.iload_n 1, 1) := dk_27 (dk_at dksX13_heavy_1 9 rfl rfl)
theorem dX13_heavy_34 : decode cX13_heavy 34 = .ok (.invokevirtual 120, 3) := dk_182 0 120 (dk_at dksX13_heavy_1 10 rfl rfl)
theorem dX13_heavy_37 : decode cX13_heavy 37 = .ok (.if_icmp .le 10, 3) := dk_164 0 10 (dk_at dksX13_heavy_1 13 rfl rfl)
theorem dX13_heavy_40 : decode cX13_heavy 40 = .ok (.aload_n 0, 1) := dk_42 (dk_at dksX13_heavy_1 16 rfl rfl)
theorem dX13_heavy_41 : decode cX13_heavy 41 = .ok (.ldc 184, 2) := dk_18 184 (dk_at dksX13_heavy_1 17 rfl rfl)
theorem dX13_heavy_43 : decode cX13_heavy 43 = .ok (.invokevirtual 92, 3) := dk_182 0 92 (dk_at dksX13_heavy_1 19 rfl rfl)
theorem dX13_heavy_46 : decode cX13_heavy 46 = .ok (.ireturn, 1) := dk_172 (dk_at dksX13_heavy_1 22 rfl rfl)
theorem dX13_heavy_47 : decode cX13_heavy 47 = .ok (.iconst 0, 1) := dk_3 (dk_at dksX13_heavy_1 23 rfl rfl)
theorem dX13_heavy_48 : decode cX13_heavy 48 = .ok (.istore 4, 2) := dk_54 4 (dk_at dksX13_heavy_2 0 rfl rfl)
theorem dX13_heavy_50 : decode cX13_heavy 50 = .ok (.iconst 0, 1) := dk_3 (dk_at dksX13_heavy_2 2 rfl rfl)
theorem dX13_heavy_51 : decode cX13_heavy 51 = .ok (.istore 5, 2) := dk_54 5 (dk_at dksX13_heavy_2 3 rfl rfl)
theorem dX13_heavy_53 : decode cX13_heavy 53 = .ok (.iload 5, 2) := dk_21 5 (dk_at dksX13_heavy_2 5 rfl rfl)
theorem dX13_heavy_55 : decode cX13_heavy 55 = .ok (.aload_n 0, 1) := dk_42 (dk_at dksX13_heavy_2 7 rfl rfl)
theorem dX13_heavy_56 : decode cX13_heavy 56 = .ok (.getfield 9, 3) := dk_180 0 9 (dk_at dksX13_heavy_2 8 rfl rfl)
theorem dX13_heavy_59 : decode cX13_heavy 59 = .ok (.bipush 43, 2) := dk_16 43 (dk_at dksX13_heavy_2 11 rfl rfl)
theorem dX13_heavy_61 : decode cX13_heavy 61 = .ok (.iaload, 1) := dk_46 (dk_at dksX13_heavy_2 13 rfl rfl)
theorem dX13_heavy_62 : decode cX13_heavy 62 = .ok (.if_icmp .ge 50, 3) := dk_162 0 50 (dk_at dksX13_heavy_2 14 rfl rfl)
theorem dX13_heavy_65 : decode cX13_heavy 65 = .ok (.iload 4, 2) := dk_21 4 (dk_at dksX13_heavy_2 17 rfl rfl)
theorem dX13_heavy_67 : decode cX13_heavy 67 = .ok (.iload_n 2, 1) := dk_28 (dk_at dksX13_heavy_2 19 rfl rfl)
theorem dX13_heavy_68 : decode cX13_heavy 68 = .ok (.iload 5, 2) := dk_21 5 (dk_at dksX13_heavy_2 20 rfl rfl)
theorem dX13_heavy_70 : decode cX13_heavy 70 = .ok (.invokestatic 114, 3) := dk_184 0 114 (dk_at dksX13_heavy_3 0 rfl rfl)
theorem dX13_heavy_73 : decode cX13_heavy 73 = .ok (.ifCond .eq 29, 3) := dk_153 0 29 (dk_at dksX13_heavy_3 3 rfl rfl)
theorem dX13_heavy_76 : decode cX13_heavy 76 = .ok (.iload_n 3, 1) := dk_29 (dk_at dksX13_heavy_3 6 rfl rfl)
theorem dX13_heavy_77 : decode cX13_heavy 77 = .ok (.aload_n 0, 1) := dk_42 (dk_at dksX13_heavy_3 7 rfl rfl)
theorem dX13_heavy_78 : decode cX13_heavy 78 = .ok (.iload 5, 2) := dk_21 5 (dk_at dksX13_heavy_3 8 rfl rfl)
theorem dX13_heavy_80 : decode cX13_heavy 80 = .ok (.iconst 0, 1) := dk_3 (dk_at dksX13_heavy_3 10 rfl rfl)
theorem dX13_heavy_81 : decode cX13_heavy 81 = .ok (.invokevirtual 111, 3) := dk_182 0 111 (dk_at dksX13_heavy_3 11 rfl rfl)
theorem dX13_heavy_84 : decode cX13_heavy 84 = .ok (.iconst 2, 1) := dk_5 (dk_at dksX13_heavy_3 14 rfl rfl)
theorem dX13_heavy_85 : decode cX13_heavy 85 = .ok (.idiv, 1) := dk_108 (dk_at dksX13_heavy_3 15 rfl rfl)
theorem dX13_heavy_86 : decode cX13_heavy 86 = .ok (.iadd, 1) := dk_96 (dk_at dksX13_heavy_3 16 rfl rfl)
theorem dX13_heavy_87 : decode cX13_heavy 87 = .ok (.aload_n 0, 1) := dk_42 (dk_at dksX13_heavy_3 17 rfl rfl)
theorem dX13_heavy_88 : decode cX13_heavy 88 = .ok (.iload_n 1, 1) := dk_27 (dk_at dksX13_heavy_3 18 rfl rfl)
theorem dX13_heavy_89 : decode cX13_heavy 89 = .ok (.invokevirtual 120, 3) := dk_182 0 120 (dk_at dksX13_heavy_3 19 rfl rfl)
theorem dX13_heavy_92 : decode cX13_heavy 92 = .ok (.if_icmp .le 10, 3) := dk_164 0 10 (dk_at dksX13_heavy_4 0 rfl rfl)
theorem dX13_heavy_95 : decode cX13_heavy 95 = .ok (.iconst 1, 1) := dk_4 (dk_at dksX13_heavy_4 3 rfl rfl)
theorem dX13_heavy_96 : decode cX13_heavy 96 = .ok (.iload 5, 2) := dk_21 5 (dk_at dksX13_heavy_4 4 rfl rfl)
theorem dX13_heavy_98 : decode cX13_heavy 98 = .ok (.ishl, 1) := dk_120 (dk_at dksX13_heavy_4 6 rfl rfl)
theorem dX13_heavy_99 : decode cX13_heavy 99 = .ok (.goto 4, 3) := dk_167 0 4 (dk_at dksX13_heavy_4 7 rfl rfl)
theorem dX13_heavy_102 : decode cX13_heavy 102 = .ok (.iconst 0, 1) := dk_3 (dk_at dksX13_heavy_4 10 rfl rfl)
theorem dX13_heavy_103 : decode cX13_heavy 103 = .ok (.ior, 1) := dk_128 (dk_at dksX13_heavy_4 11 rfl rfl)
theorem dX13_heavy_104 : decode cX13_heavy 104 = .ok (.istore 4, 2) := dk_54 4 (dk_at dksX13_heavy_4 12 rfl rfl)
theorem dX13_heavy_106 : decode cX13_heavy 106 = .ok (.iinc 5 1, 3) := dk_132 5 1 (dk_at dksX13_heavy_4 14 rfl rfl)
theorem dX13_heavy_109 : decode cX13_heavy 109 = .ok (.goto (-56), 3) := dk_167 255 200 (dk_at dksX13_heavy_4 17 rfl rfl)
theorem dX13_heavy_112 : decode cX13_heavy 112 = .ok (.iload 4, 2) := dk_21 4 (dk_at dksX13_heavy_4 20 rfl rfl)
theorem dX13_heavy_114 : decode cX13_heavy 114 = .ok (.ireturn, 1) := dk_172 (dk_at dksX13_heavy_4 22 rfl rfl)
abbrev cX13_day : ByteArray := prog_16_method_88_code
def yX13_day : MethodName := ⟨RX13, "day", "(I)I"⟩
def dkwX13_day_0 : List UInt8 := [42, 27, 182, 1, 11, 61, 28, 153, 0, 11, 42, 28, 182, 0, 92, 167, 0, 8, 42, 27, 182, 1, 14, 172]
abbrev dktX13_day_0 : List UInt8 := dkwX13_day_0 ++ []
theorem dksX13_day_0 : cX13_day.data.toList.drop 0 = dktX13_day_0 := by decide +kernel
theorem dX13_day_0 : decode cX13_day 0 = .ok (.aload_n 0, 1) := dk_42 (dk_at dksX13_day_0 0 rfl rfl)
theorem dX13_day_1 : decode cX13_day 1 = .ok (.iload_n 1, 1) := dk_27 (dk_at dksX13_day_0 1 rfl rfl)
theorem dX13_day_2 : decode cX13_day 2 = .ok (.invokevirtual 267, 3) := dk_182 1 11 (dk_at dksX13_day_0 2 rfl rfl)
theorem dX13_day_5 : decode cX13_day 5 = .ok (.istore_n 2, 1) := dk_61 (dk_at dksX13_day_0 5 rfl rfl)
theorem dX13_day_6 : decode cX13_day 6 = .ok (.iload_n 2, 1) := dk_28 (dk_at dksX13_day_0 6 rfl rfl)
theorem dX13_day_7 : decode cX13_day 7 = .ok (.ifCond .eq 11, 3) := dk_153 0 11 (dk_at dksX13_day_0 7 rfl rfl)
theorem dX13_day_10 : decode cX13_day 10 = .ok (.aload_n 0, 1) := dk_42 (dk_at dksX13_day_0 10 rfl rfl)
theorem dX13_day_11 : decode cX13_day 11 = .ok (.iload_n 2, 1) := dk_28 (dk_at dksX13_day_0 11 rfl rfl)
theorem dX13_day_12 : decode cX13_day 12 = .ok (.invokevirtual 92, 3) := dk_182 0 92 (dk_at dksX13_day_0 12 rfl rfl)
theorem dX13_day_15 : decode cX13_day 15 = .ok (.goto 8, 3) := dk_167 0 8 (dk_at dksX13_day_0 15 rfl rfl)
theorem dX13_day_18 : decode cX13_day 18 = .ok (.aload_n 0, 1) := dk_42 (dk_at dksX13_day_0 18 rfl rfl)
theorem dX13_day_19 : decode cX13_day 19 = .ok (.iload_n 1, 1) := dk_27 (dk_at dksX13_day_0 19 rfl rfl)
theorem dX13_day_20 : decode cX13_day 20 = .ok (.invokevirtual 270, 3) := dk_182 1 14 (dk_at dksX13_day_0 20 rfl rfl)
theorem dX13_day_23 : decode cX13_day 23 = .ok (.ireturn, 1) := dk_172 (dk_at dksX13_day_0 23 rfl rfl)
abbrev cX13_refusesDays : ByteArray := prog_16_method_86_code
def yX13_refusesDays : MethodName := ⟨RX13, "refusesDays", "(I)I"⟩
def dkwX13_refusesDays_1 : List UInt8 := [154, 0, 8, 18, 184, 167, 0, 4, 3, 172]
abbrev dktX13_refusesDays_1 : List UInt8 := dkwX13_refusesDays_1 ++ []
def dkwX13_refusesDays_0 : List UInt8 := [27, 4, 16, 12, 184, 0, 77, 154, 0, 8, 18, 72, 167, 0, 19, 42, 180, 0, 9, 16, 42, 46]
abbrev dktX13_refusesDays_0 : List UInt8 := dkwX13_refusesDays_0 ++ dktX13_refusesDays_1
theorem dksX13_refusesDays_0 : cX13_refusesDays.data.toList.drop 0 = dktX13_refusesDays_0 := by decide +kernel
theorem dksX13_refusesDays_1 : cX13_refusesDays.data.toList.drop 22 = dktX13_refusesDays_1 := dk_seg dksX13_refusesDays_0 22 rfl rfl
theorem dX13_refusesDays_0 : decode cX13_refusesDays 0 = .ok (.iload_n 1, 1) := dk_27 (dk_at dksX13_refusesDays_0 0 rfl rfl)
theorem dX13_refusesDays_1 : decode cX13_refusesDays 1 = .ok (.iconst 1, 1) := dk_4 (dk_at dksX13_refusesDays_0 1 rfl rfl)
theorem dX13_refusesDays_2 : decode cX13_refusesDays 2 = .ok (.bipush 12, 2) := dk_16 12 (dk_at dksX13_refusesDays_0 2 rfl rfl)
theorem dX13_refusesDays_4 : decode cX13_refusesDays 4 = .ok (.invokestatic 77, 3) := dk_184 0 77 (dk_at dksX13_refusesDays_0 4 rfl rfl)
theorem dX13_refusesDays_7 : decode cX13_refusesDays 7 = .ok (.ifCond .ne 8, 3) := dk_154 0 8 (dk_at dksX13_refusesDays_0 7 rfl rfl)
theorem dX13_refusesDays_10 : decode cX13_refusesDays 10 = .ok (.ldc 72, 2) := dk_18 72 (dk_at dksX13_refusesDays_0 10 rfl rfl)
theorem dX13_refusesDays_12 : decode cX13_refusesDays 12 = .ok (.goto 19, 3) := dk_167 0 19 (dk_at dksX13_refusesDays_0 12 rfl rfl)
theorem dX13_refusesDays_15 : decode cX13_refusesDays 15 = .ok (.aload_n 0, 1) := dk_42 (dk_at dksX13_refusesDays_0 15 rfl rfl)
theorem dX13_refusesDays_16 : decode cX13_refusesDays 16 = .ok (.getfield 9, 3) := dk_180 0 9 (dk_at dksX13_refusesDays_0 16 rfl rfl)
theorem dX13_refusesDays_19 : decode cX13_refusesDays 19 = .ok (.bipush 42, 2) := dk_16 42 (dk_at dksX13_refusesDays_0 19 rfl rfl)
theorem dX13_refusesDays_21 : decode cX13_refusesDays 21 = .ok (.iaload, 1) := dk_46 (dk_at dksX13_refusesDays_0 21 rfl rfl)
theorem dX13_refusesDays_22 : decode cX13_refusesDays 22 = .ok (.ifCond .ne 8, 3) := dk_154 0 8 (dk_at dksX13_refusesDays_1 0 rfl rfl)
theorem dX13_refusesDays_25 : decode cX13_refusesDays 25 = .ok (.ldc 184, 2) := dk_18 184 (dk_at dksX13_refusesDays_1 3 rfl rfl)
theorem dX13_refusesDays_27 : decode cX13_refusesDays 27 = .ok (.goto 4, 3) := dk_167 0 4 (dk_at dksX13_refusesDays_1 5 rfl rfl)
theorem dX13_refusesDays_30 : decode cX13_refusesDays 30 = .ok (.iconst 0, 1) := dk_3 (dk_at dksX13_refusesDays_1 8 rfl rfl)
theorem dX13_refusesDays_31 : decode cX13_refusesDays 31 = .ok (.ireturn, 1) := dk_172 (dk_at dksX13_refusesDays_1 9 rfl rfl)
abbrev cX13_days : ByteArray := prog_16_method_87_code
def yX13_days : MethodName := ⟨RX13, "days", "(I)I"⟩
def dkwX13_days_2 : List UInt8 := [184, 0, 141, 61, 132, 3, 1, 167, 255, 212, 28, 156, 0, 7, 28, 167, 0, 7, 42, 180, 0, 192, 172]
abbrev dktX13_days_2 : List UInt8 := dkwX13_days_2 ++ []
def dkwX13_days_1 : List UInt8 := [182, 1, 5, 54, 4, 42, 21, 4, 182, 1, 8, 28, 42, 21, 4, 42, 16, 7, 182, 1, 5, 182, 0, 199]
abbrev dktX13_days_1 : List UInt8 := dkwX13_days_1 ++ dktX13_days_2
def dkwX13_days_0 : List UInt8 := [42, 3, 181, 0, 192, 3, 61, 3, 62, 29, 27, 162, 0, 45, 42, 42, 180, 0, 9, 16, 42, 46]
abbrev dktX13_days_0 : List UInt8 := dkwX13_days_0 ++ dktX13_days_1
theorem dksX13_days_0 : cX13_days.data.toList.drop 0 = dktX13_days_0 := by decide +kernel
theorem dksX13_days_1 : cX13_days.data.toList.drop 22 = dktX13_days_1 := dk_seg dksX13_days_0 22 rfl rfl
theorem dksX13_days_2 : cX13_days.data.toList.drop 46 = dktX13_days_2 := dk_seg dksX13_days_1 24 rfl rfl
theorem dX13_days_0 : decode cX13_days 0 = .ok (.aload_n 0, 1) := dk_42 (dk_at dksX13_days_0 0 rfl rfl)
theorem dX13_days_1 : decode cX13_days 1 = .ok (.iconst 0, 1) := dk_3 (dk_at dksX13_days_0 1 rfl rfl)
theorem dX13_days_2 : decode cX13_days 2 = .ok (.putfield 192, 3) := dk_181 0 192 (dk_at dksX13_days_0 2 rfl rfl)
theorem dX13_days_5 : decode cX13_days 5 = .ok (.iconst 0, 1) := dk_3 (dk_at dksX13_days_0 5 rfl rfl)
theorem dX13_days_6 : decode cX13_days 6 = .ok (.istore_n 2, 1) := dk_61 (dk_at dksX13_days_0 6 rfl rfl)
theorem dX13_days_7 : decode cX13_days 7 = .ok (.iconst 0, 1) := dk_3 (dk_at dksX13_days_0 7 rfl rfl)
theorem dX13_days_8 : decode cX13_days 8 = .ok (.istore_n 3, 1) := dk_62 (dk_at dksX13_days_0 8 rfl rfl)
theorem dX13_days_9 : decode cX13_days 9 = .ok (.iload_n 3, 1) := dk_29 (dk_at dksX13_days_0 9 rfl rfl)
theorem dX13_days_10 : decode cX13_days 10 = .ok (.iload_n 1, 1) := dk_27 (dk_at dksX13_days_0 10 rfl rfl)
theorem dX13_days_11 : decode cX13_days 11 = .ok (.if_icmp .ge 45, 3) := dk_162 0 45 (dk_at dksX13_days_0 11 rfl rfl)
theorem dX13_days_14 : decode cX13_days 14 = .ok (.aload_n 0, 1) := dk_42 (dk_at dksX13_days_0 14 rfl rfl)
theorem dX13_days_15 : decode cX13_days 15 = .ok (.aload_n 0, 1) := dk_42 (dk_at dksX13_days_0 15 rfl rfl)
theorem dX13_days_16 : decode cX13_days 16 = .ok (.getfield 9, 3) := dk_180 0 9 (dk_at dksX13_days_0 16 rfl rfl)
theorem dX13_days_19 : decode cX13_days 19 = .ok (.bipush 42, 2) := dk_16 42 (dk_at dksX13_days_0 19 rfl rfl)
theorem dX13_days_21 : decode cX13_days 21 = .ok (.iaload, 1) := dk_46 (dk_at dksX13_days_0 21 rfl rfl)
theorem dX13_days_22 : decode cX13_days 22 = .ok (.invokevirtual 261, 3) := dk_182 1 5 (dk_at dksX13_days_1 0 rfl rfl)
theorem dX13_days_25 : decode cX13_days 25 = .ok (.istore 4, 2) := dk_54 4 (dk_at dksX13_days_1 3 rfl rfl)
theorem dX13_days_27 : decode cX13_days 27 = .ok (.aload_n 0, 1) := dk_42 (dk_at dksX13_days_1 5 rfl rfl)
theorem dX13_days_28 : decode cX13_days 28 = .ok (.iload 4, 2) := dk_21 4 (dk_at dksX13_days_1 6 rfl rfl)
theorem dX13_days_30 : decode cX13_days 30 = .ok (.invokevirtual 264, 3) := dk_182 1 8 (dk_at dksX13_days_1 8 rfl rfl)
theorem dX13_days_33 : decode cX13_days 33 = .ok (.iload_n 2, 1) := dk_28 (dk_at dksX13_days_1 11 rfl rfl)
theorem dX13_days_34 : decode cX13_days 34 = .ok (.aload_n 0, 1) := dk_42 (dk_at dksX13_days_1 12 rfl rfl)
theorem dX13_days_35 : decode cX13_days 35 = .ok (.iload 4, 2) := dk_21 4 (dk_at dksX13_days_1 13 rfl rfl)
theorem dX13_days_37 : decode cX13_days 37 = .ok (.aload_n 0, 1) := dk_42 (dk_at dksX13_days_1 15 rfl rfl)
theorem dX13_days_38 : decode cX13_days 38 = .ok (.bipush 7, 2) := dk_16 7 (dk_at dksX13_days_1 16 rfl rfl)
theorem dX13_days_40 : decode cX13_days 40 = .ok (.invokevirtual 261, 3) := dk_182 1 5 (dk_at dksX13_days_1 18 rfl rfl)
theorem dX13_days_43 : decode cX13_days 43 = .ok (.invokevirtual 199, 3) := dk_182 0 199 (dk_at dksX13_days_1 21 rfl rfl)
theorem dX13_days_46 : decode cX13_days 46 = .ok (.invokestatic 141, 3) := dk_184 0 141 (dk_at dksX13_days_2 0 rfl rfl)
theorem dX13_days_49 : decode cX13_days 49 = .ok (.istore_n 2, 1) := dk_61 (dk_at dksX13_days_2 3 rfl rfl)
theorem dX13_days_50 : decode cX13_days 50 = .ok (.iinc 3 1, 3) := dk_132 3 1 (dk_at dksX13_days_2 4 rfl rfl)
theorem dX13_days_53 : decode cX13_days 53 = .ok (.goto (-44), 3) := dk_167 255 212 (dk_at dksX13_days_2 7 rfl rfl)
theorem dX13_days_56 : decode cX13_days 56 = .ok (.iload_n 2, 1) := dk_28 (dk_at dksX13_days_2 10 rfl rfl)
theorem dX13_days_57 : decode cX13_days 57 = .ok (.ifCond .ge 7, 3) := dk_156 0 7 (dk_at dksX13_days_2 11 rfl rfl)
theorem dX13_days_60 : decode cX13_days 60 = .ok (.iload_n 2, 1) := dk_28 (dk_at dksX13_days_2 14 rfl rfl)
theorem dX13_days_61 : decode cX13_days 61 = .ok (.goto 7, 3) := dk_167 0 7 (dk_at dksX13_days_2 15 rfl rfl)
theorem dX13_days_64 : decode cX13_days 64 = .ok (.aload_n 0, 1) := dk_42 (dk_at dksX13_days_2 18 rfl rfl)
theorem dX13_days_65 : decode cX13_days 65 = .ok (.getfield 192, 3) := dk_180 0 192 (dk_at dksX13_days_2 19 rfl rfl)
theorem dX13_days_68 : decode cX13_days 68 = .ok (.ireturn, 1) := dk_172 (dk_at dksX13_days_2 22 rfl rfl)
abbrev cX13_drawn : ByteArray := prog_16_method_84_code
def yX13_drawn : MethodName := ⟨RX13, "drawn", "(I)I"⟩
def dkwX13_drawn_1 : List UInt8 := [180, 0, 9, 16, 45, 46, 16, 8, 124, 27, 112, 172]
abbrev dktX13_drawn_1 : List UInt8 := dkwX13_drawn_1 ++ []
def dkwX13_drawn_0 : List UInt8 := [42, 180, 0, 9, 16, 45, 42, 180, 0, 9, 16, 45, 46, 19, 1, 4, 104, 17, 48, 57, 96, 79, 42]
abbrev dktX13_drawn_0 : List UInt8 := dkwX13_drawn_0 ++ dktX13_drawn_1
theorem dksX13_drawn_0 : cX13_drawn.data.toList.drop 0 = dktX13_drawn_0 := by decide +kernel
theorem dksX13_drawn_1 : cX13_drawn.data.toList.drop 23 = dktX13_drawn_1 := dk_seg dksX13_drawn_0 23 rfl rfl
theorem dX13_drawn_0 : decode cX13_drawn 0 = .ok (.aload_n 0, 1) := dk_42 (dk_at dksX13_drawn_0 0 rfl rfl)
theorem dX13_drawn_1 : decode cX13_drawn 1 = .ok (.getfield 9, 3) := dk_180 0 9 (dk_at dksX13_drawn_0 1 rfl rfl)
theorem dX13_drawn_4 : decode cX13_drawn 4 = .ok (.bipush 45, 2) := dk_16 45 (dk_at dksX13_drawn_0 4 rfl rfl)
theorem dX13_drawn_6 : decode cX13_drawn 6 = .ok (.aload_n 0, 1) := dk_42 (dk_at dksX13_drawn_0 6 rfl rfl)
theorem dX13_drawn_7 : decode cX13_drawn 7 = .ok (.getfield 9, 3) := dk_180 0 9 (dk_at dksX13_drawn_0 7 rfl rfl)
theorem dX13_drawn_10 : decode cX13_drawn 10 = .ok (.bipush 45, 2) := dk_16 45 (dk_at dksX13_drawn_0 10 rfl rfl)
theorem dX13_drawn_12 : decode cX13_drawn 12 = .ok (.iaload, 1) := dk_46 (dk_at dksX13_drawn_0 12 rfl rfl)
theorem dX13_drawn_13 : decode cX13_drawn 13 = .ok (.ldc_w 260, 3) := dk_19 1 4 (dk_at dksX13_drawn_0 13 rfl rfl)
theorem dX13_drawn_16 : decode cX13_drawn 16 = .ok (.imul, 1) := dk_104 (dk_at dksX13_drawn_0 16 rfl rfl)
theorem dX13_drawn_17 : decode cX13_drawn 17 = .ok (.sipush 12345, 3) := dk_17 48 57 (dk_at dksX13_drawn_0 17 rfl rfl)
theorem dX13_drawn_20 : decode cX13_drawn 20 = .ok (.iadd, 1) := dk_96 (dk_at dksX13_drawn_0 20 rfl rfl)
theorem dX13_drawn_21 : decode cX13_drawn 21 = .ok (.iastore, 1) := dk_79 (dk_at dksX13_drawn_0 21 rfl rfl)
theorem dX13_drawn_22 : decode cX13_drawn 22 = .ok (.aload_n 0, 1) := dk_42 (dk_at dksX13_drawn_0 22 rfl rfl)
theorem dX13_drawn_23 : decode cX13_drawn 23 = .ok (.getfield 9, 3) := dk_180 0 9 (dk_at dksX13_drawn_1 0 rfl rfl)
theorem dX13_drawn_26 : decode cX13_drawn 26 = .ok (.bipush 45, 2) := dk_16 45 (dk_at dksX13_drawn_1 3 rfl rfl)
theorem dX13_drawn_28 : decode cX13_drawn 28 = .ok (.iaload, 1) := dk_46 (dk_at dksX13_drawn_1 5 rfl rfl)
theorem dX13_drawn_29 : decode cX13_drawn 29 = .ok (.bipush 8, 2) := dk_16 8 (dk_at dksX13_drawn_1 6 rfl rfl)
theorem dX13_drawn_31 : decode cX13_drawn 31 = .ok (.iushr, 1) := dk_124 (dk_at dksX13_drawn_1 8 rfl rfl)
theorem dX13_drawn_32 : decode cX13_drawn 32 = .ok (.iload_n 1, 1) := dk_27 (dk_at dksX13_drawn_1 9 rfl rfl)
theorem dX13_drawn_33 : decode cX13_drawn 33 = .ok (.irem, 1) := dk_112 (dk_at dksX13_drawn_1 10 rfl rfl)
theorem dX13_drawn_34 : decode cX13_drawn 34 = .ok (.ireturn, 1) := dk_172 (dk_at dksX13_drawn_1 11 rfl rfl)
abbrev cX13_takesAll : ByteArray := prog_16_method_85_code
def yX13_takesAll : MethodName := ⟨RX13, "takesAll", "(I)V"⟩
def dkwX13_takesAll_2 : List UInt8 := [177]
abbrev dktX13_takesAll_2 : List UInt8 := dkwX13_takesAll_2 ++ []
def dkwX13_takesAll_1 : List UInt8 := [153, 0, 18, 42, 27, 28, 182, 0, 185, 153, 0, 9, 42, 27, 28, 182, 0, 188, 132, 2, 1, 167, 255, 213]
abbrev dktX13_takesAll_1 : List UInt8 := dkwX13_takesAll_1 ++ dktX13_takesAll_2
def dkwX13_takesAll_0 : List UInt8 := [3, 61, 28, 42, 180, 0, 9, 16, 43, 46, 162, 0, 38, 42, 28, 42, 27, 4, 182, 0, 104, 182, 0, 181]
abbrev dktX13_takesAll_0 : List UInt8 := dkwX13_takesAll_0 ++ dktX13_takesAll_1
theorem dksX13_takesAll_0 : cX13_takesAll.data.toList.drop 0 = dktX13_takesAll_0 := by decide +kernel
theorem dksX13_takesAll_1 : cX13_takesAll.data.toList.drop 24 = dktX13_takesAll_1 := dk_seg dksX13_takesAll_0 24 rfl rfl
theorem dksX13_takesAll_2 : cX13_takesAll.data.toList.drop 48 = dktX13_takesAll_2 := dk_seg dksX13_takesAll_1 24 rfl rfl
theorem dX13_takesAll_0 : decode cX13_takesAll 0 = .ok (.iconst 0, 1) := dk_3 (dk_at dksX13_takesAll_0 0 rfl rfl)
theorem dX13_takesAll_1 : decode cX13_takesAll 1 = .ok (.istore_n 2, 1) := dk_61 (dk_at dksX13_takesAll_0 1 rfl rfl)
theorem dX13_takesAll_2 : decode cX13_takesAll 2 = .ok (.iload_n 2, 1) := dk_28 (dk_at dksX13_takesAll_0 2 rfl rfl)
theorem dX13_takesAll_3 : decode cX13_takesAll 3 = .ok (.aload_n 0, 1) := dk_42 (dk_at dksX13_takesAll_0 3 rfl rfl)
theorem dX13_takesAll_4 : decode cX13_takesAll 4 = .ok (.getfield 9, 3) := dk_180 0 9 (dk_at dksX13_takesAll_0 4 rfl rfl)
theorem dX13_takesAll_7 : decode cX13_takesAll 7 = .ok (.bipush 43, 2) := dk_16 43 (dk_at dksX13_takesAll_0 7 rfl rfl)
theorem dX13_takesAll_9 : decode cX13_takesAll 9 = .ok (.iaload, 1) := dk_46 (dk_at dksX13_takesAll_0 9 rfl rfl)
theorem dX13_takesAll_10 : decode cX13_takesAll 10 = .ok (.if_icmp .ge 38, 3) := dk_162 0 38 (dk_at dksX13_takesAll_0 10 rfl rfl)
theorem dX13_takesAll_13 : decode cX13_takesAll 13 = .ok (.aload_n 0, 1) := dk_42 (dk_at dksX13_takesAll_0 13 rfl rfl)
theorem dX13_takesAll_14 : decode cX13_takesAll 14 = .ok (.iload_n 2, 1) := dk_28 (dk_at dksX13_takesAll_0 14 rfl rfl)
theorem dX13_takesAll_15 : decode cX13_takesAll 15 = .ok (.aload_n 0, 1) := dk_42 (dk_at dksX13_takesAll_0 15 rfl rfl)
theorem dX13_takesAll_16 : decode cX13_takesAll 16 = .ok (.iload_n 1, 1) := dk_27 (dk_at dksX13_takesAll_0 16 rfl rfl)
theorem dX13_takesAll_17 : decode cX13_takesAll 17 = .ok (.iconst 1, 1) := dk_4 (dk_at dksX13_takesAll_0 17 rfl rfl)
theorem dX13_takesAll_18 : decode cX13_takesAll 18 = .ok (.invokevirtual 104, 3) := dk_182 0 104 (dk_at dksX13_takesAll_0 18 rfl rfl)
theorem dX13_takesAll_21 : decode cX13_takesAll 21 = .ok (.invokevirtual 181, 3) := dk_182 0 181 (dk_at dksX13_takesAll_0 21 rfl rfl)
theorem dX13_takesAll_24 : decode cX13_takesAll 24 = .ok (.ifCond .eq 18, 3) := dk_153 0 18 (dk_at dksX13_takesAll_1 0 rfl rfl)
theorem dX13_takesAll_27 : decode cX13_takesAll 27 = .ok (.aload_n 0, 1) := dk_42 (dk_at dksX13_takesAll_1 3 rfl rfl)
theorem dX13_takesAll_28 : decode cX13_takesAll 28 = .ok (.iload_n 1, 1) := dk_27 (dk_at dksX13_takesAll_1 4 rfl rfl)
theorem dX13_takesAll_29 : decode cX13_takesAll 29 = .ok (.iload_n 2, 1) := dk_28 (dk_at dksX13_takesAll_1 5 rfl rfl)
theorem dX13_takesAll_30 : decode cX13_takesAll 30 = .ok (.invokevirtual 185, 3) := dk_182 0 185 (dk_at dksX13_takesAll_1 6 rfl rfl)
theorem dX13_takesAll_33 : decode cX13_takesAll 33 = .ok (.ifCond .eq 9, 3) := dk_153 0 9 (dk_at dksX13_takesAll_1 9 rfl rfl)
theorem dX13_takesAll_36 : decode cX13_takesAll 36 = .ok (.aload_n 0, 1) := dk_42 (dk_at dksX13_takesAll_1 12 rfl rfl)
theorem dX13_takesAll_37 : decode cX13_takesAll 37 = .ok (.iload_n 1, 1) := dk_27 (dk_at dksX13_takesAll_1 13 rfl rfl)
theorem dX13_takesAll_38 : decode cX13_takesAll 38 = .ok (.iload_n 2, 1) := dk_28 (dk_at dksX13_takesAll_1 14 rfl rfl)
theorem dX13_takesAll_39 : decode cX13_takesAll 39 = .ok (.invokevirtual 188, 3) := dk_182 0 188 (dk_at dksX13_takesAll_1 15 rfl rfl)
theorem dX13_takesAll_42 : decode cX13_takesAll 42 = .ok (.iinc 2 1, 3) := dk_132 2 1 (dk_at dksX13_takesAll_1 18 rfl rfl)
theorem dX13_takesAll_45 : decode cX13_takesAll 45 = .ok (.goto (-43), 3) := dk_167 255 213 (dk_at dksX13_takesAll_1 21 rfl rfl)
theorem dX13_takesAll_48 : decode cX13_takesAll 48 = .ok (.return_, 1) := dk_177 (dk_at dksX13_takesAll_2 0 rfl rfl)
abbrev cX13_ahead : ByteArray := prog_16_method_89_code
def yX13_ahead : MethodName := ⟨RX13, "ahead", "(I)I"⟩
def dkwX13_ahead_1 : List UInt8 := [184, 0, 73, 42, 42, 27, 182, 1, 14, 182, 1, 17, 172]
abbrev dktX13_ahead_1 : List UInt8 := dkwX13_ahead_1 ++ []
def dkwX13_ahead_0 : List UInt8 := [42, 27, 182, 1, 11, 61, 28, 153, 0, 9, 42, 28, 182, 0, 92, 172, 42, 180, 0, 9, 42, 180, 0, 16]
abbrev dktX13_ahead_0 : List UInt8 := dkwX13_ahead_0 ++ dktX13_ahead_1
theorem dksX13_ahead_0 : cX13_ahead.data.toList.drop 0 = dktX13_ahead_0 := by decide +kernel
theorem dksX13_ahead_1 : cX13_ahead.data.toList.drop 24 = dktX13_ahead_1 := dk_seg dksX13_ahead_0 24 rfl rfl
theorem dX13_ahead_0 : decode cX13_ahead 0 = .ok (.aload_n 0, 1) := dk_42 (dk_at dksX13_ahead_0 0 rfl rfl)
theorem dX13_ahead_1 : decode cX13_ahead 1 = .ok (.iload_n 1, 1) := dk_27 (dk_at dksX13_ahead_0 1 rfl rfl)
theorem dX13_ahead_2 : decode cX13_ahead 2 = .ok (.invokevirtual 267, 3) := dk_182 1 11 (dk_at dksX13_ahead_0 2 rfl rfl)
theorem dX13_ahead_5 : decode cX13_ahead 5 = .ok (.istore_n 2, 1) := dk_61 (dk_at dksX13_ahead_0 5 rfl rfl)
theorem dX13_ahead_6 : decode cX13_ahead 6 = .ok (.iload_n 2, 1) := dk_28 (dk_at dksX13_ahead_0 6 rfl rfl)
theorem dX13_ahead_7 : decode cX13_ahead 7 = .ok (.ifCond .eq 9, 3) := dk_153 0 9 (dk_at dksX13_ahead_0 7 rfl rfl)
theorem dX13_ahead_10 : decode cX13_ahead 10 = .ok (.aload_n 0, 1) := dk_42 (dk_at dksX13_ahead_0 10 rfl rfl)
theorem dX13_ahead_11 : decode cX13_ahead 11 = .ok (.iload_n 2, 1) := dk_28 (dk_at dksX13_ahead_0 11 rfl rfl)
theorem dX13_ahead_12 : decode cX13_ahead 12 = .ok (.invokevirtual 92, 3) := dk_182 0 92 (dk_at dksX13_ahead_0 12 rfl rfl)
theorem dX13_ahead_15 : decode cX13_ahead 15 = .ok (.ireturn, 1) := dk_172 (dk_at dksX13_ahead_0 15 rfl rfl)
theorem dX13_ahead_16 : decode cX13_ahead 16 = .ok (.aload_n 0, 1) := dk_42 (dk_at dksX13_ahead_0 16 rfl rfl)
theorem dX13_ahead_17 : decode cX13_ahead 17 = .ok (.getfield 9, 3) := dk_180 0 9 (dk_at dksX13_ahead_0 17 rfl rfl)
theorem dX13_ahead_20 : decode cX13_ahead 20 = .ok (.aload_n 0, 1) := dk_42 (dk_at dksX13_ahead_0 20 rfl rfl)
theorem dX13_ahead_21 : decode cX13_ahead 21 = .ok (.getfield 16, 3) := dk_180 0 16 (dk_at dksX13_ahead_0 21 rfl rfl)
theorem dX13_ahead_24 : decode cX13_ahead 24 = .ok (.invokestatic 73, 3) := dk_184 0 73 (dk_at dksX13_ahead_1 0 rfl rfl)
theorem dX13_ahead_27 : decode cX13_ahead 27 = .ok (.aload_n 0, 1) := dk_42 (dk_at dksX13_ahead_1 3 rfl rfl)
theorem dX13_ahead_28 : decode cX13_ahead 28 = .ok (.aload_n 0, 1) := dk_42 (dk_at dksX13_ahead_1 4 rfl rfl)
theorem dX13_ahead_29 : decode cX13_ahead 29 = .ok (.iload_n 1, 1) := dk_27 (dk_at dksX13_ahead_1 5 rfl rfl)
theorem dX13_ahead_30 : decode cX13_ahead 30 = .ok (.invokevirtual 270, 3) := dk_182 1 14 (dk_at dksX13_ahead_1 6 rfl rfl)
theorem dX13_ahead_33 : decode cX13_ahead 33 = .ok (.invokevirtual 273, 3) := dk_182 1 17 (dk_at dksX13_ahead_1 9 rfl rfl)
theorem dX13_ahead_36 : decode cX13_ahead 36 = .ok (.ireturn, 1) := dk_172 (dk_at dksX13_ahead_1 12 rfl rfl)
abbrev cX13_copyRow : ByteArray := prog_16_method_5_code
def yX13_copyRow : MethodName := ⟨RX13, "copyRow", "([I[I)V"⟩
def dkwX13_copyRow_0 : List UInt8 := [3, 61, 28, 17, 0, 138, 162, 0, 15, 43, 28, 42, 28, 46, 79, 132, 2, 1, 167, 255, 240, 177]
abbrev dktX13_copyRow_0 : List UInt8 := dkwX13_copyRow_0 ++ []
theorem dksX13_copyRow_0 : cX13_copyRow.data.toList.drop 0 = dktX13_copyRow_0 := by decide +kernel
theorem dX13_copyRow_0 : decode cX13_copyRow 0 = .ok (.iconst 0, 1) := dk_3 (dk_at dksX13_copyRow_0 0 rfl rfl)
theorem dX13_copyRow_1 : decode cX13_copyRow 1 = .ok (.istore_n 2, 1) := dk_61 (dk_at dksX13_copyRow_0 1 rfl rfl)
theorem dX13_copyRow_2 : decode cX13_copyRow 2 = .ok (.iload_n 2, 1) := dk_28 (dk_at dksX13_copyRow_0 2 rfl rfl)
theorem dX13_copyRow_3 : decode cX13_copyRow 3 = .ok (.sipush 138, 3) := dk_17 0 138 (dk_at dksX13_copyRow_0 3 rfl rfl)
theorem dX13_copyRow_6 : decode cX13_copyRow 6 = .ok (.if_icmp .ge 15, 3) := dk_162 0 15 (dk_at dksX13_copyRow_0 6 rfl rfl)
theorem dX13_copyRow_9 : decode cX13_copyRow 9 = .ok (.aload_n 1, 1) := dk_43 (dk_at dksX13_copyRow_0 9 rfl rfl)
theorem dX13_copyRow_10 : decode cX13_copyRow 10 = .ok (.iload_n 2, 1) := dk_28 (dk_at dksX13_copyRow_0 10 rfl rfl)
theorem dX13_copyRow_11 : decode cX13_copyRow 11 = .ok (.aload_n 0, 1) := dk_42 (dk_at dksX13_copyRow_0 11 rfl rfl)
theorem dX13_copyRow_12 : decode cX13_copyRow 12 = .ok (.iload_n 2, 1) := dk_28 (dk_at dksX13_copyRow_0 12 rfl rfl)
theorem dX13_copyRow_13 : decode cX13_copyRow 13 = .ok (.iaload, 1) := dk_46 (dk_at dksX13_copyRow_0 13 rfl rfl)
theorem dX13_copyRow_14 : decode cX13_copyRow 14 = .ok (.iastore, 1) := dk_79 (dk_at dksX13_copyRow_0 14 rfl rfl)
theorem dX13_copyRow_15 : decode cX13_copyRow 15 = .ok (.iinc 2 1, 3) := dk_132 2 1 (dk_at dksX13_copyRow_0 15 rfl rfl)
theorem dX13_copyRow_18 : decode cX13_copyRow 18 = .ok (.goto (-16), 3) := dk_167 255 240 (dk_at dksX13_copyRow_0 18 rfl rfl)
theorem dX13_copyRow_21 : decode cX13_copyRow 21 = .ok (.return_, 1) := dk_177 (dk_at dksX13_copyRow_0 21 rfl rfl)
abbrev cX13_putBack : ByteArray := prog_16_method_6_code
def yX13_putBack : MethodName := ⟨RX13, "putBack", "(I)I"⟩
def dkwX13_putBack_0 : List UInt8 := [42, 180, 0, 16, 42, 180, 0, 9, 184, 0, 73, 27, 172]
abbrev dktX13_putBack_0 : List UInt8 := dkwX13_putBack_0 ++ []
theorem dksX13_putBack_0 : cX13_putBack.data.toList.drop 0 = dktX13_putBack_0 := by decide +kernel
theorem dX13_putBack_0 : decode cX13_putBack 0 = .ok (.aload_n 0, 1) := dk_42 (dk_at dksX13_putBack_0 0 rfl rfl)
theorem dX13_putBack_1 : decode cX13_putBack 1 = .ok (.getfield 16, 3) := dk_180 0 16 (dk_at dksX13_putBack_0 1 rfl rfl)
theorem dX13_putBack_4 : decode cX13_putBack 4 = .ok (.aload_n 0, 1) := dk_42 (dk_at dksX13_putBack_0 4 rfl rfl)
theorem dX13_putBack_5 : decode cX13_putBack 5 = .ok (.getfield 9, 3) := dk_180 0 9 (dk_at dksX13_putBack_0 5 rfl rfl)
theorem dX13_putBack_8 : decode cX13_putBack 8 = .ok (.invokestatic 73, 3) := dk_184 0 73 (dk_at dksX13_putBack_0 8 rfl rfl)
theorem dX13_putBack_11 : decode cX13_putBack 11 = .ok (.iload_n 1, 1) := dk_27 (dk_at dksX13_putBack_0 11 rfl rfl)
theorem dX13_putBack_12 : decode cX13_putBack 12 = .ok (.ireturn, 1) := dk_172 (dk_at dksX13_putBack_0 12 rfl rfl)
abbrev cX13_seed : ByteArray := prog_16_method_90_code
def yX13_seed : MethodName := ⟨RX13, "seed", "(I)I"⟩
def dkwX13_seed_0 : List UInt8 := [42, 16, 45, 27, 182, 0, 133, 172]
abbrev dktX13_seed_0 : List UInt8 := dkwX13_seed_0 ++ []
theorem dksX13_seed_0 : cX13_seed.data.toList.drop 0 = dktX13_seed_0 := by decide +kernel
theorem dX13_seed_0 : decode cX13_seed 0 = .ok (.aload_n 0, 1) := dk_42 (dk_at dksX13_seed_0 0 rfl rfl)
theorem dX13_seed_1 : decode cX13_seed 1 = .ok (.bipush 45, 2) := dk_16 45 (dk_at dksX13_seed_0 1 rfl rfl)
theorem dX13_seed_3 : decode cX13_seed 3 = .ok (.iload_n 1, 1) := dk_27 (dk_at dksX13_seed_0 3 rfl rfl)
theorem dX13_seed_4 : decode cX13_seed 4 = .ok (.invokevirtual 133, 3) := dk_182 0 133 (dk_at dksX13_seed_0 4 rfl rfl)
theorem dX13_seed_7 : decode cX13_seed 7 = .ok (.ireturn, 1) := dk_172 (dk_at dksX13_seed_0 7 rfl rfl)
abbrev cX13_feed : ByteArray := prog_16_method_91_code
def yX13_feed : MethodName := ⟨RX13, "feed", "(II)I"⟩
def dkwX13_feed_3 : List UInt8 := [132, 3, 255, 167, 255, 220, 42, 180, 1, 20, 172]
abbrev dktX13_feed_3 : List UInt8 := dkwX13_feed_3 ++ []
def dkwX13_feed_2 : List UInt8 := [180, 1, 20, 27, 16, 8, 29, 104, 122, 17, 0, 255, 126, 79, 42, 89, 180, 1, 20, 4, 96, 181, 1, 20]
abbrev dktX13_feed_2 : List UInt8 := dkwX13_feed_2 ++ dktX13_feed_3
def dkwX13_feed_1 : List UInt8 := [164, 0, 10, 42, 18, 96, 182, 0, 92, 172, 28, 4, 100, 62, 29, 155, 0, 38, 42, 180, 0, 34, 42]
abbrev dktX13_feed_1 : List UInt8 := dkwX13_feed_1 ++ dktX13_feed_2
def dkwX13_feed_0 : List UInt8 := [28, 4, 7, 184, 0, 77, 154, 0, 10, 42, 18, 72, 182, 0, 92, 172, 42, 180, 1, 20, 28, 96, 16, 120]
abbrev dktX13_feed_0 : List UInt8 := dkwX13_feed_0 ++ dktX13_feed_1
theorem dksX13_feed_0 : cX13_feed.data.toList.drop 0 = dktX13_feed_0 := by decide +kernel
theorem dksX13_feed_1 : cX13_feed.data.toList.drop 24 = dktX13_feed_1 := dk_seg dksX13_feed_0 24 rfl rfl
theorem dksX13_feed_2 : cX13_feed.data.toList.drop 47 = dktX13_feed_2 := dk_seg dksX13_feed_1 23 rfl rfl
theorem dksX13_feed_3 : cX13_feed.data.toList.drop 71 = dktX13_feed_3 := dk_seg dksX13_feed_2 24 rfl rfl
theorem dX13_feed_0 : decode cX13_feed 0 = .ok (.iload_n 2, 1) := dk_28 (dk_at dksX13_feed_0 0 rfl rfl)
theorem dX13_feed_1 : decode cX13_feed 1 = .ok (.iconst 1, 1) := dk_4 (dk_at dksX13_feed_0 1 rfl rfl)
theorem dX13_feed_2 : decode cX13_feed 2 = .ok (.iconst 4, 1) := dk_7 (dk_at dksX13_feed_0 2 rfl rfl)
theorem dX13_feed_3 : decode cX13_feed 3 = .ok (.invokestatic 77, 3) := dk_184 0 77 (dk_at dksX13_feed_0 3 rfl rfl)
theorem dX13_feed_6 : decode cX13_feed 6 = .ok (.ifCond .ne 10, 3) := dk_154 0 10 (dk_at dksX13_feed_0 6 rfl rfl)
theorem dX13_feed_9 : decode cX13_feed 9 = .ok (.aload_n 0, 1) := dk_42 (dk_at dksX13_feed_0 9 rfl rfl)
theorem dX13_feed_10 : decode cX13_feed 10 = .ok (.ldc 72, 2) := dk_18 72 (dk_at dksX13_feed_0 10 rfl rfl)
theorem dX13_feed_12 : decode cX13_feed 12 = .ok (.invokevirtual 92, 3) := dk_182 0 92 (dk_at dksX13_feed_0 12 rfl rfl)
theorem dX13_feed_15 : decode cX13_feed 15 = .ok (.ireturn, 1) := dk_172 (dk_at dksX13_feed_0 15 rfl rfl)
theorem dX13_feed_16 : decode cX13_feed 16 = .ok (.aload_n 0, 1) := dk_42 (dk_at dksX13_feed_0 16 rfl rfl)
theorem dX13_feed_17 : decode cX13_feed 17 = .ok (.getfield 276, 3) := dk_180 1 20 (dk_at dksX13_feed_0 17 rfl rfl)
theorem dX13_feed_20 : decode cX13_feed 20 = .ok (.iload_n 2, 1) := dk_28 (dk_at dksX13_feed_0 20 rfl rfl)
theorem dX13_feed_21 : decode cX13_feed 21 = .ok (.iadd, 1) := dk_96 (dk_at dksX13_feed_0 21 rfl rfl)
theorem dX13_feed_22 : decode cX13_feed 22 = .ok (.bipush 120, 2) := dk_16 120 (dk_at dksX13_feed_0 22 rfl rfl)
theorem dX13_feed_24 : decode cX13_feed 24 = .ok (.if_icmp .le 10, 3) := dk_164 0 10 (dk_at dksX13_feed_1 0 rfl rfl)
theorem dX13_feed_27 : decode cX13_feed 27 = .ok (.aload_n 0, 1) := dk_42 (dk_at dksX13_feed_1 3 rfl rfl)
theorem dX13_feed_28 : decode cX13_feed 28 = .ok (.ldc 96, 2) := dk_18 96 (dk_at dksX13_feed_1 4 rfl rfl)
theorem dX13_feed_30 : decode cX13_feed 30 = .ok (.invokevirtual 92, 3) := dk_182 0 92 (dk_at dksX13_feed_1 6 rfl rfl)
theorem dX13_feed_33 : decode cX13_feed 33 = .ok (.ireturn, 1) := dk_172 (dk_at dksX13_feed_1 9 rfl rfl)
theorem dX13_feed_34 : decode cX13_feed 34 = .ok (.iload_n 2, 1) := dk_28 (dk_at dksX13_feed_1 10 rfl rfl)
theorem dX13_feed_35 : decode cX13_feed 35 = .ok (.iconst 1, 1) := dk_4 (dk_at dksX13_feed_1 11 rfl rfl)
theorem dX13_feed_36 : decode cX13_feed 36 = .ok (.isub, 1) := dk_100 (dk_at dksX13_feed_1 12 rfl rfl)
theorem dX13_feed_37 : decode cX13_feed 37 = .ok (.istore_n 3, 1) := dk_62 (dk_at dksX13_feed_1 13 rfl rfl)
theorem dX13_feed_38 : decode cX13_feed 38 = .ok (.iload_n 3, 1) := dk_29 (dk_at dksX13_feed_1 14 rfl rfl)
theorem dX13_feed_39 : decode cX13_feed 39 = .ok (.ifCond .lt 38, 3) := dk_155 0 38 (dk_at dksX13_feed_1 15 rfl rfl)
theorem dX13_feed_42 : decode cX13_feed 42 = .ok (.aload_n 0, 1) := dk_42 (dk_at dksX13_feed_1 18 rfl rfl)
theorem dX13_feed_43 : decode cX13_feed 43 = .ok (.getfield 34, 3) := dk_180 0 34 (dk_at dksX13_feed_1 19 rfl rfl)
theorem dX13_feed_46 : decode cX13_feed 46 = .ok (.aload_n 0, 1) := dk_42 (dk_at dksX13_feed_1 22 rfl rfl)
theorem dX13_feed_47 : decode cX13_feed 47 = .ok (.getfield 276, 3) := dk_180 1 20 (dk_at dksX13_feed_2 0 rfl rfl)
theorem dX13_feed_50 : decode cX13_feed 50 = .ok (.iload_n 1, 1) := dk_27 (dk_at dksX13_feed_2 3 rfl rfl)
theorem dX13_feed_51 : decode cX13_feed 51 = .ok (.bipush 8, 2) := dk_16 8 (dk_at dksX13_feed_2 4 rfl rfl)
theorem dX13_feed_53 : decode cX13_feed 53 = .ok (.iload_n 3, 1) := dk_29 (dk_at dksX13_feed_2 6 rfl rfl)
theorem dX13_feed_54 : decode cX13_feed 54 = .ok (.imul, 1) := dk_104 (dk_at dksX13_feed_2 7 rfl rfl)
theorem dX13_feed_55 : decode cX13_feed 55 = .ok (.ishr, 1) := dk_122 (dk_at dksX13_feed_2 8 rfl rfl)
theorem dX13_feed_56 : decode cX13_feed 56 = .ok (.sipush 255, 3) := dk_17 0 255 (dk_at dksX13_feed_2 9 rfl rfl)
theorem dX13_feed_59 : decode cX13_feed 59 = .ok (.iand, 1) := dk_126 (dk_at dksX13_feed_2 12 rfl rfl)
theorem dX13_feed_60 : decode cX13_feed 60 = .ok (.iastore, 1) := dk_79 (dk_at dksX13_feed_2 13 rfl rfl)
theorem dX13_feed_61 : decode cX13_feed 61 = .ok (.aload_n 0, 1) := dk_42 (dk_at dksX13_feed_2 14 rfl rfl)
theorem dX13_feed_62 : decode cX13_feed 62 = .ok (.dup, 1) := dk_89 (dk_at dksX13_feed_2 15 rfl rfl)
theorem dX13_feed_63 : decode cX13_feed 63 = .ok (.getfield 276, 3) := dk_180 1 20 (dk_at dksX13_feed_2 16 rfl rfl)
theorem dX13_feed_66 : decode cX13_feed 66 = .ok (.iconst 1, 1) := dk_4 (dk_at dksX13_feed_2 19 rfl rfl)
theorem dX13_feed_67 : decode cX13_feed 67 = .ok (.iadd, 1) := dk_96 (dk_at dksX13_feed_2 20 rfl rfl)
theorem dX13_feed_68 : decode cX13_feed 68 = .ok (.putfield 276, 3) := dk_181 1 20 (dk_at dksX13_feed_2 21 rfl rfl)
theorem dX13_feed_71 : decode cX13_feed 71 = .ok (.iinc 3 (-1), 3) := dk_132 3 255 (dk_at dksX13_feed_3 0 rfl rfl)
theorem dX13_feed_74 : decode cX13_feed 74 = .ok (.goto (-36), 3) := dk_167 255 220 (dk_at dksX13_feed_3 3 rfl rfl)
theorem dX13_feed_77 : decode cX13_feed 77 = .ok (.aload_n 0, 1) := dk_42 (dk_at dksX13_feed_3 6 rfl rfl)
theorem dX13_feed_78 : decode cX13_feed 78 = .ok (.getfield 276, 3) := dk_180 1 20 (dk_at dksX13_feed_3 7 rfl rfl)
theorem dX13_feed_81 : decode cX13_feed 81 = .ok (.ireturn, 1) := dk_172 (dk_at dksX13_feed_3 10 rfl rfl)
abbrev cX13_wipe : ByteArray := prog_16_method_92_code
def yX13_wipe : MethodName := ⟨RX13, "wipe", "()I"⟩
def dkwX13_wipe_0 : List UInt8 := [42, 180, 1, 20, 60, 42, 3, 181, 1, 20, 27, 172]
abbrev dktX13_wipe_0 : List UInt8 := dkwX13_wipe_0 ++ []
theorem dksX13_wipe_0 : cX13_wipe.data.toList.drop 0 = dktX13_wipe_0 := by decide +kernel
theorem dX13_wipe_0 : decode cX13_wipe 0 = .ok (.aload_n 0, 1) := dk_42 (dk_at dksX13_wipe_0 0 rfl rfl)
theorem dX13_wipe_1 : decode cX13_wipe 1 = .ok (.getfield 276, 3) := dk_180 1 20 (dk_at dksX13_wipe_0 1 rfl rfl)
theorem dX13_wipe_4 : decode cX13_wipe 4 = .ok (.istore_n 1, 1) := dk_60 (dk_at dksX13_wipe_0 4 rfl rfl)
theorem dX13_wipe_5 : decode cX13_wipe 5 = .ok (.aload_n 0, 1) := dk_42 (dk_at dksX13_wipe_0 5 rfl rfl)
theorem dX13_wipe_6 : decode cX13_wipe 6 = .ok (.iconst 0, 1) := dk_3 (dk_at dksX13_wipe_0 6 rfl rfl)
theorem dX13_wipe_7 : decode cX13_wipe 7 = .ok (.putfield 276, 3) := dk_181 1 20 (dk_at dksX13_wipe_0 7 rfl rfl)
theorem dX13_wipe_10 : decode cX13_wipe 10 = .ok (.iload_n 1, 1) := dk_27 (dk_at dksX13_wipe_0 10 rfl rfl)
theorem dX13_wipe_11 : decode cX13_wipe 11 = .ok (.ireturn, 1) := dk_172 (dk_at dksX13_wipe_0 11 rfl rfl)
abbrev cX13_text : ByteArray := prog_16_method_104_code
def yX13_text : MethodName := ⟨RX13, "text", "()I"⟩
def dkwX13_text_7 : List UInt8 := [132, 2, 1, 167, 255, 227, 27, 172]
abbrev dktX13_text_7 : List UInt8 := dkwX13_text_7 ++ []
def dkwX13_text_6 : List UInt8 := [180, 1, 57, 162, 0, 27, 27, 42, 8, 28, 104, 182, 1, 110, 156, 0, 7, 3, 167, 0, 4, 4, 96, 60]
abbrev dktX13_text_6 : List UInt8 := dkwX13_text_6 ++ dktX13_text_7
def dkwX13_text_5 : List UInt8 := [181, 1, 20, 42, 180, 1, 46, 153, 0, 10, 2, 42, 180, 1, 26, 100, 172, 3, 60, 3, 61, 28, 42]
abbrev dktX13_text_5 : List UInt8 := dkwX13_text_5 ++ dktX13_text_6
def dkwX13_text_4 : List UInt8 := [182, 1, 107, 167, 255, 218, 42, 42, 180, 1, 35, 154, 0, 7, 4, 167, 0, 4, 3, 182, 1, 53, 42, 3]
abbrev dktX13_text_4 : List UInt8 := dkwX13_text_4 ++ dktX13_text_5
def dkwX13_text_3 : List UInt8 := [160, 0, 29, 42, 180, 0, 34, 42, 180, 1, 26, 46, 16, 59, 160, 0, 15, 42, 4, 182, 1, 53, 42]
abbrev dktX13_text_3 : List UInt8 := dkwX13_text_3 ++ dktX13_text_4
def dkwX13_text_2 : List UInt8 := [181, 1, 104, 42, 182, 1, 50, 42, 182, 1, 107, 42, 180, 1, 46, 154, 0, 37, 42, 180, 1, 35, 6]
abbrev dktX13_text_2 : List UInt8 := dkwX13_text_2 ++ dktX13_text_3
def dkwX13_text_1 : List UInt8 := [181, 1, 67, 42, 42, 180, 0, 9, 16, 43, 46, 181, 1, 95, 42, 42, 180, 0, 9, 16, 44, 46]
abbrev dktX13_text_1 : List UInt8 := dkwX13_text_1 ++ dktX13_text_2
def dkwX13_text_0 : List UInt8 := [42, 3, 181, 1, 23, 42, 3, 181, 1, 46, 42, 3, 181, 1, 57, 42, 42, 180, 0, 9, 16, 42, 46]
abbrev dktX13_text_0 : List UInt8 := dkwX13_text_0 ++ dktX13_text_1
theorem dksX13_text_0 : cX13_text.data.toList.drop 0 = dktX13_text_0 := by decide +kernel
theorem dksX13_text_1 : cX13_text.data.toList.drop 23 = dktX13_text_1 := dk_seg dksX13_text_0 23 rfl rfl
theorem dksX13_text_2 : cX13_text.data.toList.drop 45 = dktX13_text_2 := dk_seg dksX13_text_1 22 rfl rfl
theorem dksX13_text_3 : cX13_text.data.toList.drop 68 = dktX13_text_3 := dk_seg dksX13_text_2 23 rfl rfl
theorem dksX13_text_4 : cX13_text.data.toList.drop 91 = dktX13_text_4 := dk_seg dksX13_text_3 23 rfl rfl
theorem dksX13_text_5 : cX13_text.data.toList.drop 115 = dktX13_text_5 := dk_seg dksX13_text_4 24 rfl rfl
theorem dksX13_text_6 : cX13_text.data.toList.drop 138 = dktX13_text_6 := dk_seg dksX13_text_5 23 rfl rfl
theorem dksX13_text_7 : cX13_text.data.toList.drop 162 = dktX13_text_7 := dk_seg dksX13_text_6 24 rfl rfl
theorem dX13_text_0 : decode cX13_text 0 = .ok (.aload_n 0, 1) := dk_42 (dk_at dksX13_text_0 0 rfl rfl)
theorem dX13_text_1 : decode cX13_text 1 = .ok (.iconst 0, 1) := dk_3 (dk_at dksX13_text_0 1 rfl rfl)
theorem dX13_text_2 : decode cX13_text 2 = .ok (.putfield 279, 3) := dk_181 1 23 (dk_at dksX13_text_0 2 rfl rfl)
theorem dX13_text_5 : decode cX13_text 5 = .ok (.aload_n 0, 1) := dk_42 (dk_at dksX13_text_0 5 rfl rfl)
theorem dX13_text_6 : decode cX13_text 6 = .ok (.iconst 0, 1) := dk_3 (dk_at dksX13_text_0 6 rfl rfl)
theorem dX13_text_7 : decode cX13_text 7 = .ok (.putfield 302, 3) := dk_181 1 46 (dk_at dksX13_text_0 7 rfl rfl)
theorem dX13_text_10 : decode cX13_text 10 = .ok (.aload_n 0, 1) := dk_42 (dk_at dksX13_text_0 10 rfl rfl)
theorem dX13_text_11 : decode cX13_text 11 = .ok (.iconst 0, 1) := dk_3 (dk_at dksX13_text_0 11 rfl rfl)
theorem dX13_text_12 : decode cX13_text 12 = .ok (.putfield 313, 3) := dk_181 1 57 (dk_at dksX13_text_0 12 rfl rfl)
theorem dX13_text_15 : decode cX13_text 15 = .ok (.aload_n 0, 1) := dk_42 (dk_at dksX13_text_0 15 rfl rfl)
theorem dX13_text_16 : decode cX13_text 16 = .ok (.aload_n 0, 1) := dk_42 (dk_at dksX13_text_0 16 rfl rfl)
theorem dX13_text_17 : decode cX13_text 17 = .ok (.getfield 9, 3) := dk_180 0 9 (dk_at dksX13_text_0 17 rfl rfl)
theorem dX13_text_20 : decode cX13_text 20 = .ok (.bipush 42, 2) := dk_16 42 (dk_at dksX13_text_0 20 rfl rfl)
theorem dX13_text_22 : decode cX13_text 22 = .ok (.iaload, 1) := dk_46 (dk_at dksX13_text_0 22 rfl rfl)
theorem dX13_text_23 : decode cX13_text 23 = .ok (.putfield 323, 3) := dk_181 1 67 (dk_at dksX13_text_1 0 rfl rfl)
theorem dX13_text_26 : decode cX13_text 26 = .ok (.aload_n 0, 1) := dk_42 (dk_at dksX13_text_1 3 rfl rfl)
theorem dX13_text_27 : decode cX13_text 27 = .ok (.aload_n 0, 1) := dk_42 (dk_at dksX13_text_1 4 rfl rfl)
theorem dX13_text_28 : decode cX13_text 28 = .ok (.getfield 9, 3) := dk_180 0 9 (dk_at dksX13_text_1 5 rfl rfl)
theorem dX13_text_31 : decode cX13_text 31 = .ok (.bipush 43, 2) := dk_16 43 (dk_at dksX13_text_1 8 rfl rfl)
theorem dX13_text_33 : decode cX13_text 33 = .ok (.iaload, 1) := dk_46 (dk_at dksX13_text_1 10 rfl rfl)
theorem dX13_text_34 : decode cX13_text 34 = .ok (.putfield 351, 3) := dk_181 1 95 (dk_at dksX13_text_1 11 rfl rfl)
theorem dX13_text_37 : decode cX13_text 37 = .ok (.aload_n 0, 1) := dk_42 (dk_at dksX13_text_1 14 rfl rfl)
theorem dX13_text_38 : decode cX13_text 38 = .ok (.aload_n 0, 1) := dk_42 (dk_at dksX13_text_1 15 rfl rfl)
theorem dX13_text_39 : decode cX13_text 39 = .ok (.getfield 9, 3) := dk_180 0 9 (dk_at dksX13_text_1 16 rfl rfl)
theorem dX13_text_42 : decode cX13_text 42 = .ok (.bipush 44, 2) := dk_16 44 (dk_at dksX13_text_1 19 rfl rfl)
theorem dX13_text_44 : decode cX13_text 44 = .ok (.iaload, 1) := dk_46 (dk_at dksX13_text_1 21 rfl rfl)
theorem dX13_text_45 : decode cX13_text 45 = .ok (.putfield 360, 3) := dk_181 1 104 (dk_at dksX13_text_2 0 rfl rfl)
theorem dX13_text_48 : decode cX13_text 48 = .ok (.aload_n 0, 1) := dk_42 (dk_at dksX13_text_2 3 rfl rfl)
theorem dX13_text_49 : decode cX13_text 49 = .ok (.invokevirtual 306, 3) := dk_182 1 50 (dk_at dksX13_text_2 4 rfl rfl)
theorem dX13_text_52 : decode cX13_text 52 = .ok (.aload_n 0, 1) := dk_42 (dk_at dksX13_text_2 7 rfl rfl)
theorem dX13_text_53 : decode cX13_text 53 = .ok (.invokevirtual 363, 3) := dk_182 1 107 (dk_at dksX13_text_2 8 rfl rfl)
theorem dX13_text_56 : decode cX13_text 56 = .ok (.aload_n 0, 1) := dk_42 (dk_at dksX13_text_2 11 rfl rfl)
theorem dX13_text_57 : decode cX13_text 57 = .ok (.getfield 302, 3) := dk_180 1 46 (dk_at dksX13_text_2 12 rfl rfl)
theorem dX13_text_60 : decode cX13_text 60 = .ok (.ifCond .ne 37, 3) := dk_154 0 37 (dk_at dksX13_text_2 15 rfl rfl)
theorem dX13_text_63 : decode cX13_text 63 = .ok (.aload_n 0, 1) := dk_42 (dk_at dksX13_text_2 18 rfl rfl)
theorem dX13_text_64 : decode cX13_text 64 = .ok (.getfield 291, 3) := dk_180 1 35 (dk_at dksX13_text_2 19 rfl rfl)
theorem dX13_text_67 : decode cX13_text 67 = .ok (.iconst 3, 1) := dk_6 (dk_at dksX13_text_2 22 rfl rfl)
theorem dX13_text_68 : decode cX13_text 68 = .ok (.if_icmp .ne 29, 3) := dk_160 0 29 (dk_at dksX13_text_3 0 rfl rfl)
theorem dX13_text_71 : decode cX13_text 71 = .ok (.aload_n 0, 1) := dk_42 (dk_at dksX13_text_3 3 rfl rfl)
theorem dX13_text_72 : decode cX13_text 72 = .ok (.getfield 34, 3) := dk_180 0 34 (dk_at dksX13_text_3 4 rfl rfl)
theorem dX13_text_75 : decode cX13_text 75 = .ok (.aload_n 0, 1) := dk_42 (dk_at dksX13_text_3 7 rfl rfl)
theorem dX13_text_76 : decode cX13_text 76 = .ok (.getfield 282, 3) := dk_180 1 26 (dk_at dksX13_text_3 8 rfl rfl)
theorem dX13_text_79 : decode cX13_text 79 = .ok (.iaload, 1) := dk_46 (dk_at dksX13_text_3 11 rfl rfl)
theorem dX13_text_80 : decode cX13_text 80 = .ok (.bipush 59, 2) := dk_16 59 (dk_at dksX13_text_3 12 rfl rfl)
theorem dX13_text_82 : decode cX13_text 82 = .ok (.if_icmp .ne 15, 3) := dk_160 0 15 (dk_at dksX13_text_3 14 rfl rfl)
theorem dX13_text_85 : decode cX13_text 85 = .ok (.aload_n 0, 1) := dk_42 (dk_at dksX13_text_3 17 rfl rfl)
theorem dX13_text_86 : decode cX13_text 86 = .ok (.iconst 1, 1) := dk_4 (dk_at dksX13_text_3 18 rfl rfl)
theorem dX13_text_87 : decode cX13_text 87 = .ok (.invokevirtual 309, 3) := dk_182 1 53 (dk_at dksX13_text_3 19 rfl rfl)
theorem dX13_text_90 : decode cX13_text 90 = .ok (.aload_n 0, 1) := dk_42 (dk_at dksX13_text_3 22 rfl rfl)
theorem dX13_text_91 : decode cX13_text 91 = .ok (.invokevirtual 363, 3) := dk_182 1 107 (dk_at dksX13_text_4 0 rfl rfl)
theorem dX13_text_94 : decode cX13_text 94 = .ok (.goto (-38), 3) := dk_167 255 218 (dk_at dksX13_text_4 3 rfl rfl)
theorem dX13_text_97 : decode cX13_text 97 = .ok (.aload_n 0, 1) := dk_42 (dk_at dksX13_text_4 6 rfl rfl)
theorem dX13_text_98 : decode cX13_text 98 = .ok (.aload_n 0, 1) := dk_42 (dk_at dksX13_text_4 7 rfl rfl)
theorem dX13_text_99 : decode cX13_text 99 = .ok (.getfield 291, 3) := dk_180 1 35 (dk_at dksX13_text_4 8 rfl rfl)
theorem dX13_text_102 : decode cX13_text 102 = .ok (.ifCond .ne 7, 3) := dk_154 0 7 (dk_at dksX13_text_4 11 rfl rfl)
theorem dX13_text_105 : decode cX13_text 105 = .ok (.iconst 1, 1) := dk_4 (dk_at dksX13_text_4 14 rfl rfl)
theorem dX13_text_106 : decode cX13_text 106 = .ok (.goto 4, 3) := dk_167 0 4 (dk_at dksX13_text_4 15 rfl rfl)
theorem dX13_text_109 : decode cX13_text 109 = .ok (.iconst 0, 1) := dk_3 (dk_at dksX13_text_4 18 rfl rfl)
theorem dX13_text_110 : decode cX13_text 110 = .ok (.invokevirtual 309, 3) := dk_182 1 53 (dk_at dksX13_text_4 19 rfl rfl)
theorem dX13_text_113 : decode cX13_text 113 = .ok (.aload_n 0, 1) := dk_42 (dk_at dksX13_text_4 22 rfl rfl)
theorem dX13_text_114 : decode cX13_text 114 = .ok (.iconst 0, 1) := dk_3 (dk_at dksX13_text_4 23 rfl rfl)
theorem dX13_text_115 : decode cX13_text 115 = .ok (.putfield 276, 3) := dk_181 1 20 (dk_at dksX13_text_5 0 rfl rfl)
theorem dX13_text_118 : decode cX13_text 118 = .ok (.aload_n 0, 1) := dk_42 (dk_at dksX13_text_5 3 rfl rfl)
theorem dX13_text_119 : decode cX13_text 119 = .ok (.getfield 302, 3) := dk_180 1 46 (dk_at dksX13_text_5 4 rfl rfl)
theorem dX13_text_122 : decode cX13_text 122 = .ok (.ifCond .eq 10, 3) := dk_153 0 10 (dk_at dksX13_text_5 7 rfl rfl)
theorem dX13_text_125 : decode cX13_text 125 = .ok (.iconst (-1), 1) := dk_2 (dk_at dksX13_text_5 10 rfl rfl)
theorem dX13_text_126 : decode cX13_text 126 = .ok (.aload_n 0, 1) := dk_42 (dk_at dksX13_text_5 11 rfl rfl)
theorem dX13_text_127 : decode cX13_text 127 = .ok (.getfield 282, 3) := dk_180 1 26 (dk_at dksX13_text_5 12 rfl rfl)
theorem dX13_text_130 : decode cX13_text 130 = .ok (.isub, 1) := dk_100 (dk_at dksX13_text_5 15 rfl rfl)
theorem dX13_text_131 : decode cX13_text 131 = .ok (.ireturn, 1) := dk_172 (dk_at dksX13_text_5 16 rfl rfl)
theorem dX13_text_132 : decode cX13_text 132 = .ok (.iconst 0, 1) := dk_3 (dk_at dksX13_text_5 17 rfl rfl)
theorem dX13_text_133 : decode cX13_text 133 = .ok (.istore_n 1, 1) := dk_60 (dk_at dksX13_text_5 18 rfl rfl)
theorem dX13_text_134 : decode cX13_text 134 = .ok (.iconst 0, 1) := dk_3 (dk_at dksX13_text_5 19 rfl rfl)
theorem dX13_text_135 : decode cX13_text 135 = .ok (.istore_n 2, 1) := dk_61 (dk_at dksX13_text_5 20 rfl rfl)
theorem dX13_text_136 : decode cX13_text 136 = .ok (.iload_n 2, 1) := dk_28 (dk_at dksX13_text_5 21 rfl rfl)
theorem dX13_text_137 : decode cX13_text 137 = .ok (.aload_n 0, 1) := dk_42 (dk_at dksX13_text_5 22 rfl rfl)
theorem dX13_text_138 : decode cX13_text 138 = .ok (.getfield 313, 3) := dk_180 1 57 (dk_at dksX13_text_6 0 rfl rfl)
theorem dX13_text_141 : decode cX13_text 141 = .ok (.if_icmp .ge 27, 3) := dk_162 0 27 (dk_at dksX13_text_6 3 rfl rfl)
theorem dX13_text_144 : decode cX13_text 144 = .ok (.iload_n 1, 1) := dk_27 (dk_at dksX13_text_6 6 rfl rfl)
theorem dX13_text_145 : decode cX13_text 145 = .ok (.aload_n 0, 1) := dk_42 (dk_at dksX13_text_6 7 rfl rfl)
theorem dX13_text_146 : decode cX13_text 146 = .ok (.iconst 5, 1) := dk_8 (dk_at dksX13_text_6 8 rfl rfl)
theorem dX13_text_147 : decode cX13_text 147 = .ok (.iload_n 2, 1) := dk_28 (dk_at dksX13_text_6 9 rfl rfl)
theorem dX13_text_148 : decode cX13_text 148 = .ok (.imul, 1) := dk_104 (dk_at dksX13_text_6 10 rfl rfl)
theorem dX13_text_149 : decode cX13_text 149 = .ok (.invokevirtual 366, 3) := dk_182 1 110 (dk_at dksX13_text_6 11 rfl rfl)
theorem dX13_text_152 : decode cX13_text 152 = .ok (.ifCond .ge 7, 3) := dk_156 0 7 (dk_at dksX13_text_6 14 rfl rfl)
theorem dX13_text_155 : decode cX13_text 155 = .ok (.iconst 0, 1) := dk_3 (dk_at dksX13_text_6 17 rfl rfl)
theorem dX13_text_156 : decode cX13_text 156 = .ok (.goto 4, 3) := dk_167 0 4 (dk_at dksX13_text_6 18 rfl rfl)
theorem dX13_text_159 : decode cX13_text 159 = .ok (.iconst 1, 1) := dk_4 (dk_at dksX13_text_6 21 rfl rfl)
theorem dX13_text_160 : decode cX13_text 160 = .ok (.iadd, 1) := dk_96 (dk_at dksX13_text_6 22 rfl rfl)
theorem dX13_text_161 : decode cX13_text 161 = .ok (.istore_n 1, 1) := dk_60 (dk_at dksX13_text_6 23 rfl rfl)
theorem dX13_text_162 : decode cX13_text 162 = .ok (.iinc 2 1, 3) := dk_132 2 1 (dk_at dksX13_text_7 0 rfl rfl)
theorem dX13_text_165 : decode cX13_text 165 = .ok (.goto (-29), 3) := dk_167 255 227 (dk_at dksX13_text_7 3 rfl rfl)
theorem dX13_text_168 : decode cX13_text 168 = .ok (.iload_n 1, 1) := dk_27 (dk_at dksX13_text_7 6 rfl rfl)
theorem dX13_text_169 : decode cX13_text 169 = .ok (.ireturn, 1) := dk_172 (dk_at dksX13_text_7 7 rfl rfl)
abbrev cX13_next : ByteArray := prog_16_method_94_code
def yX13_next : MethodName := ⟨RX13, "next", "()V"⟩
def dkwX13_next_8 : List UInt8 := [181, 1, 23, 167, 255, 199, 42, 6, 181, 1, 35, 42, 89, 180, 1, 23, 4, 96, 181, 1, 23, 177]
abbrev dktX13_next_8 : List UInt8 := dkwX13_next_8 ++ []
def dkwX13_next_7 : List UInt8 := [180, 1, 23, 182, 1, 29, 96, 16, 48, 100, 184, 0, 136, 181, 1, 32, 42, 89, 180, 1, 23, 4, 96]
abbrev dktX13_next_7 : List UInt8 := dkwX13_next_7 ++ dktX13_next_8
def dkwX13_next_6 : List UInt8 := [16, 48, 16, 57, 184, 0, 77, 153, 0, 60, 42, 17, 39, 16, 16, 10, 42, 180, 1, 32, 104, 42, 42]
abbrev dktX13_next_6 : List UInt8 := dkwX13_next_6 ++ dktX13_next_7
def dkwX13_next_5 : List UInt8 := [16, 48, 16, 57, 184, 0, 77, 153, 0, 68, 42, 5, 181, 1, 35, 42, 42, 180, 1, 23, 182, 1, 29]
abbrev dktX13_next_5 : List UInt8 := dkwX13_next_5 ++ dktX13_next_6
def dkwX13_next_4 : List UInt8 := [16, 97, 16, 122, 184, 0, 77, 153, 0, 107, 42, 89, 180, 1, 23, 4, 96, 181, 1, 23, 167, 255, 228, 27]
abbrev dktX13_next_4 : List UInt8 := dkwX13_next_4 ++ dktX13_next_5
def dkwX13_next_3 : List UInt8 := [16, 97, 16, 122, 184, 0, 77, 153, 0, 39, 42, 4, 181, 1, 35, 42, 42, 180, 1, 23, 182, 1, 29]
abbrev dktX13_next_3 : List UInt8 := dkwX13_next_3 ++ dktX13_next_4
def dkwX13_next_2 : List UInt8 := [180, 1, 26, 181, 1, 23, 42, 3, 181, 1, 32, 27, 156, 0, 11, 42, 3, 181, 1, 35, 167, 0, 141, 27]
abbrev dktX13_next_2 : List UInt8 := dkwX13_next_2 ++ dktX13_next_3
def dkwX13_next_1 : List UInt8 := [180, 1, 26, 4, 96, 181, 1, 26, 167, 255, 233, 42, 42, 180, 1, 26, 182, 1, 29, 60, 42, 42]
abbrev dktX13_next_1 : List UInt8 := dkwX13_next_1 ++ dktX13_next_2
def dkwX13_next_0 : List UInt8 := [42, 42, 180, 1, 23, 181, 1, 26, 42, 42, 180, 1, 26, 182, 1, 29, 16, 32, 160, 0, 16, 42, 89]
abbrev dktX13_next_0 : List UInt8 := dkwX13_next_0 ++ dktX13_next_1
theorem dksX13_next_0 : cX13_next.data.toList.drop 0 = dktX13_next_0 := by decide +kernel
theorem dksX13_next_1 : cX13_next.data.toList.drop 23 = dktX13_next_1 := dk_seg dksX13_next_0 23 rfl rfl
theorem dksX13_next_2 : cX13_next.data.toList.drop 45 = dktX13_next_2 := dk_seg dksX13_next_1 22 rfl rfl
theorem dksX13_next_3 : cX13_next.data.toList.drop 69 = dktX13_next_3 := dk_seg dksX13_next_2 24 rfl rfl
theorem dksX13_next_4 : cX13_next.data.toList.drop 92 = dktX13_next_4 := dk_seg dksX13_next_3 23 rfl rfl
theorem dksX13_next_5 : cX13_next.data.toList.drop 116 = dktX13_next_5 := dk_seg dksX13_next_4 24 rfl rfl
theorem dksX13_next_6 : cX13_next.data.toList.drop 139 = dktX13_next_6 := dk_seg dksX13_next_5 23 rfl rfl
theorem dksX13_next_7 : cX13_next.data.toList.drop 162 = dktX13_next_7 := dk_seg dksX13_next_6 23 rfl rfl
theorem dksX13_next_8 : cX13_next.data.toList.drop 185 = dktX13_next_8 := dk_seg dksX13_next_7 23 rfl rfl
theorem dX13_next_0 : decode cX13_next 0 = .ok (.aload_n 0, 1) := dk_42 (dk_at dksX13_next_0 0 rfl rfl)
theorem dX13_next_1 : decode cX13_next 1 = .ok (.aload_n 0, 1) := dk_42 (dk_at dksX13_next_0 1 rfl rfl)
theorem dX13_next_2 : decode cX13_next 2 = .ok (.getfield 279, 3) := dk_180 1 23 (dk_at dksX13_next_0 2 rfl rfl)
theorem dX13_next_5 : decode cX13_next 5 = .ok (.putfield 282, 3) := dk_181 1 26 (dk_at dksX13_next_0 5 rfl rfl)
theorem dX13_next_8 : decode cX13_next 8 = .ok (.aload_n 0, 1) := dk_42 (dk_at dksX13_next_0 8 rfl rfl)
theorem dX13_next_9 : decode cX13_next 9 = .ok (.aload_n 0, 1) := dk_42 (dk_at dksX13_next_0 9 rfl rfl)
theorem dX13_next_10 : decode cX13_next 10 = .ok (.getfield 282, 3) := dk_180 1 26 (dk_at dksX13_next_0 10 rfl rfl)
theorem dX13_next_13 : decode cX13_next 13 = .ok (.invokevirtual 285, 3) := dk_182 1 29 (dk_at dksX13_next_0 13 rfl rfl)
theorem dX13_next_16 : decode cX13_next 16 = .ok (.bipush 32, 2) := dk_16 32 (dk_at dksX13_next_0 16 rfl rfl)
theorem dX13_next_18 : decode cX13_next 18 = .ok (.if_icmp .ne 16, 3) := dk_160 0 16 (dk_at dksX13_next_0 18 rfl rfl)
theorem dX13_next_21 : decode cX13_next 21 = .ok (.aload_n 0, 1) := dk_42 (dk_at dksX13_next_0 21 rfl rfl)
theorem dX13_next_22 : decode cX13_next 22 = .ok (.dup, 1) := dk_89 (dk_at dksX13_next_0 22 rfl rfl)
theorem dX13_next_23 : decode cX13_next 23 = .ok (.getfield 282, 3) := dk_180 1 26 (dk_at dksX13_next_1 0 rfl rfl)
theorem dX13_next_26 : decode cX13_next 26 = .ok (.iconst 1, 1) := dk_4 (dk_at dksX13_next_1 3 rfl rfl)
theorem dX13_next_27 : decode cX13_next 27 = .ok (.iadd, 1) := dk_96 (dk_at dksX13_next_1 4 rfl rfl)
theorem dX13_next_28 : decode cX13_next 28 = .ok (.putfield 282, 3) := dk_181 1 26 (dk_at dksX13_next_1 5 rfl rfl)
theorem dX13_next_31 : decode cX13_next 31 = .ok (.goto (-23), 3) := dk_167 255 233 (dk_at dksX13_next_1 8 rfl rfl)
theorem dX13_next_34 : decode cX13_next 34 = .ok (.aload_n 0, 1) := dk_42 (dk_at dksX13_next_1 11 rfl rfl)
theorem dX13_next_35 : decode cX13_next 35 = .ok (.aload_n 0, 1) := dk_42 (dk_at dksX13_next_1 12 rfl rfl)
theorem dX13_next_36 : decode cX13_next 36 = .ok (.getfield 282, 3) := dk_180 1 26 (dk_at dksX13_next_1 13 rfl rfl)
theorem dX13_next_39 : decode cX13_next 39 = .ok (.invokevirtual 285, 3) := dk_182 1 29 (dk_at dksX13_next_1 16 rfl rfl)
theorem dX13_next_42 : decode cX13_next 42 = .ok (.istore_n 1, 1) := dk_60 (dk_at dksX13_next_1 19 rfl rfl)
theorem dX13_next_43 : decode cX13_next 43 = .ok (.aload_n 0, 1) := dk_42 (dk_at dksX13_next_1 20 rfl rfl)
theorem dX13_next_44 : decode cX13_next 44 = .ok (.aload_n 0, 1) := dk_42 (dk_at dksX13_next_1 21 rfl rfl)
theorem dX13_next_45 : decode cX13_next 45 = .ok (.getfield 282, 3) := dk_180 1 26 (dk_at dksX13_next_2 0 rfl rfl)
theorem dX13_next_48 : decode cX13_next 48 = .ok (.putfield 279, 3) := dk_181 1 23 (dk_at dksX13_next_2 3 rfl rfl)
theorem dX13_next_51 : decode cX13_next 51 = .ok (.aload_n 0, 1) := dk_42 (dk_at dksX13_next_2 6 rfl rfl)
theorem dX13_next_52 : decode cX13_next 52 = .ok (.iconst 0, 1) := dk_3 (dk_at dksX13_next_2 7 rfl rfl)
theorem dX13_next_53 : decode cX13_next 53 = .ok (.putfield 288, 3) := dk_181 1 32 (dk_at dksX13_next_2 8 rfl rfl)
theorem dX13_next_56 : decode cX13_next 56 = .ok (.iload_n 1, 1) := dk_27 (dk_at dksX13_next_2 11 rfl rfl)
theorem dX13_next_57 : decode cX13_next 57 = .ok (.ifCond .ge 11, 3) := dk_156 0 11 (dk_at dksX13_next_2 12 rfl rfl)
theorem dX13_next_60 : decode cX13_next 60 = .ok (.aload_n 0, 1) := dk_42 (dk_at dksX13_next_2 15 rfl rfl)
theorem dX13_next_61 : decode cX13_next 61 = .ok (.iconst 0, 1) := dk_3 (dk_at dksX13_next_2 16 rfl rfl)
theorem dX13_next_62 : decode cX13_next 62 = .ok (.putfield 291, 3) := dk_181 1 35 (dk_at dksX13_next_2 17 rfl rfl)
theorem dX13_next_65 : decode cX13_next 65 = .ok (.goto 141, 3) := dk_167 0 141 (dk_at dksX13_next_2 20 rfl rfl)
theorem dX13_next_68 : decode cX13_next 68 = .ok (.iload_n 1, 1) := dk_27 (dk_at dksX13_next_2 23 rfl rfl)
theorem dX13_next_69 : decode cX13_next 69 = .ok (.bipush 97, 2) := dk_16 97 (dk_at dksX13_next_3 0 rfl rfl)
theorem dX13_next_71 : decode cX13_next 71 = .ok (.bipush 122, 2) := dk_16 122 (dk_at dksX13_next_3 2 rfl rfl)
theorem dX13_next_73 : decode cX13_next 73 = .ok (.invokestatic 77, 3) := dk_184 0 77 (dk_at dksX13_next_3 4 rfl rfl)
theorem dX13_next_76 : decode cX13_next 76 = .ok (.ifCond .eq 39, 3) := dk_153 0 39 (dk_at dksX13_next_3 7 rfl rfl)
theorem dX13_next_79 : decode cX13_next 79 = .ok (.aload_n 0, 1) := dk_42 (dk_at dksX13_next_3 10 rfl rfl)
theorem dX13_next_80 : decode cX13_next 80 = .ok (.iconst 1, 1) := dk_4 (dk_at dksX13_next_3 11 rfl rfl)
theorem dX13_next_81 : decode cX13_next 81 = .ok (.putfield 291, 3) := dk_181 1 35 (dk_at dksX13_next_3 12 rfl rfl)
theorem dX13_next_84 : decode cX13_next 84 = .ok (.aload_n 0, 1) := dk_42 (dk_at dksX13_next_3 15 rfl rfl)
theorem dX13_next_85 : decode cX13_next 85 = .ok (.aload_n 0, 1) := dk_42 (dk_at dksX13_next_3 16 rfl rfl)
theorem dX13_next_86 : decode cX13_next 86 = .ok (.getfield 279, 3) := dk_180 1 23 (dk_at dksX13_next_3 17 rfl rfl)
theorem dX13_next_89 : decode cX13_next 89 = .ok (.invokevirtual 285, 3) := dk_182 1 29 (dk_at dksX13_next_3 20 rfl rfl)
theorem dX13_next_92 : decode cX13_next 92 = .ok (.bipush 97, 2) := dk_16 97 (dk_at dksX13_next_4 0 rfl rfl)
theorem dX13_next_94 : decode cX13_next 94 = .ok (.bipush 122, 2) := dk_16 122 (dk_at dksX13_next_4 2 rfl rfl)
theorem dX13_next_96 : decode cX13_next 96 = .ok (.invokestatic 77, 3) := dk_184 0 77 (dk_at dksX13_next_4 4 rfl rfl)
theorem dX13_next_99 : decode cX13_next 99 = .ok (.ifCond .eq 107, 3) := dk_153 0 107 (dk_at dksX13_next_4 7 rfl rfl)
theorem dX13_next_102 : decode cX13_next 102 = .ok (.aload_n 0, 1) := dk_42 (dk_at dksX13_next_4 10 rfl rfl)
theorem dX13_next_103 : decode cX13_next 103 = .ok (.dup, 1) := dk_89 (dk_at dksX13_next_4 11 rfl rfl)
theorem dX13_next_104 : decode cX13_next 104 = .ok (.getfield 279, 3) := dk_180 1 23 (dk_at dksX13_next_4 12 rfl rfl)
theorem dX13_next_107 : decode cX13_next 107 = .ok (.iconst 1, 1) := dk_4 (dk_at dksX13_next_4 15 rfl rfl)
theorem dX13_next_108 : decode cX13_next 108 = .ok (.iadd, 1) := dk_96 (dk_at dksX13_next_4 16 rfl rfl)
theorem dX13_next_109 : decode cX13_next 109 = .ok (.putfield 279, 3) := dk_181 1 23 (dk_at dksX13_next_4 17 rfl rfl)
theorem dX13_next_112 : decode cX13_next 112 = .ok (.goto (-28), 3) := dk_167 255 228 (dk_at dksX13_next_4 20 rfl rfl)
theorem dX13_next_115 : decode cX13_next 115 = .ok (.iload_n 1, 1) := dk_27 (dk_at dksX13_next_4 23 rfl rfl)
theorem dX13_next_116 : decode cX13_next 116 = .ok (.bipush 48, 2) := dk_16 48 (dk_at dksX13_next_5 0 rfl rfl)
theorem dX13_next_118 : decode cX13_next 118 = .ok (.bipush 57, 2) := dk_16 57 (dk_at dksX13_next_5 2 rfl rfl)
theorem dX13_next_120 : decode cX13_next 120 = .ok (.invokestatic 77, 3) := dk_184 0 77 (dk_at dksX13_next_5 4 rfl rfl)
theorem dX13_next_123 : decode cX13_next 123 = .ok (.ifCond .eq 68, 3) := dk_153 0 68 (dk_at dksX13_next_5 7 rfl rfl)
theorem dX13_next_126 : decode cX13_next 126 = .ok (.aload_n 0, 1) := dk_42 (dk_at dksX13_next_5 10 rfl rfl)
theorem dX13_next_127 : decode cX13_next 127 = .ok (.iconst 2, 1) := dk_5 (dk_at dksX13_next_5 11 rfl rfl)
theorem dX13_next_128 : decode cX13_next 128 = .ok (.putfield 291, 3) := dk_181 1 35 (dk_at dksX13_next_5 12 rfl rfl)
theorem dX13_next_131 : decode cX13_next 131 = .ok (.aload_n 0, 1) := dk_42 (dk_at dksX13_next_5 15 rfl rfl)
theorem dX13_next_132 : decode cX13_next 132 = .ok (.aload_n 0, 1) := dk_42 (dk_at dksX13_next_5 16 rfl rfl)
theorem dX13_next_133 : decode cX13_next 133 = .ok (.getfield 279, 3) := dk_180 1 23 (dk_at dksX13_next_5 17 rfl rfl)
theorem dX13_next_136 : decode cX13_next 136 = .ok (.invokevirtual 285, 3) := dk_182 1 29 (dk_at dksX13_next_5 20 rfl rfl)
theorem dX13_next_139 : decode cX13_next 139 = .ok (.bipush 48, 2) := dk_16 48 (dk_at dksX13_next_6 0 rfl rfl)
theorem dX13_next_141 : decode cX13_next 141 = .ok (.bipush 57, 2) := dk_16 57 (dk_at dksX13_next_6 2 rfl rfl)
theorem dX13_next_143 : decode cX13_next 143 = .ok (.invokestatic 77, 3) := dk_184 0 77 (dk_at dksX13_next_6 4 rfl rfl)
theorem dX13_next_146 : decode cX13_next 146 = .ok (.ifCond .eq 60, 3) := dk_153 0 60 (dk_at dksX13_next_6 7 rfl rfl)
theorem dX13_next_149 : decode cX13_next 149 = .ok (.aload_n 0, 1) := dk_42 (dk_at dksX13_next_6 10 rfl rfl)
theorem dX13_next_150 : decode cX13_next 150 = .ok (.sipush 10000, 3) := dk_17 39 16 (dk_at dksX13_next_6 11 rfl rfl)
theorem dX13_next_153 : decode cX13_next 153 = .ok (.bipush 10, 2) := dk_16 10 (dk_at dksX13_next_6 14 rfl rfl)
theorem dX13_next_155 : decode cX13_next 155 = .ok (.aload_n 0, 1) := dk_42 (dk_at dksX13_next_6 16 rfl rfl)
theorem dX13_next_156 : decode cX13_next 156 = .ok (.getfield 288, 3) := dk_180 1 32 (dk_at dksX13_next_6 17 rfl rfl)
theorem dX13_next_159 : decode cX13_next 159 = .ok (.imul, 1) := dk_104 (dk_at dksX13_next_6 20 rfl rfl)
theorem dX13_next_160 : decode cX13_next 160 = .ok (.aload_n 0, 1) := dk_42 (dk_at dksX13_next_6 21 rfl rfl)
theorem dX13_next_161 : decode cX13_next 161 = .ok (.aload_n 0, 1) := dk_42 (dk_at dksX13_next_6 22 rfl rfl)
theorem dX13_next_162 : decode cX13_next 162 = .ok (.getfield 279, 3) := dk_180 1 23 (dk_at dksX13_next_7 0 rfl rfl)
theorem dX13_next_165 : decode cX13_next 165 = .ok (.invokevirtual 285, 3) := dk_182 1 29 (dk_at dksX13_next_7 3 rfl rfl)
theorem dX13_next_168 : decode cX13_next 168 = .ok (.iadd, 1) := dk_96 (dk_at dksX13_next_7 6 rfl rfl)
theorem dX13_next_169 : decode cX13_next 169 = .ok (.bipush 48, 2) := dk_16 48 (dk_at dksX13_next_7 7 rfl rfl)
theorem dX13_next_171 : decode cX13_next 171 = .ok (.isub, 1) := dk_100 (dk_at dksX13_next_7 9 rfl rfl)
theorem dX13_next_172 : decode cX13_next 172 = .ok (.invokestatic 136, 3) := dk_184 0 136 (dk_at dksX13_next_7 10 rfl rfl)
theorem dX13_next_175 : decode cX13_next 175 = .ok (.putfield 288, 3) := dk_181 1 32 (dk_at dksX13_next_7 13 rfl rfl)
theorem dX13_next_178 : decode cX13_next 178 = .ok (.aload_n 0, 1) := dk_42 (dk_at dksX13_next_7 16 rfl rfl)
theorem dX13_next_179 : decode cX13_next 179 = .ok (.dup, 1) := dk_89 (dk_at dksX13_next_7 17 rfl rfl)
theorem dX13_next_180 : decode cX13_next 180 = .ok (.getfield 279, 3) := dk_180 1 23 (dk_at dksX13_next_7 18 rfl rfl)
theorem dX13_next_183 : decode cX13_next 183 = .ok (.iconst 1, 1) := dk_4 (dk_at dksX13_next_7 21 rfl rfl)
theorem dX13_next_184 : decode cX13_next 184 = .ok (.iadd, 1) := dk_96 (dk_at dksX13_next_7 22 rfl rfl)
theorem dX13_next_185 : decode cX13_next 185 = .ok (.putfield 279, 3) := dk_181 1 23 (dk_at dksX13_next_8 0 rfl rfl)
theorem dX13_next_188 : decode cX13_next 188 = .ok (.goto (-57), 3) := dk_167 255 199 (dk_at dksX13_next_8 3 rfl rfl)
theorem dX13_next_191 : decode cX13_next 191 = .ok (.aload_n 0, 1) := dk_42 (dk_at dksX13_next_8 6 rfl rfl)
theorem dX13_next_192 : decode cX13_next 192 = .ok (.iconst 3, 1) := dk_6 (dk_at dksX13_next_8 7 rfl rfl)
theorem dX13_next_193 : decode cX13_next 193 = .ok (.putfield 291, 3) := dk_181 1 35 (dk_at dksX13_next_8 8 rfl rfl)
theorem dX13_next_196 : decode cX13_next 196 = .ok (.aload_n 0, 1) := dk_42 (dk_at dksX13_next_8 11 rfl rfl)
theorem dX13_next_197 : decode cX13_next 197 = .ok (.dup, 1) := dk_89 (dk_at dksX13_next_8 12 rfl rfl)
theorem dX13_next_198 : decode cX13_next 198 = .ok (.getfield 279, 3) := dk_180 1 23 (dk_at dksX13_next_8 13 rfl rfl)
theorem dX13_next_201 : decode cX13_next 201 = .ok (.iconst 1, 1) := dk_4 (dk_at dksX13_next_8 16 rfl rfl)
theorem dX13_next_202 : decode cX13_next 202 = .ok (.iadd, 1) := dk_96 (dk_at dksX13_next_8 17 rfl rfl)
theorem dX13_next_203 : decode cX13_next 203 = .ok (.putfield 279, 3) := dk_181 1 23 (dk_at dksX13_next_8 18 rfl rfl)
theorem dX13_next_206 : decode cX13_next 206 = .ok (.return_, 1) := dk_177 (dk_at dksX13_next_8 21 rfl rfl)
abbrev cX13_byteAt : ByteArray := prog_16_method_93_code
def yX13_byteAt : MethodName := ⟨RX13, "byteAt", "(I)I"⟩
def dkwX13_byteAt_0 : List UInt8 := [27, 42, 180, 1, 20, 162, 0, 12, 42, 180, 0, 34, 27, 46, 167, 0, 4, 2, 172]
abbrev dktX13_byteAt_0 : List UInt8 := dkwX13_byteAt_0 ++ []
theorem dksX13_byteAt_0 : cX13_byteAt.data.toList.drop 0 = dktX13_byteAt_0 := by decide +kernel
theorem dX13_byteAt_0 : decode cX13_byteAt 0 = .ok (.iload_n 1, 1) := dk_27 (dk_at dksX13_byteAt_0 0 rfl rfl)
theorem dX13_byteAt_1 : decode cX13_byteAt 1 = .ok (.aload_n 0, 1) := dk_42 (dk_at dksX13_byteAt_0 1 rfl rfl)
theorem dX13_byteAt_2 : decode cX13_byteAt 2 = .ok (.getfield 276, 3) := dk_180 1 20 (dk_at dksX13_byteAt_0 2 rfl rfl)
theorem dX13_byteAt_5 : decode cX13_byteAt 5 = .ok (.if_icmp .ge 12, 3) := dk_162 0 12 (dk_at dksX13_byteAt_0 5 rfl rfl)
theorem dX13_byteAt_8 : decode cX13_byteAt 8 = .ok (.aload_n 0, 1) := dk_42 (dk_at dksX13_byteAt_0 8 rfl rfl)
theorem dX13_byteAt_9 : decode cX13_byteAt 9 = .ok (.getfield 34, 3) := dk_180 0 34 (dk_at dksX13_byteAt_0 9 rfl rfl)
theorem dX13_byteAt_12 : decode cX13_byteAt 12 = .ok (.iload_n 1, 1) := dk_27 (dk_at dksX13_byteAt_0 12 rfl rfl)
theorem dX13_byteAt_13 : decode cX13_byteAt 13 = .ok (.iaload, 1) := dk_46 (dk_at dksX13_byteAt_0 13 rfl rfl)
theorem dX13_byteAt_14 : decode cX13_byteAt 14 = .ok (.goto 4, 3) := dk_167 0 4 (dk_at dksX13_byteAt_0 14 rfl rfl)
theorem dX13_byteAt_17 : decode cX13_byteAt 17 = .ok (.iconst (-1), 1) := dk_2 (dk_at dksX13_byteAt_0 17 rfl rfl)
theorem dX13_byteAt_18 : decode cX13_byteAt 18 = .ok (.ireturn, 1) := dk_172 (dk_at dksX13_byteAt_0 18 rfl rfl)
abbrev cX13_readItem : ByteArray := prog_16_method_102_code
def yX13_readItem : MethodName := ⟨RX13, "readItem", "()V"⟩
def dkwX13_readItem_13 : List UInt8 := [42, 4, 17, 39, 15, 182, 1, 75, 3, 3, 3, 182, 1, 80, 177]
abbrev dktX13_readItem_13 : List UInt8 := dkwX13_readItem_13 ++ []
def dkwX13_readItem_12 : List UInt8 := [162, 0, 7, 4, 167, 0, 4, 3, 182, 1, 53, 42, 89, 180, 1, 104, 4, 96, 181, 1, 104, 42, 16, 12]
abbrev dktX13_readItem_12 : List UInt8 := dkwX13_readItem_12 ++ dktX13_readItem_13
def dkwX13_readItem_11 : List UInt8 := [182, 1, 80, 167, 0, 58, 42, 42, 19, 1, 102, 182, 1, 60, 153, 0, 16, 42, 180, 1, 104, 16, 6]
abbrev dktX13_readItem_11 : List UInt8 := dkwX13_readItem_11 ++ dktX13_readItem_12
def dkwX13_readItem_10 : List UInt8 := [62, 42, 42, 19, 1, 100, 182, 1, 60, 182, 1, 53, 42, 16, 11, 28, 29, 42, 29, 182, 1, 86, 3]
abbrev dktX13_readItem_10 : List UInt8 := dkwX13_readItem_10 ++ dktX13_readItem_11
def dkwX13_readItem_9 : List UInt8 := [16, 60, 182, 1, 75, 61, 42, 42, 19, 1, 98, 182, 1, 60, 182, 1, 53, 42, 3, 16, 6, 182, 1, 75]
abbrev dktX13_readItem_9 : List UInt8 := dkwX13_readItem_9 ++ dktX13_readItem_10
def dkwX13_readItem_8 : List UInt8 := [162, 0, 7, 4, 167, 0, 4, 3, 182, 1, 53, 42, 89, 180, 1, 95, 4, 96, 181, 1, 95, 42, 4]
abbrev dktX13_readItem_8 : List UInt8 := dkwX13_readItem_8 ++ dktX13_readItem_9
def dkwX13_readItem_7 : List UInt8 := [180, 1, 46, 154, 0, 96, 42, 19, 1, 93, 182, 1, 60, 153, 0, 86, 42, 42, 180, 1, 95, 16, 8]
abbrev dktX13_readItem_7 : List UInt8 := dkwX13_readItem_7 ++ dktX13_readItem_8
def dkwX13_readItem_6 : List UInt8 := [21, 4, 42, 19, 1, 91, 182, 1, 72, 153, 0, 7, 4, 167, 0, 4, 3, 182, 1, 80, 167, 0, 158, 42]
abbrev dktX13_readItem_6 : List UInt8 := dkwX13_readItem_6 ++ dktX13_readItem_7
def dkwX13_readItem_5 : List UInt8 := [19, 1, 89, 182, 1, 60, 182, 1, 53, 42, 3, 16, 99, 182, 1, 75, 54, 4, 42, 16, 10, 28, 29]
abbrev dktX13_readItem_5 : List UInt8 := dkwX13_readItem_5 ++ dktX13_readItem_6
def dkwX13_readItem_4 : List UInt8 := [182, 1, 72, 153, 0, 65, 42, 3, 16, 6, 182, 1, 75, 61, 42, 28, 182, 1, 86, 62, 42, 42]
abbrev dktX13_readItem_4 : List UInt8 := dkwX13_readItem_4 ++ dktX13_readItem_5
def dkwX13_readItem_3 : List UInt8 := [42, 4, 16, 99, 182, 1, 75, 167, 0, 5, 16, 20, 3, 3, 182, 1, 80, 167, 0, 230, 42, 19, 1, 84]
abbrev dktX13_readItem_3 : List UInt8 := dkwX13_readItem_3 ++ dktX13_readItem_4
def dkwX13_readItem_2 : List UInt8 := [3, 16, 6, 182, 1, 75, 167, 0, 4, 3, 61, 42, 27, 28, 42, 19, 1, 78, 182, 1, 72, 153, 0, 13]
abbrev dktX13_readItem_2 : List UInt8 := dkwX13_readItem_2 ++ dktX13_readItem_3
def dkwX13_readItem_1 : List UInt8 := [182, 1, 53, 42, 89, 180, 1, 67, 4, 96, 181, 1, 67, 42, 19, 1, 70, 182, 1, 72, 153, 0, 13, 42]
abbrev dktX13_readItem_1 : List UInt8 := dkwX13_readItem_1 ++ dktX13_readItem_2
def dkwX13_readItem_0 : List UInt8 := [42, 182, 1, 64, 60, 27, 155, 0, 86, 42, 42, 180, 1, 67, 16, 6, 162, 0, 7, 4, 167, 0, 4, 3]
abbrev dktX13_readItem_0 : List UInt8 := dkwX13_readItem_0 ++ dktX13_readItem_1
theorem dksX13_readItem_0 : cX13_readItem.data.toList.drop 0 = dktX13_readItem_0 := by decide +kernel
theorem dksX13_readItem_1 : cX13_readItem.data.toList.drop 24 = dktX13_readItem_1 := dk_seg dksX13_readItem_0 24 rfl rfl
theorem dksX13_readItem_2 : cX13_readItem.data.toList.drop 48 = dktX13_readItem_2 := dk_seg dksX13_readItem_1 24 rfl rfl
theorem dksX13_readItem_3 : cX13_readItem.data.toList.drop 72 = dktX13_readItem_3 := dk_seg dksX13_readItem_2 24 rfl rfl
theorem dksX13_readItem_4 : cX13_readItem.data.toList.drop 96 = dktX13_readItem_4 := dk_seg dksX13_readItem_3 24 rfl rfl
theorem dksX13_readItem_5 : cX13_readItem.data.toList.drop 118 = dktX13_readItem_5 := dk_seg dksX13_readItem_4 22 rfl rfl
theorem dksX13_readItem_6 : cX13_readItem.data.toList.drop 141 = dktX13_readItem_6 := dk_seg dksX13_readItem_5 23 rfl rfl
theorem dksX13_readItem_7 : cX13_readItem.data.toList.drop 165 = dktX13_readItem_7 := dk_seg dksX13_readItem_6 24 rfl rfl
theorem dksX13_readItem_8 : cX13_readItem.data.toList.drop 188 = dktX13_readItem_8 := dk_seg dksX13_readItem_7 23 rfl rfl
theorem dksX13_readItem_9 : cX13_readItem.data.toList.drop 211 = dktX13_readItem_9 := dk_seg dksX13_readItem_8 23 rfl rfl
theorem dksX13_readItem_10 : cX13_readItem.data.toList.drop 235 = dktX13_readItem_10 := dk_seg dksX13_readItem_9 24 rfl rfl
theorem dksX13_readItem_11 : cX13_readItem.data.toList.drop 258 = dktX13_readItem_11 := dk_seg dksX13_readItem_10 23 rfl rfl
theorem dksX13_readItem_12 : cX13_readItem.data.toList.drop 281 = dktX13_readItem_12 := dk_seg dksX13_readItem_11 23 rfl rfl
theorem dksX13_readItem_13 : cX13_readItem.data.toList.drop 305 = dktX13_readItem_13 := dk_seg dksX13_readItem_12 24 rfl rfl
theorem dX13_readItem_0 : decode cX13_readItem 0 = .ok (.aload_n 0, 1) := dk_42 (dk_at dksX13_readItem_0 0 rfl rfl)
theorem dX13_readItem_1 : decode cX13_readItem 1 = .ok (.invokevirtual 320, 3) := dk_182 1 64 (dk_at dksX13_readItem_0 1 rfl rfl)
theorem dX13_readItem_4 : decode cX13_readItem 4 = .ok (.istore_n 1, 1) := dk_60 (dk_at dksX13_readItem_0 4 rfl rfl)
theorem dX13_readItem_5 : decode cX13_readItem 5 = .ok (.iload_n 1, 1) := dk_27 (dk_at dksX13_readItem_0 5 rfl rfl)
theorem dX13_readItem_6 : decode cX13_readItem 6 = .ok (.ifCond .lt 86, 3) := dk_155 0 86 (dk_at dksX13_readItem_0 6 rfl rfl)
theorem dX13_readItem_9 : decode cX13_readItem 9 = .ok (.aload_n 0, 1) := dk_42 (dk_at dksX13_readItem_0 9 rfl rfl)
theorem dX13_readItem_10 : decode cX13_readItem 10 = .ok (.aload_n 0, 1) := dk_42 (dk_at dksX13_readItem_0 10 rfl rfl)
theorem dX13_readItem_11 : decode cX13_readItem 11 = .ok (.getfield 323, 3) := dk_180 1 67 (dk_at dksX13_readItem_0 11 rfl rfl)
theorem dX13_readItem_14 : decode cX13_readItem 14 = .ok (.bipush 6, 2) := dk_16 6 (dk_at dksX13_readItem_0 14 rfl rfl)
theorem dX13_readItem_16 : decode cX13_readItem 16 = .ok (.if_icmp .ge 7, 3) := dk_162 0 7 (dk_at dksX13_readItem_0 16 rfl rfl)
theorem dX13_readItem_19 : decode cX13_readItem 19 = .ok (.iconst 1, 1) := dk_4 (dk_at dksX13_readItem_0 19 rfl rfl)
theorem dX13_readItem_20 : decode cX13_readItem 20 = .ok (.goto 4, 3) := dk_167 0 4 (dk_at dksX13_readItem_0 20 rfl rfl)
theorem dX13_readItem_23 : decode cX13_readItem 23 = .ok (.iconst 0, 1) := dk_3 (dk_at dksX13_readItem_0 23 rfl rfl)
theorem dX13_readItem_24 : decode cX13_readItem 24 = .ok (.invokevirtual 309, 3) := dk_182 1 53 (dk_at dksX13_readItem_1 0 rfl rfl)
theorem dX13_readItem_27 : decode cX13_readItem 27 = .ok (.aload_n 0, 1) := dk_42 (dk_at dksX13_readItem_1 3 rfl rfl)
theorem dX13_readItem_28 : decode cX13_readItem 28 = .ok (.dup, 1) := dk_89 (dk_at dksX13_readItem_1 4 rfl rfl)
theorem dX13_readItem_29 : decode cX13_readItem 29 = .ok (.getfield 323, 3) := dk_180 1 67 (dk_at dksX13_readItem_1 5 rfl rfl)
theorem dX13_readItem_32 : decode cX13_readItem 32 = .ok (.iconst 1, 1) := dk_4 (dk_at dksX13_readItem_1 8 rfl rfl)
theorem dX13_readItem_33 : decode cX13_readItem 33 = .ok (.iadd, 1) := dk_96 (dk_at dksX13_readItem_1 9 rfl rfl)
theorem dX13_readItem_34 : decode cX13_readItem 34 = .ok (.putfield 323, 3) := dk_181 1 67 (dk_at dksX13_readItem_1 10 rfl rfl)
theorem dX13_readItem_37 : decode cX13_readItem 37 = .ok (.aload_n 0, 1) := dk_42 (dk_at dksX13_readItem_1 13 rfl rfl)
theorem dX13_readItem_38 : decode cX13_readItem 38 = .ok (.ldc_w 326, 3) := dk_19 1 70 (dk_at dksX13_readItem_1 14 rfl rfl)
theorem dX13_readItem_41 : decode cX13_readItem 41 = .ok (.invokevirtual 328, 3) := dk_182 1 72 (dk_at dksX13_readItem_1 17 rfl rfl)
theorem dX13_readItem_44 : decode cX13_readItem 44 = .ok (.ifCond .eq 13, 3) := dk_153 0 13 (dk_at dksX13_readItem_1 20 rfl rfl)
theorem dX13_readItem_47 : decode cX13_readItem 47 = .ok (.aload_n 0, 1) := dk_42 (dk_at dksX13_readItem_1 23 rfl rfl)
theorem dX13_readItem_48 : decode cX13_readItem 48 = .ok (.iconst 0, 1) := dk_3 (dk_at dksX13_readItem_2 0 rfl rfl)
theorem dX13_readItem_49 : decode cX13_readItem 49 = .ok (.bipush 6, 2) := dk_16 6 (dk_at dksX13_readItem_2 1 rfl rfl)
theorem dX13_readItem_51 : decode cX13_readItem 51 = .ok (.invokevirtual 331, 3) := dk_182 1 75 (dk_at dksX13_readItem_2 3 rfl rfl)
theorem dX13_readItem_54 : decode cX13_readItem 54 = .ok (.goto 4, 3) := dk_167 0 4 (dk_at dksX13_readItem_2 6 rfl rfl)
theorem dX13_readItem_57 : decode cX13_readItem 57 = .ok (.iconst 0, 1) := dk_3 (dk_at dksX13_readItem_2 9 rfl rfl)
theorem dX13_readItem_58 : decode cX13_readItem 58 = .ok (.istore_n 2, 1) := dk_61 (dk_at dksX13_readItem_2 10 rfl rfl)
theorem dX13_readItem_59 : decode cX13_readItem 59 = .ok (.aload_n 0, 1) := dk_42 (dk_at dksX13_readItem_2 11 rfl rfl)
theorem dX13_readItem_60 : decode cX13_readItem 60 = .ok (.iload_n 1, 1) := dk_27 (dk_at dksX13_readItem_2 12 rfl rfl)
theorem dX13_readItem_61 : decode cX13_readItem 61 = .ok (.iload_n 2, 1) := dk_28 (dk_at dksX13_readItem_2 13 rfl rfl)
theorem dX13_readItem_62 : decode cX13_readItem 62 = .ok (.aload_n 0, 1) := dk_42 (dk_at dksX13_readItem_2 14 rfl rfl)
theorem dX13_readItem_63 : decode cX13_readItem 63 = .ok (.ldc_w 334, 3) := dk_19 1 78 (dk_at dksX13_readItem_2 15 rfl rfl)
theorem dX13_readItem_66 : decode cX13_readItem 66 = .ok (.invokevirtual 328, 3) := dk_182 1 72 (dk_at dksX13_readItem_2 18 rfl rfl)
theorem dX13_readItem_69 : decode cX13_readItem 69 = .ok (.ifCond .eq 13, 3) := dk_153 0 13 (dk_at dksX13_readItem_2 21 rfl rfl)
theorem dX13_readItem_72 : decode cX13_readItem 72 = .ok (.aload_n 0, 1) := dk_42 (dk_at dksX13_readItem_3 0 rfl rfl)
theorem dX13_readItem_73 : decode cX13_readItem 73 = .ok (.iconst 1, 1) := dk_4 (dk_at dksX13_readItem_3 1 rfl rfl)
theorem dX13_readItem_74 : decode cX13_readItem 74 = .ok (.bipush 99, 2) := dk_16 99 (dk_at dksX13_readItem_3 2 rfl rfl)
theorem dX13_readItem_76 : decode cX13_readItem 76 = .ok (.invokevirtual 331, 3) := dk_182 1 75 (dk_at dksX13_readItem_3 4 rfl rfl)
theorem dX13_readItem_79 : decode cX13_readItem 79 = .ok (.goto 5, 3) := dk_167 0 5 (dk_at dksX13_readItem_3 7 rfl rfl)
theorem dX13_readItem_82 : decode cX13_readItem 82 = .ok (.bipush 20, 2) := dk_16 20 (dk_at dksX13_readItem_3 10 rfl rfl)
theorem dX13_readItem_84 : decode cX13_readItem 84 = .ok (.iconst 0, 1) := dk_3 (dk_at dksX13_readItem_3 12 rfl rfl)
theorem dX13_readItem_85 : decode cX13_readItem 85 = .ok (.iconst 0, 1) := dk_3 (dk_at dksX13_readItem_3 13 rfl rfl)
theorem dX13_readItem_86 : decode cX13_readItem 86 = .ok (.invokevirtual 336, 3) := dk_182 1 80 (dk_at dksX13_readItem_3 14 rfl rfl)
theorem dX13_readItem_89 : decode cX13_readItem 89 = .ok (.goto 230, 3) := dk_167 0 230 (dk_at dksX13_readItem_3 17 rfl rfl)
theorem dX13_readItem_92 : decode cX13_readItem 92 = .ok (.aload_n 0, 1) := dk_42 (dk_at dksX13_readItem_3 20 rfl rfl)
theorem dX13_readItem_93 : decode cX13_readItem 93 = .ok (.ldc_w 340, 3) := dk_19 1 84 (dk_at dksX13_readItem_3 21 rfl rfl)
theorem dX13_readItem_96 : decode cX13_readItem 96 = .ok (.invokevirtual 328, 3) := dk_182 1 72 (dk_at dksX13_readItem_4 0 rfl rfl)
theorem dX13_readItem_99 : decode cX13_readItem 99 = .ok (.ifCond .eq 65, 3) := dk_153 0 65 (dk_at dksX13_readItem_4 3 rfl rfl)
theorem dX13_readItem_102 : decode cX13_readItem 102 = .ok (.aload_n 0, 1) := dk_42 (dk_at dksX13_readItem_4 6 rfl rfl)
theorem dX13_readItem_103 : decode cX13_readItem 103 = .ok (.iconst 0, 1) := dk_3 (dk_at dksX13_readItem_4 7 rfl rfl)
theorem dX13_readItem_104 : decode cX13_readItem 104 = .ok (.bipush 6, 2) := dk_16 6 (dk_at dksX13_readItem_4 8 rfl rfl)
theorem dX13_readItem_106 : decode cX13_readItem 106 = .ok (.invokevirtual 331, 3) := dk_182 1 75 (dk_at dksX13_readItem_4 10 rfl rfl)
theorem dX13_readItem_109 : decode cX13_readItem 109 = .ok (.istore_n 2, 1) := dk_61 (dk_at dksX13_readItem_4 13 rfl rfl)
theorem dX13_readItem_110 : decode cX13_readItem 110 = .ok (.aload_n 0, 1) := dk_42 (dk_at dksX13_readItem_4 14 rfl rfl)
theorem dX13_readItem_111 : decode cX13_readItem 111 = .ok (.iload_n 2, 1) := dk_28 (dk_at dksX13_readItem_4 15 rfl rfl)
theorem dX13_readItem_112 : decode cX13_readItem 112 = .ok (.invokevirtual 342, 3) := dk_182 1 86 (dk_at dksX13_readItem_4 16 rfl rfl)
theorem dX13_readItem_115 : decode cX13_readItem 115 = .ok (.istore_n 3, 1) := dk_62 (dk_at dksX13_readItem_4 19 rfl rfl)
theorem dX13_readItem_116 : decode cX13_readItem 116 = .ok (.aload_n 0, 1) := dk_42 (dk_at dksX13_readItem_4 20 rfl rfl)
theorem dX13_readItem_117 : decode cX13_readItem 117 = .ok (.aload_n 0, 1) := dk_42 (dk_at dksX13_readItem_4 21 rfl rfl)
theorem dX13_readItem_118 : decode cX13_readItem 118 = .ok (.ldc_w 345, 3) := dk_19 1 89 (dk_at dksX13_readItem_5 0 rfl rfl)
theorem dX13_readItem_121 : decode cX13_readItem 121 = .ok (.invokevirtual 316, 3) := dk_182 1 60 (dk_at dksX13_readItem_5 3 rfl rfl)
theorem dX13_readItem_124 : decode cX13_readItem 124 = .ok (.invokevirtual 309, 3) := dk_182 1 53 (dk_at dksX13_readItem_5 6 rfl rfl)
theorem dX13_readItem_127 : decode cX13_readItem 127 = .ok (.aload_n 0, 1) := dk_42 (dk_at dksX13_readItem_5 9 rfl rfl)
theorem dX13_readItem_128 : decode cX13_readItem 128 = .ok (.iconst 0, 1) := dk_3 (dk_at dksX13_readItem_5 10 rfl rfl)
theorem dX13_readItem_129 : decode cX13_readItem 129 = .ok (.bipush 99, 2) := dk_16 99 (dk_at dksX13_readItem_5 11 rfl rfl)
theorem dX13_readItem_131 : decode cX13_readItem 131 = .ok (.invokevirtual 331, 3) := dk_182 1 75 (dk_at dksX13_readItem_5 13 rfl rfl)
theorem dX13_readItem_134 : decode cX13_readItem 134 = .ok (.istore 4, 2) := dk_54 4 (dk_at dksX13_readItem_5 16 rfl rfl)
theorem dX13_readItem_136 : decode cX13_readItem 136 = .ok (.aload_n 0, 1) := dk_42 (dk_at dksX13_readItem_5 18 rfl rfl)
theorem dX13_readItem_137 : decode cX13_readItem 137 = .ok (.bipush 10, 2) := dk_16 10 (dk_at dksX13_readItem_5 19 rfl rfl)
theorem dX13_readItem_139 : decode cX13_readItem 139 = .ok (.iload_n 2, 1) := dk_28 (dk_at dksX13_readItem_5 21 rfl rfl)
theorem dX13_readItem_140 : decode cX13_readItem 140 = .ok (.iload_n 3, 1) := dk_29 (dk_at dksX13_readItem_5 22 rfl rfl)
theorem dX13_readItem_141 : decode cX13_readItem 141 = .ok (.iload 4, 2) := dk_21 4 (dk_at dksX13_readItem_6 0 rfl rfl)
theorem dX13_readItem_143 : decode cX13_readItem 143 = .ok (.aload_n 0, 1) := dk_42 (dk_at dksX13_readItem_6 2 rfl rfl)
theorem dX13_readItem_144 : decode cX13_readItem 144 = .ok (.ldc_w 347, 3) := dk_19 1 91 (dk_at dksX13_readItem_6 3 rfl rfl)
theorem dX13_readItem_147 : decode cX13_readItem 147 = .ok (.invokevirtual 328, 3) := dk_182 1 72 (dk_at dksX13_readItem_6 6 rfl rfl)
theorem dX13_readItem_150 : decode cX13_readItem 150 = .ok (.ifCond .eq 7, 3) := dk_153 0 7 (dk_at dksX13_readItem_6 9 rfl rfl)
theorem dX13_readItem_153 : decode cX13_readItem 153 = .ok (.iconst 1, 1) := dk_4 (dk_at dksX13_readItem_6 12 rfl rfl)
theorem dX13_readItem_154 : decode cX13_readItem 154 = .ok (.goto 4, 3) := dk_167 0 4 (dk_at dksX13_readItem_6 13 rfl rfl)
theorem dX13_readItem_157 : decode cX13_readItem 157 = .ok (.iconst 0, 1) := dk_3 (dk_at dksX13_readItem_6 16 rfl rfl)
theorem dX13_readItem_158 : decode cX13_readItem 158 = .ok (.invokevirtual 336, 3) := dk_182 1 80 (dk_at dksX13_readItem_6 17 rfl rfl)
theorem dX13_readItem_161 : decode cX13_readItem 161 = .ok (.goto 158, 3) := dk_167 0 158 (dk_at dksX13_readItem_6 20 rfl rfl)
theorem dX13_readItem_164 : decode cX13_readItem 164 = .ok (.aload_n 0, 1) := dk_42 (dk_at dksX13_readItem_6 23 rfl rfl)
theorem dX13_readItem_165 : decode cX13_readItem 165 = .ok (.getfield 302, 3) := dk_180 1 46 (dk_at dksX13_readItem_7 0 rfl rfl)
theorem dX13_readItem_168 : decode cX13_readItem 168 = .ok (.ifCond .ne 96, 3) := dk_154 0 96 (dk_at dksX13_readItem_7 3 rfl rfl)
theorem dX13_readItem_171 : decode cX13_readItem 171 = .ok (.aload_n 0, 1) := dk_42 (dk_at dksX13_readItem_7 6 rfl rfl)
theorem dX13_readItem_172 : decode cX13_readItem 172 = .ok (.ldc_w 349, 3) := dk_19 1 93 (dk_at dksX13_readItem_7 7 rfl rfl)
theorem dX13_readItem_175 : decode cX13_readItem 175 = .ok (.invokevirtual 316, 3) := dk_182 1 60 (dk_at dksX13_readItem_7 10 rfl rfl)
theorem dX13_readItem_178 : decode cX13_readItem 178 = .ok (.ifCond .eq 86, 3) := dk_153 0 86 (dk_at dksX13_readItem_7 13 rfl rfl)
theorem dX13_readItem_181 : decode cX13_readItem 181 = .ok (.aload_n 0, 1) := dk_42 (dk_at dksX13_readItem_7 16 rfl rfl)
theorem dX13_readItem_182 : decode cX13_readItem 182 = .ok (.aload_n 0, 1) := dk_42 (dk_at dksX13_readItem_7 17 rfl rfl)
theorem dX13_readItem_183 : decode cX13_readItem 183 = .ok (.getfield 351, 3) := dk_180 1 95 (dk_at dksX13_readItem_7 18 rfl rfl)
theorem dX13_readItem_186 : decode cX13_readItem 186 = .ok (.bipush 8, 2) := dk_16 8 (dk_at dksX13_readItem_7 21 rfl rfl)
theorem dX13_readItem_188 : decode cX13_readItem 188 = .ok (.if_icmp .ge 7, 3) := dk_162 0 7 (dk_at dksX13_readItem_8 0 rfl rfl)
theorem dX13_readItem_191 : decode cX13_readItem 191 = .ok (.iconst 1, 1) := dk_4 (dk_at dksX13_readItem_8 3 rfl rfl)
theorem dX13_readItem_192 : decode cX13_readItem 192 = .ok (.goto 4, 3) := dk_167 0 4 (dk_at dksX13_readItem_8 4 rfl rfl)
theorem dX13_readItem_195 : decode cX13_readItem 195 = .ok (.iconst 0, 1) := dk_3 (dk_at dksX13_readItem_8 7 rfl rfl)
theorem dX13_readItem_196 : decode cX13_readItem 196 = .ok (.invokevirtual 309, 3) := dk_182 1 53 (dk_at dksX13_readItem_8 8 rfl rfl)
theorem dX13_readItem_199 : decode cX13_readItem 199 = .ok (.aload_n 0, 1) := dk_42 (dk_at dksX13_readItem_8 11 rfl rfl)
theorem dX13_readItem_200 : decode cX13_readItem 200 = .ok (.dup, 1) := dk_89 (dk_at dksX13_readItem_8 12 rfl rfl)
theorem dX13_readItem_201 : decode cX13_readItem 201 = .ok (.getfield 351, 3) := dk_180 1 95 (dk_at dksX13_readItem_8 13 rfl rfl)
theorem dX13_readItem_204 : decode cX13_readItem 204 = .ok (.iconst 1, 1) := dk_4 (dk_at dksX13_readItem_8 16 rfl rfl)
theorem dX13_readItem_205 : decode cX13_readItem 205 = .ok (.iadd, 1) := dk_96 (dk_at dksX13_readItem_8 17 rfl rfl)
theorem dX13_readItem_206 : decode cX13_readItem 206 = .ok (.putfield 351, 3) := dk_181 1 95 (dk_at dksX13_readItem_8 18 rfl rfl)
theorem dX13_readItem_209 : decode cX13_readItem 209 = .ok (.aload_n 0, 1) := dk_42 (dk_at dksX13_readItem_8 21 rfl rfl)
theorem dX13_readItem_210 : decode cX13_readItem 210 = .ok (.iconst 1, 1) := dk_4 (dk_at dksX13_readItem_8 22 rfl rfl)
theorem dX13_readItem_211 : decode cX13_readItem 211 = .ok (.bipush 60, 2) := dk_16 60 (dk_at dksX13_readItem_9 0 rfl rfl)
theorem dX13_readItem_213 : decode cX13_readItem 213 = .ok (.invokevirtual 331, 3) := dk_182 1 75 (dk_at dksX13_readItem_9 2 rfl rfl)
theorem dX13_readItem_216 : decode cX13_readItem 216 = .ok (.istore_n 2, 1) := dk_61 (dk_at dksX13_readItem_9 5 rfl rfl)
theorem dX13_readItem_217 : decode cX13_readItem 217 = .ok (.aload_n 0, 1) := dk_42 (dk_at dksX13_readItem_9 6 rfl rfl)
theorem dX13_readItem_218 : decode cX13_readItem 218 = .ok (.aload_n 0, 1) := dk_42 (dk_at dksX13_readItem_9 7 rfl rfl)
theorem dX13_readItem_219 : decode cX13_readItem 219 = .ok (.ldc_w 354, 3) := dk_19 1 98 (dk_at dksX13_readItem_9 8 rfl rfl)
theorem dX13_readItem_222 : decode cX13_readItem 222 = .ok (.invokevirtual 316, 3) := dk_182 1 60 (dk_at dksX13_readItem_9 11 rfl rfl)
theorem dX13_readItem_225 : decode cX13_readItem 225 = .ok (.invokevirtual 309, 3) := dk_182 1 53 (dk_at dksX13_readItem_9 14 rfl rfl)
theorem dX13_readItem_228 : decode cX13_readItem 228 = .ok (.aload_n 0, 1) := dk_42 (dk_at dksX13_readItem_9 17 rfl rfl)
theorem dX13_readItem_229 : decode cX13_readItem 229 = .ok (.iconst 0, 1) := dk_3 (dk_at dksX13_readItem_9 18 rfl rfl)
theorem dX13_readItem_230 : decode cX13_readItem 230 = .ok (.bipush 6, 2) := dk_16 6 (dk_at dksX13_readItem_9 19 rfl rfl)
theorem dX13_readItem_232 : decode cX13_readItem 232 = .ok (.invokevirtual 331, 3) := dk_182 1 75 (dk_at dksX13_readItem_9 21 rfl rfl)
theorem dX13_readItem_235 : decode cX13_readItem 235 = .ok (.istore_n 3, 1) := dk_62 (dk_at dksX13_readItem_10 0 rfl rfl)
theorem dX13_readItem_236 : decode cX13_readItem 236 = .ok (.aload_n 0, 1) := dk_42 (dk_at dksX13_readItem_10 1 rfl rfl)
theorem dX13_readItem_237 : decode cX13_readItem 237 = .ok (.aload_n 0, 1) := dk_42 (dk_at dksX13_readItem_10 2 rfl rfl)
theorem dX13_readItem_238 : decode cX13_readItem 238 = .ok (.ldc_w 356, 3) := dk_19 1 100 (dk_at dksX13_readItem_10 3 rfl rfl)
theorem dX13_readItem_241 : decode cX13_readItem 241 = .ok (.invokevirtual 316, 3) := dk_182 1 60 (dk_at dksX13_readItem_10 6 rfl rfl)
theorem dX13_readItem_244 : decode cX13_readItem 244 = .ok (.invokevirtual 309, 3) := dk_182 1 53 (dk_at dksX13_readItem_10 9 rfl rfl)
theorem dX13_readItem_247 : decode cX13_readItem 247 = .ok (.aload_n 0, 1) := dk_42 (dk_at dksX13_readItem_10 12 rfl rfl)
theorem dX13_readItem_248 : decode cX13_readItem 248 = .ok (.bipush 11, 2) := dk_16 11 (dk_at dksX13_readItem_10 13 rfl rfl)
theorem dX13_readItem_250 : decode cX13_readItem 250 = .ok (.iload_n 2, 1) := dk_28 (dk_at dksX13_readItem_10 15 rfl rfl)
theorem dX13_readItem_251 : decode cX13_readItem 251 = .ok (.iload_n 3, 1) := dk_29 (dk_at dksX13_readItem_10 16 rfl rfl)
theorem dX13_readItem_252 : decode cX13_readItem 252 = .ok (.aload_n 0, 1) := dk_42 (dk_at dksX13_readItem_10 17 rfl rfl)
theorem dX13_readItem_253 : decode cX13_readItem 253 = .ok (.iload_n 3, 1) := dk_29 (dk_at dksX13_readItem_10 18 rfl rfl)
theorem dX13_readItem_254 : decode cX13_readItem 254 = .ok (.invokevirtual 342, 3) := dk_182 1 86 (dk_at dksX13_readItem_10 19 rfl rfl)
theorem dX13_readItem_257 : decode cX13_readItem 257 = .ok (.iconst 0, 1) := dk_3 (dk_at dksX13_readItem_10 22 rfl rfl)
theorem dX13_readItem_258 : decode cX13_readItem 258 = .ok (.invokevirtual 336, 3) := dk_182 1 80 (dk_at dksX13_readItem_11 0 rfl rfl)
theorem dX13_readItem_261 : decode cX13_readItem 261 = .ok (.goto 58, 3) := dk_167 0 58 (dk_at dksX13_readItem_11 3 rfl rfl)
theorem dX13_readItem_264 : decode cX13_readItem 264 = .ok (.aload_n 0, 1) := dk_42 (dk_at dksX13_readItem_11 6 rfl rfl)
theorem dX13_readItem_265 : decode cX13_readItem 265 = .ok (.aload_n 0, 1) := dk_42 (dk_at dksX13_readItem_11 7 rfl rfl)
theorem dX13_readItem_266 : decode cX13_readItem 266 = .ok (.ldc_w 358, 3) := dk_19 1 102 (dk_at dksX13_readItem_11 8 rfl rfl)
theorem dX13_readItem_269 : decode cX13_readItem 269 = .ok (.invokevirtual 316, 3) := dk_182 1 60 (dk_at dksX13_readItem_11 11 rfl rfl)
theorem dX13_readItem_272 : decode cX13_readItem 272 = .ok (.ifCond .eq 16, 3) := dk_153 0 16 (dk_at dksX13_readItem_11 14 rfl rfl)
theorem dX13_readItem_275 : decode cX13_readItem 275 = .ok (.aload_n 0, 1) := dk_42 (dk_at dksX13_readItem_11 17 rfl rfl)
theorem dX13_readItem_276 : decode cX13_readItem 276 = .ok (.getfield 360, 3) := dk_180 1 104 (dk_at dksX13_readItem_11 18 rfl rfl)
theorem dX13_readItem_279 : decode cX13_readItem 279 = .ok (.bipush 6, 2) := dk_16 6 (dk_at dksX13_readItem_11 21 rfl rfl)
theorem dX13_readItem_281 : decode cX13_readItem 281 = .ok (.if_icmp .ge 7, 3) := dk_162 0 7 (dk_at dksX13_readItem_12 0 rfl rfl)
theorem dX13_readItem_284 : decode cX13_readItem 284 = .ok (.iconst 1, 1) := dk_4 (dk_at dksX13_readItem_12 3 rfl rfl)
theorem dX13_readItem_285 : decode cX13_readItem 285 = .ok (.goto 4, 3) := dk_167 0 4 (dk_at dksX13_readItem_12 4 rfl rfl)
theorem dX13_readItem_288 : decode cX13_readItem 288 = .ok (.iconst 0, 1) := dk_3 (dk_at dksX13_readItem_12 7 rfl rfl)
theorem dX13_readItem_289 : decode cX13_readItem 289 = .ok (.invokevirtual 309, 3) := dk_182 1 53 (dk_at dksX13_readItem_12 8 rfl rfl)
theorem dX13_readItem_292 : decode cX13_readItem 292 = .ok (.aload_n 0, 1) := dk_42 (dk_at dksX13_readItem_12 11 rfl rfl)
theorem dX13_readItem_293 : decode cX13_readItem 293 = .ok (.dup, 1) := dk_89 (dk_at dksX13_readItem_12 12 rfl rfl)
theorem dX13_readItem_294 : decode cX13_readItem 294 = .ok (.getfield 360, 3) := dk_180 1 104 (dk_at dksX13_readItem_12 13 rfl rfl)
theorem dX13_readItem_297 : decode cX13_readItem 297 = .ok (.iconst 1, 1) := dk_4 (dk_at dksX13_readItem_12 16 rfl rfl)
theorem dX13_readItem_298 : decode cX13_readItem 298 = .ok (.iadd, 1) := dk_96 (dk_at dksX13_readItem_12 17 rfl rfl)
theorem dX13_readItem_299 : decode cX13_readItem 299 = .ok (.putfield 360, 3) := dk_181 1 104 (dk_at dksX13_readItem_12 18 rfl rfl)
theorem dX13_readItem_302 : decode cX13_readItem 302 = .ok (.aload_n 0, 1) := dk_42 (dk_at dksX13_readItem_12 21 rfl rfl)
theorem dX13_readItem_303 : decode cX13_readItem 303 = .ok (.bipush 12, 2) := dk_16 12 (dk_at dksX13_readItem_12 22 rfl rfl)
theorem dX13_readItem_305 : decode cX13_readItem 305 = .ok (.aload_n 0, 1) := dk_42 (dk_at dksX13_readItem_13 0 rfl rfl)
theorem dX13_readItem_306 : decode cX13_readItem 306 = .ok (.iconst 1, 1) := dk_4 (dk_at dksX13_readItem_13 1 rfl rfl)
theorem dX13_readItem_307 : decode cX13_readItem 307 = .ok (.sipush 9999, 3) := dk_17 39 15 (dk_at dksX13_readItem_13 2 rfl rfl)
theorem dX13_readItem_310 : decode cX13_readItem 310 = .ok (.invokevirtual 331, 3) := dk_182 1 75 (dk_at dksX13_readItem_13 5 rfl rfl)
theorem dX13_readItem_313 : decode cX13_readItem 313 = .ok (.iconst 0, 1) := dk_3 (dk_at dksX13_readItem_13 8 rfl rfl)
theorem dX13_readItem_314 : decode cX13_readItem 314 = .ok (.iconst 0, 1) := dk_3 (dk_at dksX13_readItem_13 9 rfl rfl)
theorem dX13_readItem_315 : decode cX13_readItem 315 = .ok (.iconst 0, 1) := dk_3 (dk_at dksX13_readItem_13 10 rfl rfl)
theorem dX13_readItem_316 : decode cX13_readItem 316 = .ok (.invokevirtual 336, 3) := dk_182 1 80 (dk_at dksX13_readItem_13 11 rfl rfl)
theorem dX13_readItem_319 : decode cX13_readItem 319 = .ok (.return_, 1) := dk_177 (dk_at dksX13_readItem_13 14 rfl rfl)
abbrev cX13_kindTold : ByteArray := prog_16_method_99_code
def yX13_kindTold : MethodName := ⟨RX13, "kindTold", "()I"⟩
def dkwX13_kindTold_1 : List UInt8 := [153, 0, 7, 28, 167, 0, 4, 27, 60, 132, 2, 1, 167, 255, 225, 27, 172]
abbrev dktX13_kindTold_1 : List UInt8 := dkwX13_kindTold_1 ++ []
def dkwX13_kindTold_0 : List UInt8 := [2, 60, 3, 61, 28, 42, 180, 0, 53, 190, 162, 0, 28, 42, 42, 180, 0, 53, 28, 50, 182, 1, 60]
abbrev dktX13_kindTold_0 : List UInt8 := dkwX13_kindTold_0 ++ dktX13_kindTold_1
theorem dksX13_kindTold_0 : cX13_kindTold.data.toList.drop 0 = dktX13_kindTold_0 := by decide +kernel
theorem dksX13_kindTold_1 : cX13_kindTold.data.toList.drop 23 = dktX13_kindTold_1 := dk_seg dksX13_kindTold_0 23 rfl rfl
theorem dX13_kindTold_0 : decode cX13_kindTold 0 = .ok (.iconst (-1), 1) := dk_2 (dk_at dksX13_kindTold_0 0 rfl rfl)
theorem dX13_kindTold_1 : decode cX13_kindTold 1 = .ok (.istore_n 1, 1) := dk_60 (dk_at dksX13_kindTold_0 1 rfl rfl)
theorem dX13_kindTold_2 : decode cX13_kindTold 2 = .ok (.iconst 0, 1) := dk_3 (dk_at dksX13_kindTold_0 2 rfl rfl)
theorem dX13_kindTold_3 : decode cX13_kindTold 3 = .ok (.istore_n 2, 1) := dk_61 (dk_at dksX13_kindTold_0 3 rfl rfl)
theorem dX13_kindTold_4 : decode cX13_kindTold 4 = .ok (.iload_n 2, 1) := dk_28 (dk_at dksX13_kindTold_0 4 rfl rfl)
theorem dX13_kindTold_5 : decode cX13_kindTold 5 = .ok (.aload_n 0, 1) := dk_42 (dk_at dksX13_kindTold_0 5 rfl rfl)
theorem dX13_kindTold_6 : decode cX13_kindTold 6 = .ok (.getfield 53, 3) := dk_180 0 53 (dk_at dksX13_kindTold_0 6 rfl rfl)
theorem dX13_kindTold_9 : decode cX13_kindTold 9 = .ok (.arraylength, 1) := dk_190 (dk_at dksX13_kindTold_0 9 rfl rfl)
theorem dX13_kindTold_10 : decode cX13_kindTold 10 = .ok (.if_icmp .ge 28, 3) := dk_162 0 28 (dk_at dksX13_kindTold_0 10 rfl rfl)
theorem dX13_kindTold_13 : decode cX13_kindTold 13 = .ok (.aload_n 0, 1) := dk_42 (dk_at dksX13_kindTold_0 13 rfl rfl)
theorem dX13_kindTold_14 : decode cX13_kindTold 14 = .ok (.aload_n 0, 1) := dk_42 (dk_at dksX13_kindTold_0 14 rfl rfl)
theorem dX13_kindTold_15 : decode cX13_kindTold 15 = .ok (.getfield 53, 3) := dk_180 0 53 (dk_at dksX13_kindTold_0 15 rfl rfl)
theorem dX13_kindTold_18 : decode cX13_kindTold 18 = .ok (.iload_n 2, 1) := dk_28 (dk_at dksX13_kindTold_0 18 rfl rfl)
theorem dX13_kindTold_19 : decode cX13_kindTold 19 = .ok (.aaload, 1) := dk_50 (dk_at dksX13_kindTold_0 19 rfl rfl)
theorem dX13_kindTold_20 : decode cX13_kindTold 20 = .ok (.invokevirtual 316, 3) := dk_182 1 60 (dk_at dksX13_kindTold_0 20 rfl rfl)
theorem dX13_kindTold_23 : decode cX13_kindTold 23 = .ok (.ifCond .eq 7, 3) := dk_153 0 7 (dk_at dksX13_kindTold_1 0 rfl rfl)
theorem dX13_kindTold_26 : decode cX13_kindTold 26 = .ok (.iload_n 2, 1) := dk_28 (dk_at dksX13_kindTold_1 3 rfl rfl)
theorem dX13_kindTold_27 : decode cX13_kindTold 27 = .ok (.goto 4, 3) := dk_167 0 4 (dk_at dksX13_kindTold_1 4 rfl rfl)
theorem dX13_kindTold_30 : decode cX13_kindTold 30 = .ok (.iload_n 1, 1) := dk_27 (dk_at dksX13_kindTold_1 7 rfl rfl)
theorem dX13_kindTold_31 : decode cX13_kindTold 31 = .ok (.istore_n 1, 1) := dk_60 (dk_at dksX13_kindTold_1 8 rfl rfl)
theorem dX13_kindTold_32 : decode cX13_kindTold 32 = .ok (.iinc 2 1, 3) := dk_132 2 1 (dk_at dksX13_kindTold_1 9 rfl rfl)
theorem dX13_kindTold_35 : decode cX13_kindTold 35 = .ok (.goto (-31), 3) := dk_167 255 225 (dk_at dksX13_kindTold_1 12 rfl rfl)
theorem dX13_kindTold_38 : decode cX13_kindTold 38 = .ok (.iload_n 1, 1) := dk_27 (dk_at dksX13_kindTold_1 15 rfl rfl)
theorem dX13_kindTold_39 : decode cX13_kindTold 39 = .ok (.ireturn, 1) := dk_172 (dk_at dksX13_kindTold_1 16 rfl rfl)
abbrev cX13_isWord : ByteArray := prog_16_method_95_code
def yX13_isWord : MethodName := ⟨RX13, "isWord", "(Ljava/lang/String;)Z"⟩
def dkwX13_isWord_3 : List UInt8 := [167, 255, 216, 28, 172]
abbrev dktX13_isWord_3 : List UInt8 := dkwX13_isWord_3 ++ []
def dkwX13_isWord_2 : List UInt8 := [42, 180, 1, 26, 29, 96, 46, 43, 29, 182, 1, 42, 160, 0, 7, 4, 167, 0, 4, 3, 61, 132, 3, 1]
abbrev dktX13_isWord_2 : List UInt8 := dkwX13_isWord_2 ++ dktX13_isWord_3
def dkwX13_isWord_1 : List UInt8 := [4, 167, 0, 4, 3, 61, 3, 62, 29, 43, 182, 1, 38, 162, 0, 38, 28, 153, 0, 34, 42, 180, 0, 34]
abbrev dktX13_isWord_1 : List UInt8 := dkwX13_isWord_1 ++ dktX13_isWord_2
def dkwX13_isWord_0 : List UInt8 := [42, 180, 1, 35, 4, 160, 0, 23, 42, 180, 1, 23, 42, 180, 1, 26, 100, 43, 182, 1, 38, 160, 0, 7]
abbrev dktX13_isWord_0 : List UInt8 := dkwX13_isWord_0 ++ dktX13_isWord_1
theorem dksX13_isWord_0 : cX13_isWord.data.toList.drop 0 = dktX13_isWord_0 := by decide +kernel
theorem dksX13_isWord_1 : cX13_isWord.data.toList.drop 24 = dktX13_isWord_1 := dk_seg dksX13_isWord_0 24 rfl rfl
theorem dksX13_isWord_2 : cX13_isWord.data.toList.drop 48 = dktX13_isWord_2 := dk_seg dksX13_isWord_1 24 rfl rfl
theorem dksX13_isWord_3 : cX13_isWord.data.toList.drop 72 = dktX13_isWord_3 := dk_seg dksX13_isWord_2 24 rfl rfl
theorem dX13_isWord_0 : decode cX13_isWord 0 = .ok (.aload_n 0, 1) := dk_42 (dk_at dksX13_isWord_0 0 rfl rfl)
theorem dX13_isWord_1 : decode cX13_isWord 1 = .ok (.getfield 291, 3) := dk_180 1 35 (dk_at dksX13_isWord_0 1 rfl rfl)
theorem dX13_isWord_4 : decode cX13_isWord 4 = .ok (.iconst 1, 1) := dk_4 (dk_at dksX13_isWord_0 4 rfl rfl)
theorem dX13_isWord_5 : decode cX13_isWord 5 = .ok (.if_icmp .ne 23, 3) := dk_160 0 23 (dk_at dksX13_isWord_0 5 rfl rfl)
theorem dX13_isWord_8 : decode cX13_isWord 8 = .ok (.aload_n 0, 1) := dk_42 (dk_at dksX13_isWord_0 8 rfl rfl)
theorem dX13_isWord_9 : decode cX13_isWord 9 = .ok (.getfield 279, 3) := dk_180 1 23 (dk_at dksX13_isWord_0 9 rfl rfl)
theorem dX13_isWord_12 : decode cX13_isWord 12 = .ok (.aload_n 0, 1) := dk_42 (dk_at dksX13_isWord_0 12 rfl rfl)
theorem dX13_isWord_13 : decode cX13_isWord 13 = .ok (.getfield 282, 3) := dk_180 1 26 (dk_at dksX13_isWord_0 13 rfl rfl)
theorem dX13_isWord_16 : decode cX13_isWord 16 = .ok (.isub, 1) := dk_100 (dk_at dksX13_isWord_0 16 rfl rfl)
theorem dX13_isWord_17 : decode cX13_isWord 17 = .ok (.aload_n 1, 1) := dk_43 (dk_at dksX13_isWord_0 17 rfl rfl)
theorem dX13_isWord_18 : decode cX13_isWord 18 = .ok (.invokevirtual 294, 3) := dk_182 1 38 (dk_at dksX13_isWord_0 18 rfl rfl)
theorem dX13_isWord_21 : decode cX13_isWord 21 = .ok (.if_icmp .ne 7, 3) := dk_160 0 7 (dk_at dksX13_isWord_0 21 rfl rfl)
theorem dX13_isWord_24 : decode cX13_isWord 24 = .ok (.iconst 1, 1) := dk_4 (dk_at dksX13_isWord_1 0 rfl rfl)
theorem dX13_isWord_25 : decode cX13_isWord 25 = .ok (.goto 4, 3) := dk_167 0 4 (dk_at dksX13_isWord_1 1 rfl rfl)
theorem dX13_isWord_28 : decode cX13_isWord 28 = .ok (.iconst 0, 1) := dk_3 (dk_at dksX13_isWord_1 4 rfl rfl)
theorem dX13_isWord_29 : decode cX13_isWord 29 = .ok (.istore_n 2, 1) := dk_61 (dk_at dksX13_isWord_1 5 rfl rfl)
theorem dX13_isWord_30 : decode cX13_isWord 30 = .ok (.iconst 0, 1) := dk_3 (dk_at dksX13_isWord_1 6 rfl rfl)
theorem dX13_isWord_31 : decode cX13_isWord 31 = .ok (.istore_n 3, 1) := dk_62 (dk_at dksX13_isWord_1 7 rfl rfl)
theorem dX13_isWord_32 : decode cX13_isWord 32 = .ok (.iload_n 3, 1) := dk_29 (dk_at dksX13_isWord_1 8 rfl rfl)
theorem dX13_isWord_33 : decode cX13_isWord 33 = .ok (.aload_n 1, 1) := dk_43 (dk_at dksX13_isWord_1 9 rfl rfl)
theorem dX13_isWord_34 : decode cX13_isWord 34 = .ok (.invokevirtual 294, 3) := dk_182 1 38 (dk_at dksX13_isWord_1 10 rfl rfl)
theorem dX13_isWord_37 : decode cX13_isWord 37 = .ok (.if_icmp .ge 38, 3) := dk_162 0 38 (dk_at dksX13_isWord_1 13 rfl rfl)
theorem dX13_isWord_40 : decode cX13_isWord 40 = .ok (.iload_n 2, 1) := dk_28 (dk_at dksX13_isWord_1 16 rfl rfl)
theorem dX13_isWord_41 : decode cX13_isWord 41 = .ok (.ifCond .eq 34, 3) := dk_153 0 34 (dk_at dksX13_isWord_1 17 rfl rfl)
theorem dX13_isWord_44 : decode cX13_isWord 44 = .ok (.aload_n 0, 1) := dk_42 (dk_at dksX13_isWord_1 20 rfl rfl)
theorem dX13_isWord_45 : decode cX13_isWord 45 = .ok (.getfield 34, 3) := dk_180 0 34 (dk_at dksX13_isWord_1 21 rfl rfl)
theorem dX13_isWord_48 : decode cX13_isWord 48 = .ok (.aload_n 0, 1) := dk_42 (dk_at dksX13_isWord_2 0 rfl rfl)
theorem dX13_isWord_49 : decode cX13_isWord 49 = .ok (.getfield 282, 3) := dk_180 1 26 (dk_at dksX13_isWord_2 1 rfl rfl)
theorem dX13_isWord_52 : decode cX13_isWord 52 = .ok (.iload_n 3, 1) := dk_29 (dk_at dksX13_isWord_2 4 rfl rfl)
theorem dX13_isWord_53 : decode cX13_isWord 53 = .ok (.iadd, 1) := dk_96 (dk_at dksX13_isWord_2 5 rfl rfl)
theorem dX13_isWord_54 : decode cX13_isWord 54 = .ok (.iaload, 1) := dk_46 (dk_at dksX13_isWord_2 6 rfl rfl)
theorem dX13_isWord_55 : decode cX13_isWord 55 = .ok (.aload_n 1, 1) := dk_43 (dk_at dksX13_isWord_2 7 rfl rfl)
theorem dX13_isWord_56 : decode cX13_isWord 56 = .ok (.iload_n 3, 1) := dk_29 (dk_at dksX13_isWord_2 8 rfl rfl)
theorem dX13_isWord_57 : decode cX13_isWord 57 = .ok (.invokevirtual 298, 3) := dk_182 1 42 (dk_at dksX13_isWord_2 9 rfl rfl)
theorem dX13_isWord_60 : decode cX13_isWord 60 = .ok (.if_icmp .ne 7, 3) := dk_160 0 7 (dk_at dksX13_isWord_2 12 rfl rfl)
theorem dX13_isWord_63 : decode cX13_isWord 63 = .ok (.iconst 1, 1) := dk_4 (dk_at dksX13_isWord_2 15 rfl rfl)
theorem dX13_isWord_64 : decode cX13_isWord 64 = .ok (.goto 4, 3) := dk_167 0 4 (dk_at dksX13_isWord_2 16 rfl rfl)
theorem dX13_isWord_67 : decode cX13_isWord 67 = .ok (.iconst 0, 1) := dk_3 (dk_at dksX13_isWord_2 19 rfl rfl)
theorem dX13_isWord_68 : decode cX13_isWord 68 = .ok (.istore_n 2, 1) := dk_61 (dk_at dksX13_isWord_2 20 rfl rfl)
theorem dX13_isWord_69 : decode cX13_isWord 69 = .ok (.iinc 3 1, 3) := dk_132 3 1 (dk_at dksX13_isWord_2 21 rfl rfl)
theorem dX13_isWord_72 : decode cX13_isWord 72 = .ok (.goto (-40), 3) := dk_167 255 216 (dk_at dksX13_isWord_3 0 rfl rfl)
theorem dX13_isWord_75 : decode cX13_isWord 75 = .ok (.iload_n 2, 1) := dk_28 (dk_at dksX13_isWord_3 3 rfl rfl)
theorem dX13_isWord_76 : decode cX13_isWord 76 = .ok (.ireturn, 1) := dk_172 (dk_at dksX13_isWord_3 4 rfl rfl)
abbrev cX13_must : ByteArray := prog_16_method_96_code
def yX13_must : MethodName := ⟨RX13, "must", "(Z)V"⟩
def dkwX13_must_1 : List UInt8 := [154, 0, 7, 42, 182, 1, 50, 177]
abbrev dktX13_must_1 : List UInt8 := dkwX13_must_1 ++ []
def dkwX13_must_0 : List UInt8 := [42, 42, 180, 1, 46, 154, 0, 7, 27, 154, 0, 7, 4, 167, 0, 4, 3, 181, 1, 46, 42, 180, 1, 46]
abbrev dktX13_must_0 : List UInt8 := dkwX13_must_0 ++ dktX13_must_1
theorem dksX13_must_0 : cX13_must.data.toList.drop 0 = dktX13_must_0 := by decide +kernel
theorem dksX13_must_1 : cX13_must.data.toList.drop 24 = dktX13_must_1 := dk_seg dksX13_must_0 24 rfl rfl
theorem dX13_must_0 : decode cX13_must 0 = .ok (.aload_n 0, 1) := dk_42 (dk_at dksX13_must_0 0 rfl rfl)
theorem dX13_must_1 : decode cX13_must 1 = .ok (.aload_n 0, 1) := dk_42 (dk_at dksX13_must_0 1 rfl rfl)
theorem dX13_must_2 : decode cX13_must 2 = .ok (.getfield 302, 3) := dk_180 1 46 (dk_at dksX13_must_0 2 rfl rfl)
theorem dX13_must_5 : decode cX13_must 5 = .ok (.ifCond .ne 7, 3) := dk_154 0 7 (dk_at dksX13_must_0 5 rfl rfl)
theorem dX13_must_8 : decode cX13_must 8 = .ok (.iload_n 1, 1) := dk_27 (dk_at dksX13_must_0 8 rfl rfl)
theorem dX13_must_9 : decode cX13_must 9 = .ok (.ifCond .ne 7, 3) := dk_154 0 7 (dk_at dksX13_must_0 9 rfl rfl)
theorem dX13_must_12 : decode cX13_must 12 = .ok (.iconst 1, 1) := dk_4 (dk_at dksX13_must_0 12 rfl rfl)
theorem dX13_must_13 : decode cX13_must 13 = .ok (.goto 4, 3) := dk_167 0 4 (dk_at dksX13_must_0 13 rfl rfl)
theorem dX13_must_16 : decode cX13_must 16 = .ok (.iconst 0, 1) := dk_3 (dk_at dksX13_must_0 16 rfl rfl)
theorem dX13_must_17 : decode cX13_must 17 = .ok (.putfield 302, 3) := dk_181 1 46 (dk_at dksX13_must_0 17 rfl rfl)
theorem dX13_must_20 : decode cX13_must 20 = .ok (.aload_n 0, 1) := dk_42 (dk_at dksX13_must_0 20 rfl rfl)
theorem dX13_must_21 : decode cX13_must 21 = .ok (.getfield 302, 3) := dk_180 1 46 (dk_at dksX13_must_0 21 rfl rfl)
theorem dX13_must_24 : decode cX13_must 24 = .ok (.ifCond .ne 7, 3) := dk_154 0 7 (dk_at dksX13_must_1 0 rfl rfl)
theorem dX13_must_27 : decode cX13_must 27 = .ok (.aload_n 0, 1) := dk_42 (dk_at dksX13_must_1 3 rfl rfl)
theorem dX13_must_28 : decode cX13_must 28 = .ok (.invokevirtual 306, 3) := dk_182 1 50 (dk_at dksX13_must_1 4 rfl rfl)
theorem dX13_must_31 : decode cX13_must 31 = .ok (.return_, 1) := dk_177 (dk_at dksX13_must_1 7 rfl rfl)
abbrev cX13_isNext : ByteArray := prog_16_method_100_code
def yX13_isNext : MethodName := ⟨RX13, "isNext", "(Ljava/lang/String;)Z"⟩
def dkwX13_isNext_1 : List UInt8 := [153, 0, 8, 42, 4, 182, 1, 53, 28, 172]
abbrev dktX13_isNext_1 : List UInt8 := dkwX13_isNext_1 ++ []
def dkwX13_isNext_0 : List UInt8 := [42, 180, 1, 46, 154, 0, 15, 42, 43, 182, 1, 60, 153, 0, 7, 4, 167, 0, 4, 3, 61, 28]
abbrev dktX13_isNext_0 : List UInt8 := dkwX13_isNext_0 ++ dktX13_isNext_1
theorem dksX13_isNext_0 : cX13_isNext.data.toList.drop 0 = dktX13_isNext_0 := by decide +kernel
theorem dksX13_isNext_1 : cX13_isNext.data.toList.drop 22 = dktX13_isNext_1 := dk_seg dksX13_isNext_0 22 rfl rfl
theorem dX13_isNext_0 : decode cX13_isNext 0 = .ok (.aload_n 0, 1) := dk_42 (dk_at dksX13_isNext_0 0 rfl rfl)
theorem dX13_isNext_1 : decode cX13_isNext 1 = .ok (.getfield 302, 3) := dk_180 1 46 (dk_at dksX13_isNext_0 1 rfl rfl)
theorem dX13_isNext_4 : decode cX13_isNext 4 = .ok (.ifCond .ne 15, 3) := dk_154 0 15 (dk_at dksX13_isNext_0 4 rfl rfl)
theorem dX13_isNext_7 : decode cX13_isNext 7 = .ok (.aload_n 0, 1) := dk_42 (dk_at dksX13_isNext_0 7 rfl rfl)
theorem dX13_isNext_8 : decode cX13_isNext 8 = .ok (.aload_n 1, 1) := dk_43 (dk_at dksX13_isNext_0 8 rfl rfl)
theorem dX13_isNext_9 : decode cX13_isNext 9 = .ok (.invokevirtual 316, 3) := dk_182 1 60 (dk_at dksX13_isNext_0 9 rfl rfl)
theorem dX13_isNext_12 : decode cX13_isNext 12 = .ok (.ifCond .eq 7, 3) := dk_153 0 7 (dk_at dksX13_isNext_0 12 rfl rfl)
theorem dX13_isNext_15 : decode cX13_isNext 15 = .ok (.iconst 1, 1) := dk_4 (dk_at dksX13_isNext_0 15 rfl rfl)
theorem dX13_isNext_16 : decode cX13_isNext 16 = .ok (.goto 4, 3) := dk_167 0 4 (dk_at dksX13_isNext_0 16 rfl rfl)
theorem dX13_isNext_19 : decode cX13_isNext 19 = .ok (.iconst 0, 1) := dk_3 (dk_at dksX13_isNext_0 19 rfl rfl)
theorem dX13_isNext_20 : decode cX13_isNext 20 = .ok (.istore_n 2, 1) := dk_61 (dk_at dksX13_isNext_0 20 rfl rfl)
theorem dX13_isNext_21 : decode cX13_isNext 21 = .ok (.iload_n 2, 1) := dk_28 (dk_at dksX13_isNext_0 21 rfl rfl)
theorem dX13_isNext_22 : decode cX13_isNext 22 = .ok (.ifCond .eq 8, 3) := dk_153 0 8 (dk_at dksX13_isNext_1 0 rfl rfl)
theorem dX13_isNext_25 : decode cX13_isNext 25 = .ok (.aload_n 0, 1) := dk_42 (dk_at dksX13_isNext_1 3 rfl rfl)
theorem dX13_isNext_26 : decode cX13_isNext 26 = .ok (.iconst 1, 1) := dk_4 (dk_at dksX13_isNext_1 4 rfl rfl)
theorem dX13_isNext_27 : decode cX13_isNext 27 = .ok (.invokevirtual 309, 3) := dk_182 1 53 (dk_at dksX13_isNext_1 5 rfl rfl)
theorem dX13_isNext_30 : decode cX13_isNext 30 = .ok (.iload_n 2, 1) := dk_28 (dk_at dksX13_isNext_1 8 rfl rfl)
theorem dX13_isNext_31 : decode cX13_isNext 31 = .ok (.ireturn, 1) := dk_172 (dk_at dksX13_isNext_1 9 rfl rfl)
abbrev cX13_number : ByteArray := prog_16_method_97_code
def yX13_number : MethodName := ⟨RX13, "number", "(II)I"⟩
def dkwX13_number_1 : List UInt8 := [167, 0, 4, 3, 182, 1, 53, 29, 172]
abbrev dktX13_number_1 : List UInt8 := dkwX13_number_1 ++ []
def dkwX13_number_0 : List UInt8 := [42, 180, 1, 32, 62, 42, 42, 180, 1, 35, 5, 160, 0, 16, 29, 27, 28, 184, 0, 77, 153, 0, 7, 4]
abbrev dktX13_number_0 : List UInt8 := dkwX13_number_0 ++ dktX13_number_1
theorem dksX13_number_0 : cX13_number.data.toList.drop 0 = dktX13_number_0 := by decide +kernel
theorem dksX13_number_1 : cX13_number.data.toList.drop 24 = dktX13_number_1 := dk_seg dksX13_number_0 24 rfl rfl
theorem dX13_number_0 : decode cX13_number 0 = .ok (.aload_n 0, 1) := dk_42 (dk_at dksX13_number_0 0 rfl rfl)
theorem dX13_number_1 : decode cX13_number 1 = .ok (.getfield 288, 3) := dk_180 1 32 (dk_at dksX13_number_0 1 rfl rfl)
theorem dX13_number_4 : decode cX13_number 4 = .ok (.istore_n 3, 1) := dk_62 (dk_at dksX13_number_0 4 rfl rfl)
theorem dX13_number_5 : decode cX13_number 5 = .ok (.aload_n 0, 1) := dk_42 (dk_at dksX13_number_0 5 rfl rfl)
theorem dX13_number_6 : decode cX13_number 6 = .ok (.aload_n 0, 1) := dk_42 (dk_at dksX13_number_0 6 rfl rfl)
theorem dX13_number_7 : decode cX13_number 7 = .ok (.getfield 291, 3) := dk_180 1 35 (dk_at dksX13_number_0 7 rfl rfl)
theorem dX13_number_10 : decode cX13_number 10 = .ok (.iconst 2, 1) := dk_5 (dk_at dksX13_number_0 10 rfl rfl)
theorem dX13_number_11 : decode cX13_number 11 = .ok (.if_icmp .ne 16, 3) := dk_160 0 16 (dk_at dksX13_number_0 11 rfl rfl)
theorem dX13_number_14 : decode cX13_number 14 = .ok (.iload_n 3, 1) := dk_29 (dk_at dksX13_number_0 14 rfl rfl)
theorem dX13_number_15 : decode cX13_number 15 = .ok (.iload_n 1, 1) := dk_27 (dk_at dksX13_number_0 15 rfl rfl)
theorem dX13_number_16 : decode cX13_number 16 = .ok (.iload_n 2, 1) := dk_28 (dk_at dksX13_number_0 16 rfl rfl)
theorem dX13_number_17 : decode cX13_number 17 = .ok (.invokestatic 77, 3) := dk_184 0 77 (dk_at dksX13_number_0 17 rfl rfl)
theorem dX13_number_20 : decode cX13_number 20 = .ok (.ifCond .eq 7, 3) := dk_153 0 7 (dk_at dksX13_number_0 20 rfl rfl)
theorem dX13_number_23 : decode cX13_number 23 = .ok (.iconst 1, 1) := dk_4 (dk_at dksX13_number_0 23 rfl rfl)
theorem dX13_number_24 : decode cX13_number 24 = .ok (.goto 4, 3) := dk_167 0 4 (dk_at dksX13_number_1 0 rfl rfl)
theorem dX13_number_27 : decode cX13_number 27 = .ok (.iconst 0, 1) := dk_3 (dk_at dksX13_number_1 3 rfl rfl)
theorem dX13_number_28 : decode cX13_number 28 = .ok (.invokevirtual 309, 3) := dk_182 1 53 (dk_at dksX13_number_1 4 rfl rfl)
theorem dX13_number_31 : decode cX13_number 31 = .ok (.iload_n 3, 1) := dk_29 (dk_at dksX13_number_1 7 rfl rfl)
theorem dX13_number_32 : decode cX13_number 32 = .ok (.ireturn, 1) := dk_172 (dk_at dksX13_number_1 8 rfl rfl)
abbrev cX13_item : ByteArray := prog_16_method_98_code
def yX13_item : MethodName := ⟨RX13, "item", "(IIIII)V"⟩
def dkwX13_item_2 : List UInt8 := [180, 0, 57, 21, 6, 7, 96, 21, 5, 79, 42, 89, 180, 1, 57, 4, 96, 181, 1, 57, 177]
abbrev dktX13_item_2 : List UInt8 := dkwX13_item_2 ++ []
def dkwX13_item_1 : List UInt8 := [28, 79, 42, 180, 0, 57, 21, 6, 5, 96, 29, 79, 42, 180, 0, 57, 21, 6, 6, 96, 21, 4, 79, 42]
abbrev dktX13_item_1 : List UInt8 := dkwX13_item_1 ++ dktX13_item_2
def dkwX13_item_0 : List UInt8 := [8, 42, 180, 1, 57, 104, 54, 6, 42, 180, 0, 57, 21, 6, 27, 79, 42, 180, 0, 57, 21, 6, 4, 96]
abbrev dktX13_item_0 : List UInt8 := dkwX13_item_0 ++ dktX13_item_1
theorem dksX13_item_0 : cX13_item.data.toList.drop 0 = dktX13_item_0 := by decide +kernel
theorem dksX13_item_1 : cX13_item.data.toList.drop 24 = dktX13_item_1 := dk_seg dksX13_item_0 24 rfl rfl
theorem dksX13_item_2 : cX13_item.data.toList.drop 48 = dktX13_item_2 := dk_seg dksX13_item_1 24 rfl rfl
theorem dX13_item_0 : decode cX13_item 0 = .ok (.iconst 5, 1) := dk_8 (dk_at dksX13_item_0 0 rfl rfl)
theorem dX13_item_1 : decode cX13_item 1 = .ok (.aload_n 0, 1) := dk_42 (dk_at dksX13_item_0 1 rfl rfl)
theorem dX13_item_2 : decode cX13_item 2 = .ok (.getfield 313, 3) := dk_180 1 57 (dk_at dksX13_item_0 2 rfl rfl)
theorem dX13_item_5 : decode cX13_item 5 = .ok (.imul, 1) := dk_104 (dk_at dksX13_item_0 5 rfl rfl)
theorem dX13_item_6 : decode cX13_item 6 = .ok (.istore 6, 2) := dk_54 6 (dk_at dksX13_item_0 6 rfl rfl)
theorem dX13_item_8 : decode cX13_item 8 = .ok (.aload_n 0, 1) := dk_42 (dk_at dksX13_item_0 8 rfl rfl)
theorem dX13_item_9 : decode cX13_item 9 = .ok (.getfield 57, 3) := dk_180 0 57 (dk_at dksX13_item_0 9 rfl rfl)
theorem dX13_item_12 : decode cX13_item 12 = .ok (.iload 6, 2) := dk_21 6 (dk_at dksX13_item_0 12 rfl rfl)
theorem dX13_item_14 : decode cX13_item 14 = .ok (.iload_n 1, 1) := dk_27 (dk_at dksX13_item_0 14 rfl rfl)
theorem dX13_item_15 : decode cX13_item 15 = .ok (.iastore, 1) := dk_79 (dk_at dksX13_item_0 15 rfl rfl)
theorem dX13_item_16 : decode cX13_item 16 = .ok (.aload_n 0, 1) := dk_42 (dk_at dksX13_item_0 16 rfl rfl)
theorem dX13_item_17 : decode cX13_item 17 = .ok (.getfield 57, 3) := dk_180 0 57 (dk_at dksX13_item_0 17 rfl rfl)
theorem dX13_item_20 : decode cX13_item 20 = .ok (.iload 6, 2) := dk_21 6 (dk_at dksX13_item_0 20 rfl rfl)
theorem dX13_item_22 : decode cX13_item 22 = .ok (.iconst 1, 1) := dk_4 (dk_at dksX13_item_0 22 rfl rfl)
theorem dX13_item_23 : decode cX13_item 23 = .ok (.iadd, 1) := dk_96 (dk_at dksX13_item_0 23 rfl rfl)
theorem dX13_item_24 : decode cX13_item 24 = .ok (.iload_n 2, 1) := dk_28 (dk_at dksX13_item_1 0 rfl rfl)
theorem dX13_item_25 : decode cX13_item 25 = .ok (.iastore, 1) := dk_79 (dk_at dksX13_item_1 1 rfl rfl)
theorem dX13_item_26 : decode cX13_item 26 = .ok (.aload_n 0, 1) := dk_42 (dk_at dksX13_item_1 2 rfl rfl)
theorem dX13_item_27 : decode cX13_item 27 = .ok (.getfield 57, 3) := dk_180 0 57 (dk_at dksX13_item_1 3 rfl rfl)
theorem dX13_item_30 : decode cX13_item 30 = .ok (.iload 6, 2) := dk_21 6 (dk_at dksX13_item_1 6 rfl rfl)
theorem dX13_item_32 : decode cX13_item 32 = .ok (.iconst 2, 1) := dk_5 (dk_at dksX13_item_1 8 rfl rfl)
theorem dX13_item_33 : decode cX13_item 33 = .ok (.iadd, 1) := dk_96 (dk_at dksX13_item_1 9 rfl rfl)
theorem dX13_item_34 : decode cX13_item 34 = .ok (.iload_n 3, 1) := dk_29 (dk_at dksX13_item_1 10 rfl rfl)
theorem dX13_item_35 : decode cX13_item 35 = .ok (.iastore, 1) := dk_79 (dk_at dksX13_item_1 11 rfl rfl)
theorem dX13_item_36 : decode cX13_item 36 = .ok (.aload_n 0, 1) := dk_42 (dk_at dksX13_item_1 12 rfl rfl)
theorem dX13_item_37 : decode cX13_item 37 = .ok (.getfield 57, 3) := dk_180 0 57 (dk_at dksX13_item_1 13 rfl rfl)
theorem dX13_item_40 : decode cX13_item 40 = .ok (.iload 6, 2) := dk_21 6 (dk_at dksX13_item_1 16 rfl rfl)
theorem dX13_item_42 : decode cX13_item 42 = .ok (.iconst 3, 1) := dk_6 (dk_at dksX13_item_1 18 rfl rfl)
theorem dX13_item_43 : decode cX13_item 43 = .ok (.iadd, 1) := dk_96 (dk_at dksX13_item_1 19 rfl rfl)
theorem dX13_item_44 : decode cX13_item 44 = .ok (.iload 4, 2) := dk_21 4 (dk_at dksX13_item_1 20 rfl rfl)
theorem dX13_item_46 : decode cX13_item 46 = .ok (.iastore, 1) := dk_79 (dk_at dksX13_item_1 22 rfl rfl)
theorem dX13_item_47 : decode cX13_item 47 = .ok (.aload_n 0, 1) := dk_42 (dk_at dksX13_item_1 23 rfl rfl)
theorem dX13_item_48 : decode cX13_item 48 = .ok (.getfield 57, 3) := dk_180 0 57 (dk_at dksX13_item_2 0 rfl rfl)
theorem dX13_item_51 : decode cX13_item 51 = .ok (.iload 6, 2) := dk_21 6 (dk_at dksX13_item_2 3 rfl rfl)
theorem dX13_item_53 : decode cX13_item 53 = .ok (.iconst 4, 1) := dk_7 (dk_at dksX13_item_2 5 rfl rfl)
theorem dX13_item_54 : decode cX13_item 54 = .ok (.iadd, 1) := dk_96 (dk_at dksX13_item_2 6 rfl rfl)
theorem dX13_item_55 : decode cX13_item 55 = .ok (.iload 5, 2) := dk_21 5 (dk_at dksX13_item_2 7 rfl rfl)
theorem dX13_item_57 : decode cX13_item 57 = .ok (.iastore, 1) := dk_79 (dk_at dksX13_item_2 9 rfl rfl)
theorem dX13_item_58 : decode cX13_item 58 = .ok (.aload_n 0, 1) := dk_42 (dk_at dksX13_item_2 10 rfl rfl)
theorem dX13_item_59 : decode cX13_item 59 = .ok (.dup, 1) := dk_89 (dk_at dksX13_item_2 11 rfl rfl)
theorem dX13_item_60 : decode cX13_item 60 = .ok (.getfield 313, 3) := dk_180 1 57 (dk_at dksX13_item_2 12 rfl rfl)
theorem dX13_item_63 : decode cX13_item 63 = .ok (.iconst 1, 1) := dk_4 (dk_at dksX13_item_2 15 rfl rfl)
theorem dX13_item_64 : decode cX13_item 64 = .ok (.iadd, 1) := dk_96 (dk_at dksX13_item_2 16 rfl rfl)
theorem dX13_item_65 : decode cX13_item 65 = .ok (.putfield 313, 3) := dk_181 1 57 (dk_at dksX13_item_2 17 rfl rfl)
theorem dX13_item_68 : decode cX13_item 68 = .ok (.return_, 1) := dk_177 (dk_at dksX13_item_2 20 rfl rfl)
abbrev cX13_unlike : ByteArray := prog_16_method_101_code
def yX13_unlike : MethodName := ⟨RX13, "unlike", "(I)I"⟩
def dkwX13_unlike_1 : List UInt8 := [184, 0, 129, 153, 0, 12, 28, 27, 159, 0, 7, 4, 167, 0, 4, 3, 182, 1, 53, 28, 172]
abbrev dktX13_unlike_1 : List UInt8 := dkwX13_unlike_1 ++ []
def dkwX13_unlike_0 : List UInt8 := [42, 180, 1, 32, 61, 42, 42, 180, 1, 46, 154, 0, 27, 42, 180, 1, 35, 5, 160, 0, 19, 28]
abbrev dktX13_unlike_0 : List UInt8 := dkwX13_unlike_0 ++ dktX13_unlike_1
theorem dksX13_unlike_0 : cX13_unlike.data.toList.drop 0 = dktX13_unlike_0 := by decide +kernel
theorem dksX13_unlike_1 : cX13_unlike.data.toList.drop 22 = dktX13_unlike_1 := dk_seg dksX13_unlike_0 22 rfl rfl
theorem dX13_unlike_0 : decode cX13_unlike 0 = .ok (.aload_n 0, 1) := dk_42 (dk_at dksX13_unlike_0 0 rfl rfl)
theorem dX13_unlike_1 : decode cX13_unlike 1 = .ok (.getfield 288, 3) := dk_180 1 32 (dk_at dksX13_unlike_0 1 rfl rfl)
theorem dX13_unlike_4 : decode cX13_unlike 4 = .ok (.istore_n 2, 1) := dk_61 (dk_at dksX13_unlike_0 4 rfl rfl)
theorem dX13_unlike_5 : decode cX13_unlike 5 = .ok (.aload_n 0, 1) := dk_42 (dk_at dksX13_unlike_0 5 rfl rfl)
theorem dX13_unlike_6 : decode cX13_unlike 6 = .ok (.aload_n 0, 1) := dk_42 (dk_at dksX13_unlike_0 6 rfl rfl)
theorem dX13_unlike_7 : decode cX13_unlike 7 = .ok (.getfield 302, 3) := dk_180 1 46 (dk_at dksX13_unlike_0 7 rfl rfl)
theorem dX13_unlike_10 : decode cX13_unlike 10 = .ok (.ifCond .ne 27, 3) := dk_154 0 27 (dk_at dksX13_unlike_0 10 rfl rfl)
theorem dX13_unlike_13 : decode cX13_unlike 13 = .ok (.aload_n 0, 1) := dk_42 (dk_at dksX13_unlike_0 13 rfl rfl)
theorem dX13_unlike_14 : decode cX13_unlike 14 = .ok (.getfield 291, 3) := dk_180 1 35 (dk_at dksX13_unlike_0 14 rfl rfl)
theorem dX13_unlike_17 : decode cX13_unlike 17 = .ok (.iconst 2, 1) := dk_5 (dk_at dksX13_unlike_0 17 rfl rfl)
theorem dX13_unlike_18 : decode cX13_unlike 18 = .ok (.if_icmp .ne 19, 3) := dk_160 0 19 (dk_at dksX13_unlike_0 18 rfl rfl)
theorem dX13_unlike_21 : decode cX13_unlike 21 = .ok (.iload_n 2, 1) := dk_28 (dk_at dksX13_unlike_0 21 rfl rfl)
theorem dX13_unlike_22 : decode cX13_unlike 22 = .ok (.invokestatic 129, 3) := dk_184 0 129 (dk_at dksX13_unlike_1 0 rfl rfl)
theorem dX13_unlike_25 : decode cX13_unlike 25 = .ok (.ifCond .eq 12, 3) := dk_153 0 12 (dk_at dksX13_unlike_1 3 rfl rfl)
theorem dX13_unlike_28 : decode cX13_unlike 28 = .ok (.iload_n 2, 1) := dk_28 (dk_at dksX13_unlike_1 6 rfl rfl)
theorem dX13_unlike_29 : decode cX13_unlike 29 = .ok (.iload_n 1, 1) := dk_27 (dk_at dksX13_unlike_1 7 rfl rfl)
theorem dX13_unlike_30 : decode cX13_unlike 30 = .ok (.if_icmp .eq 7, 3) := dk_159 0 7 (dk_at dksX13_unlike_1 8 rfl rfl)
theorem dX13_unlike_33 : decode cX13_unlike 33 = .ok (.iconst 1, 1) := dk_4 (dk_at dksX13_unlike_1 11 rfl rfl)
theorem dX13_unlike_34 : decode cX13_unlike 34 = .ok (.goto 4, 3) := dk_167 0 4 (dk_at dksX13_unlike_1 12 rfl rfl)
theorem dX13_unlike_37 : decode cX13_unlike 37 = .ok (.iconst 0, 1) := dk_3 (dk_at dksX13_unlike_1 15 rfl rfl)
theorem dX13_unlike_38 : decode cX13_unlike 38 = .ok (.invokevirtual 309, 3) := dk_182 1 53 (dk_at dksX13_unlike_1 16 rfl rfl)
theorem dX13_unlike_41 : decode cX13_unlike 41 = .ok (.iload_n 2, 1) := dk_28 (dk_at dksX13_unlike_1 19 rfl rfl)
theorem dX13_unlike_42 : decode cX13_unlike 42 = .ok (.ireturn, 1) := dk_172 (dk_at dksX13_unlike_1 20 rfl rfl)
abbrev cX13_isSo : ByteArray := prog_16_method_103_code
def yX13_isSo : MethodName := ⟨RX13, "isSo", "(I)I"⟩
def dkwX13_isSo_4 : List UInt8 := [182, 0, 151, 172, 42, 28, 182, 0, 164, 172, 42, 42, 180, 0, 57, 27, 46, 28, 29, 182, 0, 97, 172]
abbrev dktX13_isSo_4 : List UInt8 := dkwX13_isSo_4 ++ []
def dkwX13_isSo_3 : List UInt8 := [42, 28, 29, 21, 4, 42, 180, 0, 57, 27, 7, 96, 46, 182, 0, 147, 172, 42, 28, 29, 21, 4]
abbrev dktX13_isSo_3 : List UInt8 := dkwX13_isSo_3 ++ dktX13_isSo_4
def dkwX13_isSo_2 : List UInt8 := [170, 0, 0, 0, 0, 58, 0, 0, 0, 10, 0, 0, 0, 12, 0, 0, 0, 26, 0, 0, 0, 43, 0, 0, 0, 52]
abbrev dktX13_isSo_2 : List UInt8 := dkwX13_isSo_2 ++ dktX13_isSo_3
def dkwX13_isSo_1 : List UInt8 := [96, 46, 54, 4, 42, 180, 0, 57, 27, 46]
abbrev dktX13_isSo_1 : List UInt8 := dkwX13_isSo_1 ++ dktX13_isSo_2
def dkwX13_isSo_0 : List UInt8 := [42, 180, 0, 57, 27, 4, 96, 46, 61, 42, 180, 0, 57, 27, 5, 96, 46, 62, 42, 180, 0, 57, 27, 6]
abbrev dktX13_isSo_0 : List UInt8 := dkwX13_isSo_0 ++ dktX13_isSo_1
theorem dksX13_isSo_0 : cX13_isSo.data.toList.drop 0 = dktX13_isSo_0 := by decide +kernel
theorem dksX13_isSo_1 : cX13_isSo.data.toList.drop 24 = dktX13_isSo_1 := dk_seg dksX13_isSo_0 24 rfl rfl
theorem dksX13_isSo_2 : cX13_isSo.data.toList.drop 34 = dktX13_isSo_2 := dk_seg dksX13_isSo_1 10 rfl rfl
theorem dksX13_isSo_3 : cX13_isSo.data.toList.drop 60 = dktX13_isSo_3 := dk_seg dksX13_isSo_2 26 rfl rfl
theorem dksX13_isSo_4 : cX13_isSo.data.toList.drop 82 = dktX13_isSo_4 := dk_seg dksX13_isSo_3 22 rfl rfl
theorem dX13_isSo_0 : decode cX13_isSo 0 = .ok (.aload_n 0, 1) := dk_42 (dk_at dksX13_isSo_0 0 rfl rfl)
theorem dX13_isSo_1 : decode cX13_isSo 1 = .ok (.getfield 57, 3) := dk_180 0 57 (dk_at dksX13_isSo_0 1 rfl rfl)
theorem dX13_isSo_4 : decode cX13_isSo 4 = .ok (.iload_n 1, 1) := dk_27 (dk_at dksX13_isSo_0 4 rfl rfl)
theorem dX13_isSo_5 : decode cX13_isSo 5 = .ok (.iconst 1, 1) := dk_4 (dk_at dksX13_isSo_0 5 rfl rfl)
theorem dX13_isSo_6 : decode cX13_isSo 6 = .ok (.iadd, 1) := dk_96 (dk_at dksX13_isSo_0 6 rfl rfl)
theorem dX13_isSo_7 : decode cX13_isSo 7 = .ok (.iaload, 1) := dk_46 (dk_at dksX13_isSo_0 7 rfl rfl)
theorem dX13_isSo_8 : decode cX13_isSo 8 = .ok (.istore_n 2, 1) := dk_61 (dk_at dksX13_isSo_0 8 rfl rfl)
theorem dX13_isSo_9 : decode cX13_isSo 9 = .ok (.aload_n 0, 1) := dk_42 (dk_at dksX13_isSo_0 9 rfl rfl)
theorem dX13_isSo_10 : decode cX13_isSo 10 = .ok (.getfield 57, 3) := dk_180 0 57 (dk_at dksX13_isSo_0 10 rfl rfl)
theorem dX13_isSo_13 : decode cX13_isSo 13 = .ok (.iload_n 1, 1) := dk_27 (dk_at dksX13_isSo_0 13 rfl rfl)
theorem dX13_isSo_14 : decode cX13_isSo 14 = .ok (.iconst 2, 1) := dk_5 (dk_at dksX13_isSo_0 14 rfl rfl)
theorem dX13_isSo_15 : decode cX13_isSo 15 = .ok (.iadd, 1) := dk_96 (dk_at dksX13_isSo_0 15 rfl rfl)
theorem dX13_isSo_16 : decode cX13_isSo 16 = .ok (.iaload, 1) := dk_46 (dk_at dksX13_isSo_0 16 rfl rfl)
theorem dX13_isSo_17 : decode cX13_isSo 17 = .ok (.istore_n 3, 1) := dk_62 (dk_at dksX13_isSo_0 17 rfl rfl)
theorem dX13_isSo_18 : decode cX13_isSo 18 = .ok (.aload_n 0, 1) := dk_42 (dk_at dksX13_isSo_0 18 rfl rfl)
theorem dX13_isSo_19 : decode cX13_isSo 19 = .ok (.getfield 57, 3) := dk_180 0 57 (dk_at dksX13_isSo_0 19 rfl rfl)
theorem dX13_isSo_22 : decode cX13_isSo 22 = .ok (.iload_n 1, 1) := dk_27 (dk_at dksX13_isSo_0 22 rfl rfl)
theorem dX13_isSo_23 : decode cX13_isSo 23 = .ok (.iconst 3, 1) := dk_6 (dk_at dksX13_isSo_0 23 rfl rfl)
theorem dX13_isSo_24 : decode cX13_isSo 24 = .ok (.iadd, 1) := dk_96 (dk_at dksX13_isSo_1 0 rfl rfl)
theorem dX13_isSo_25 : decode cX13_isSo 25 = .ok (.iaload, 1) := dk_46 (dk_at dksX13_isSo_1 1 rfl rfl)
theorem dX13_isSo_26 : decode cX13_isSo 26 = .ok (.istore 4, 2) := dk_54 4 (dk_at dksX13_isSo_1 2 rfl rfl)
theorem dX13_isSo_28 : decode cX13_isSo 28 = .ok (.aload_n 0, 1) := dk_42 (dk_at dksX13_isSo_1 4 rfl rfl)
theorem dX13_isSo_29 : decode cX13_isSo 29 = .ok (.getfield 57, 3) := dk_180 0 57 (dk_at dksX13_isSo_1 5 rfl rfl)
theorem dX13_isSo_32 : decode cX13_isSo 32 = .ok (.iload_n 1, 1) := dk_27 (dk_at dksX13_isSo_1 8 rfl rfl)
theorem dX13_isSo_33 : decode cX13_isSo 33 = .ok (.iaload, 1) := dk_46 (dk_at dksX13_isSo_1 9 rfl rfl)
theorem dX13_isSo_34 : decode cX13_isSo 34 = .ok (.tableswitch 58 10 12 #[26, 43, 52], 26) := by decide +kernel
theorem dX13_isSo_60 : decode cX13_isSo 60 = .ok (.aload_n 0, 1) := dk_42 (dk_at dksX13_isSo_3 0 rfl rfl)
theorem dX13_isSo_61 : decode cX13_isSo 61 = .ok (.iload_n 2, 1) := dk_28 (dk_at dksX13_isSo_3 1 rfl rfl)
theorem dX13_isSo_62 : decode cX13_isSo 62 = .ok (.iload_n 3, 1) := dk_29 (dk_at dksX13_isSo_3 2 rfl rfl)
theorem dX13_isSo_63 : decode cX13_isSo 63 = .ok (.iload 4, 2) := dk_21 4 (dk_at dksX13_isSo_3 3 rfl rfl)
theorem dX13_isSo_65 : decode cX13_isSo 65 = .ok (.aload_n 0, 1) := dk_42 (dk_at dksX13_isSo_3 5 rfl rfl)
theorem dX13_isSo_66 : decode cX13_isSo 66 = .ok (.getfield 57, 3) := dk_180 0 57 (dk_at dksX13_isSo_3 6 rfl rfl)
theorem dX13_isSo_69 : decode cX13_isSo 69 = .ok (.iload_n 1, 1) := dk_27 (dk_at dksX13_isSo_3 9 rfl rfl)
theorem dX13_isSo_70 : decode cX13_isSo 70 = .ok (.iconst 4, 1) := dk_7 (dk_at dksX13_isSo_3 10 rfl rfl)
theorem dX13_isSo_71 : decode cX13_isSo 71 = .ok (.iadd, 1) := dk_96 (dk_at dksX13_isSo_3 11 rfl rfl)
theorem dX13_isSo_72 : decode cX13_isSo 72 = .ok (.iaload, 1) := dk_46 (dk_at dksX13_isSo_3 12 rfl rfl)
theorem dX13_isSo_73 : decode cX13_isSo 73 = .ok (.invokevirtual 147, 3) := dk_182 0 147 (dk_at dksX13_isSo_3 13 rfl rfl)
theorem dX13_isSo_76 : decode cX13_isSo 76 = .ok (.ireturn, 1) := dk_172 (dk_at dksX13_isSo_3 16 rfl rfl)
theorem dX13_isSo_77 : decode cX13_isSo 77 = .ok (.aload_n 0, 1) := dk_42 (dk_at dksX13_isSo_3 17 rfl rfl)
theorem dX13_isSo_78 : decode cX13_isSo 78 = .ok (.iload_n 2, 1) := dk_28 (dk_at dksX13_isSo_3 18 rfl rfl)
theorem dX13_isSo_79 : decode cX13_isSo 79 = .ok (.iload_n 3, 1) := dk_29 (dk_at dksX13_isSo_3 19 rfl rfl)
theorem dX13_isSo_80 : decode cX13_isSo 80 = .ok (.iload 4, 2) := dk_21 4 (dk_at dksX13_isSo_3 20 rfl rfl)
theorem dX13_isSo_82 : decode cX13_isSo 82 = .ok (.invokevirtual 151, 3) := dk_182 0 151 (dk_at dksX13_isSo_4 0 rfl rfl)
theorem dX13_isSo_85 : decode cX13_isSo 85 = .ok (.ireturn, 1) := dk_172 (dk_at dksX13_isSo_4 3 rfl rfl)
theorem dX13_isSo_86 : decode cX13_isSo 86 = .ok (.aload_n 0, 1) := dk_42 (dk_at dksX13_isSo_4 4 rfl rfl)
theorem dX13_isSo_87 : decode cX13_isSo 87 = .ok (.iload_n 2, 1) := dk_28 (dk_at dksX13_isSo_4 5 rfl rfl)
theorem dX13_isSo_88 : decode cX13_isSo 88 = .ok (.invokevirtual 164, 3) := dk_182 0 164 (dk_at dksX13_isSo_4 6 rfl rfl)
theorem dX13_isSo_91 : decode cX13_isSo 91 = .ok (.ireturn, 1) := dk_172 (dk_at dksX13_isSo_4 9 rfl rfl)
theorem dX13_isSo_92 : decode cX13_isSo 92 = .ok (.aload_n 0, 1) := dk_42 (dk_at dksX13_isSo_4 10 rfl rfl)
theorem dX13_isSo_93 : decode cX13_isSo 93 = .ok (.aload_n 0, 1) := dk_42 (dk_at dksX13_isSo_4 11 rfl rfl)
theorem dX13_isSo_94 : decode cX13_isSo 94 = .ok (.getfield 57, 3) := dk_180 0 57 (dk_at dksX13_isSo_4 12 rfl rfl)
theorem dX13_isSo_97 : decode cX13_isSo 97 = .ok (.iload_n 1, 1) := dk_27 (dk_at dksX13_isSo_4 15 rfl rfl)
theorem dX13_isSo_98 : decode cX13_isSo 98 = .ok (.iaload, 1) := dk_46 (dk_at dksX13_isSo_4 16 rfl rfl)
theorem dX13_isSo_99 : decode cX13_isSo 99 = .ok (.iload_n 2, 1) := dk_28 (dk_at dksX13_isSo_4 17 rfl rfl)
theorem dX13_isSo_100 : decode cX13_isSo 100 = .ok (.iload_n 3, 1) := dk_29 (dk_at dksX13_isSo_4 18 rfl rfl)
theorem dX13_isSo_101 : decode cX13_isSo 101 = .ok (.invokevirtual 97, 3) := dk_182 0 97 (dk_at dksX13_isSo_4 19 rfl rfl)
theorem dX13_isSo_104 : decode cX13_isSo 104 = .ok (.ireturn, 1) := dk_172 (dk_at dksX13_isSo_4 22 rfl rfl)
abbrev cX13_hold : ByteArray := prog_16_method_106_code
def yX13_hold : MethodName := ⟨RX13, "hold", "(II)I"⟩
def dkwX13_hold_1 : List UInt8 := [182, 0, 92, 172, 42, 180, 0, 9, 16, 46, 27, 96, 28, 79, 4, 172]
abbrev dktX13_hold_1 : List UInt8 := dkwX13_hold_1 ++ []
def dkwX13_hold_0 : List UInt8 := [27, 184, 1, 113, 153, 0, 16, 28, 2, 159, 0, 18, 42, 28, 182, 0, 117, 154, 0, 10, 42, 18, 72]
abbrev dktX13_hold_0 : List UInt8 := dkwX13_hold_0 ++ dktX13_hold_1
theorem dksX13_hold_0 : cX13_hold.data.toList.drop 0 = dktX13_hold_0 := by decide +kernel
theorem dksX13_hold_1 : cX13_hold.data.toList.drop 23 = dktX13_hold_1 := dk_seg dksX13_hold_0 23 rfl rfl
theorem dX13_hold_0 : decode cX13_hold 0 = .ok (.iload_n 1, 1) := dk_27 (dk_at dksX13_hold_0 0 rfl rfl)
theorem dX13_hold_1 : decode cX13_hold 1 = .ok (.invokestatic 369, 3) := dk_184 1 113 (dk_at dksX13_hold_0 1 rfl rfl)
theorem dX13_hold_4 : decode cX13_hold 4 = .ok (.ifCond .eq 16, 3) := dk_153 0 16 (dk_at dksX13_hold_0 4 rfl rfl)
theorem dX13_hold_7 : decode cX13_hold 7 = .ok (.iload_n 2, 1) := dk_28 (dk_at dksX13_hold_0 7 rfl rfl)
theorem dX13_hold_8 : decode cX13_hold 8 = .ok (.iconst (-1), 1) := dk_2 (dk_at dksX13_hold_0 8 rfl rfl)
theorem dX13_hold_9 : decode cX13_hold 9 = .ok (.if_icmp .eq 18, 3) := dk_159 0 18 (dk_at dksX13_hold_0 9 rfl rfl)
theorem dX13_hold_12 : decode cX13_hold 12 = .ok (.aload_n 0, 1) := dk_42 (dk_at dksX13_hold_0 12 rfl rfl)
theorem dX13_hold_13 : decode cX13_hold 13 = .ok (.iload_n 2, 1) := dk_28 (dk_at dksX13_hold_0 13 rfl rfl)
theorem dX13_hold_14 : decode cX13_hold 14 = .ok (.invokevirtual 117, 3) := dk_182 0 117 (dk_at dksX13_hold_0 14 rfl rfl)
theorem dX13_hold_17 : decode cX13_hold 17 = .ok (.ifCond .ne 10, 3) := dk_154 0 10 (dk_at dksX13_hold_0 17 rfl rfl)
theorem dX13_hold_20 : decode cX13_hold 20 = .ok (.aload_n 0, 1) := dk_42 (dk_at dksX13_hold_0 20 rfl rfl)
theorem dX13_hold_21 : decode cX13_hold 21 = .ok (.ldc 72, 2) := dk_18 72 (dk_at dksX13_hold_0 21 rfl rfl)
theorem dX13_hold_23 : decode cX13_hold 23 = .ok (.invokevirtual 92, 3) := dk_182 0 92 (dk_at dksX13_hold_1 0 rfl rfl)
theorem dX13_hold_26 : decode cX13_hold 26 = .ok (.ireturn, 1) := dk_172 (dk_at dksX13_hold_1 3 rfl rfl)
theorem dX13_hold_27 : decode cX13_hold 27 = .ok (.aload_n 0, 1) := dk_42 (dk_at dksX13_hold_1 4 rfl rfl)
theorem dX13_hold_28 : decode cX13_hold 28 = .ok (.getfield 9, 3) := dk_180 0 9 (dk_at dksX13_hold_1 5 rfl rfl)
theorem dX13_hold_31 : decode cX13_hold 31 = .ok (.bipush 46, 2) := dk_16 46 (dk_at dksX13_hold_1 8 rfl rfl)
theorem dX13_hold_33 : decode cX13_hold 33 = .ok (.iload_n 1, 1) := dk_27 (dk_at dksX13_hold_1 10 rfl rfl)
theorem dX13_hold_34 : decode cX13_hold 34 = .ok (.iadd, 1) := dk_96 (dk_at dksX13_hold_1 11 rfl rfl)
theorem dX13_hold_35 : decode cX13_hold 35 = .ok (.iload_n 2, 1) := dk_28 (dk_at dksX13_hold_1 12 rfl rfl)
theorem dX13_hold_36 : decode cX13_hold 36 = .ok (.iastore, 1) := dk_79 (dk_at dksX13_hold_1 13 rfl rfl)
theorem dX13_hold_37 : decode cX13_hold 37 = .ok (.iconst 1, 1) := dk_4 (dk_at dksX13_hold_1 14 rfl rfl)
theorem dX13_hold_38 : decode cX13_hold 38 = .ok (.ireturn, 1) := dk_172 (dk_at dksX13_hold_1 15 rfl rfl)
abbrev cX13_isSpot : ByteArray := prog_16_method_105_code
def yX13_isSpot : MethodName := ⟨RX13, "isSpot", "(I)Z"⟩
def dkwX13_isSpot_0 : List UInt8 := [26, 3, 16, 9, 184, 0, 77, 172]
abbrev dktX13_isSpot_0 : List UInt8 := dkwX13_isSpot_0 ++ []
theorem dksX13_isSpot_0 : cX13_isSpot.data.toList.drop 0 = dktX13_isSpot_0 := by decide +kernel
theorem dX13_isSpot_0 : decode cX13_isSpot 0 = .ok (.iload_n 0, 1) := dk_26 (dk_at dksX13_isSpot_0 0 rfl rfl)
theorem dX13_isSpot_1 : decode cX13_isSpot 1 = .ok (.iconst 0, 1) := dk_3 (dk_at dksX13_isSpot_0 1 rfl rfl)
theorem dX13_isSpot_2 : decode cX13_isSpot 2 = .ok (.bipush 9, 2) := dk_16 9 (dk_at dksX13_isSpot_0 2 rfl rfl)
theorem dX13_isSpot_4 : decode cX13_isSpot 4 = .ok (.invokestatic 77, 3) := dk_184 0 77 (dk_at dksX13_isSpot_0 4 rfl rfl)
theorem dX13_isSpot_7 : decode cX13_isSpot 7 = .ok (.ireturn, 1) := dk_172 (dk_at dksX13_isSpot_0 7 rfl rfl)
abbrev cX13_as : ByteArray := prog_16_method_107_code
def yX13_as : MethodName := ⟨RX13, "as", "(II)I"⟩
def dkwX13_as_2 : List UInt8 := [182, 0, 104, 28, 184, 0, 107, 153, 0, 7, 29, 167, 0, 10, 42, 19, 1, 117, 182, 0, 92, 172]
abbrev dktX13_as_2 : List UInt8 := dkwX13_as_2 ++ []
def dkwX13_as_1 : List UInt8 := [180, 0, 9, 16, 46, 27, 96, 46, 62, 29, 156, 0, 11, 42, 19, 1, 116, 182, 0, 92, 172, 42, 29, 3]
abbrev dktX13_as_1 : List UInt8 := dkwX13_as_1 ++ dktX13_as_2
def dkwX13_as_0 : List UInt8 := [27, 184, 1, 113, 153, 0, 10, 28, 184, 0, 88, 154, 0, 10, 42, 18, 72, 182, 0, 92, 172, 42]
abbrev dktX13_as_0 : List UInt8 := dkwX13_as_0 ++ dktX13_as_1
theorem dksX13_as_0 : cX13_as.data.toList.drop 0 = dktX13_as_0 := by decide +kernel
theorem dksX13_as_1 : cX13_as.data.toList.drop 22 = dktX13_as_1 := dk_seg dksX13_as_0 22 rfl rfl
theorem dksX13_as_2 : cX13_as.data.toList.drop 46 = dktX13_as_2 := dk_seg dksX13_as_1 24 rfl rfl
theorem dX13_as_0 : decode cX13_as 0 = .ok (.iload_n 1, 1) := dk_27 (dk_at dksX13_as_0 0 rfl rfl)
theorem dX13_as_1 : decode cX13_as 1 = .ok (.invokestatic 369, 3) := dk_184 1 113 (dk_at dksX13_as_0 1 rfl rfl)
theorem dX13_as_4 : decode cX13_as 4 = .ok (.ifCond .eq 10, 3) := dk_153 0 10 (dk_at dksX13_as_0 4 rfl rfl)
theorem dX13_as_7 : decode cX13_as 7 = .ok (.iload_n 2, 1) := dk_28 (dk_at dksX13_as_0 7 rfl rfl)
theorem dX13_as_8 : decode cX13_as 8 = .ok (.invokestatic 88, 3) := dk_184 0 88 (dk_at dksX13_as_0 8 rfl rfl)
theorem dX13_as_11 : decode cX13_as 11 = .ok (.ifCond .ne 10, 3) := dk_154 0 10 (dk_at dksX13_as_0 11 rfl rfl)
theorem dX13_as_14 : decode cX13_as 14 = .ok (.aload_n 0, 1) := dk_42 (dk_at dksX13_as_0 14 rfl rfl)
theorem dX13_as_15 : decode cX13_as 15 = .ok (.ldc 72, 2) := dk_18 72 (dk_at dksX13_as_0 15 rfl rfl)
theorem dX13_as_17 : decode cX13_as 17 = .ok (.invokevirtual 92, 3) := dk_182 0 92 (dk_at dksX13_as_0 17 rfl rfl)
theorem dX13_as_20 : decode cX13_as 20 = .ok (.ireturn, 1) := dk_172 (dk_at dksX13_as_0 20 rfl rfl)
theorem dX13_as_21 : decode cX13_as 21 = .ok (.aload_n 0, 1) := dk_42 (dk_at dksX13_as_0 21 rfl rfl)
theorem dX13_as_22 : decode cX13_as 22 = .ok (.getfield 9, 3) := dk_180 0 9 (dk_at dksX13_as_1 0 rfl rfl)
theorem dX13_as_25 : decode cX13_as 25 = .ok (.bipush 46, 2) := dk_16 46 (dk_at dksX13_as_1 3 rfl rfl)
theorem dX13_as_27 : decode cX13_as 27 = .ok (.iload_n 1, 1) := dk_27 (dk_at dksX13_as_1 5 rfl rfl)
theorem dX13_as_28 : decode cX13_as 28 = .ok (.iadd, 1) := dk_96 (dk_at dksX13_as_1 6 rfl rfl)
theorem dX13_as_29 : decode cX13_as 29 = .ok (.iaload, 1) := dk_46 (dk_at dksX13_as_1 7 rfl rfl)
theorem dX13_as_30 : decode cX13_as 30 = .ok (.istore_n 3, 1) := dk_62 (dk_at dksX13_as_1 8 rfl rfl)
theorem dX13_as_31 : decode cX13_as 31 = .ok (.iload_n 3, 1) := dk_29 (dk_at dksX13_as_1 9 rfl rfl)
theorem dX13_as_32 : decode cX13_as 32 = .ok (.ifCond .ge 11, 3) := dk_156 0 11 (dk_at dksX13_as_1 10 rfl rfl)
theorem dX13_as_35 : decode cX13_as 35 = .ok (.aload_n 0, 1) := dk_42 (dk_at dksX13_as_1 13 rfl rfl)
theorem dX13_as_36 : decode cX13_as 36 = .ok (.ldc_w 372, 3) := dk_19 1 116 (dk_at dksX13_as_1 14 rfl rfl)
theorem dX13_as_39 : decode cX13_as 39 = .ok (.invokevirtual 92, 3) := dk_182 0 92 (dk_at dksX13_as_1 17 rfl rfl)
theorem dX13_as_42 : decode cX13_as 42 = .ok (.ireturn, 1) := dk_172 (dk_at dksX13_as_1 20 rfl rfl)
theorem dX13_as_43 : decode cX13_as 43 = .ok (.aload_n 0, 1) := dk_42 (dk_at dksX13_as_1 21 rfl rfl)
theorem dX13_as_44 : decode cX13_as 44 = .ok (.iload_n 3, 1) := dk_29 (dk_at dksX13_as_1 22 rfl rfl)
theorem dX13_as_45 : decode cX13_as 45 = .ok (.iconst 0, 1) := dk_3 (dk_at dksX13_as_1 23 rfl rfl)
theorem dX13_as_46 : decode cX13_as 46 = .ok (.invokevirtual 104, 3) := dk_182 0 104 (dk_at dksX13_as_2 0 rfl rfl)
theorem dX13_as_49 : decode cX13_as 49 = .ok (.iload_n 2, 1) := dk_28 (dk_at dksX13_as_2 3 rfl rfl)
theorem dX13_as_50 : decode cX13_as 50 = .ok (.invokestatic 107, 3) := dk_184 0 107 (dk_at dksX13_as_2 4 rfl rfl)
theorem dX13_as_53 : decode cX13_as 53 = .ok (.ifCond .eq 7, 3) := dk_153 0 7 (dk_at dksX13_as_2 7 rfl rfl)
theorem dX13_as_56 : decode cX13_as 56 = .ok (.iload_n 3, 1) := dk_29 (dk_at dksX13_as_2 10 rfl rfl)
theorem dX13_as_57 : decode cX13_as 57 = .ok (.goto 10, 3) := dk_167 0 10 (dk_at dksX13_as_2 11 rfl rfl)
theorem dX13_as_60 : decode cX13_as 60 = .ok (.aload_n 0, 1) := dk_42 (dk_at dksX13_as_2 14 rfl rfl)
theorem dX13_as_61 : decode cX13_as 61 = .ok (.ldc_w 373, 3) := dk_19 1 117 (dk_at dksX13_as_2 15 rfl rfl)
theorem dX13_as_64 : decode cX13_as 64 = .ok (.invokevirtual 92, 3) := dk_182 0 92 (dk_at dksX13_as_2 18 rfl rfl)
theorem dX13_as_67 : decode cX13_as 67 = .ok (.ireturn, 1) := dk_172 (dk_at dksX13_as_2 21 rfl rfl)
abbrev cX13_sheet : ByteArray := prog_16_method_110_code
def yX13_sheet : MethodName := ⟨RX13, "sheet", "(III)I"⟩
def dkwX13_sheet_5 : List UInt8 := [172]
abbrev dktX13_sheet_5 : List UInt8 := dkwX13_sheet_5 ++ []
def dkwX13_sheet_4 : List UInt8 := [180, 0, 66, 16, 40, 27, 104, 21, 4, 96, 3, 79, 132, 4, 1, 167, 255, 233, 42, 180, 0, 63, 27, 46]
abbrev dktX13_sheet_4 : List UInt8 := dkwX13_sheet_4 ++ dktX13_sheet_5
def dkwX13_sheet_3 : List UInt8 := [27, 28, 154, 0, 7, 3, 167, 0, 4, 29, 79, 3, 54, 4, 21, 4, 16, 40, 162, 0, 22, 42]
abbrev dktX13_sheet_3 : List UInt8 := dkwX13_sheet_3 ++ dktX13_sheet_4
def dkwX13_sheet_2 : List UInt8 := [29, 16, 40, 164, 0, 10, 42, 18, 72, 182, 0, 92, 172, 42, 180, 0, 60, 27, 28, 79, 42, 180, 0, 63]
abbrev dktX13_sheet_2 : List UInt8 := dkwX13_sheet_2 ++ dktX13_sheet_3
def dkwX13_sheet_1 : List UInt8 := [16, 32, 159, 0, 10, 42, 18, 72, 182, 0, 92, 172, 29, 156, 0, 11, 42, 19, 1, 121, 182, 0, 92, 172]
abbrev dktX13_sheet_1 : List UInt8 := dkwX13_sheet_1 ++ dktX13_sheet_2
def dkwX13_sheet_0 : List UInt8 := [27, 184, 1, 118, 153, 0, 25, 28, 153, 0, 28, 28, 16, 8, 159, 0, 22, 28, 16, 16, 159, 0, 16, 28]
abbrev dktX13_sheet_0 : List UInt8 := dkwX13_sheet_0 ++ dktX13_sheet_1
theorem dksX13_sheet_0 : cX13_sheet.data.toList.drop 0 = dktX13_sheet_0 := by decide +kernel
theorem dksX13_sheet_1 : cX13_sheet.data.toList.drop 24 = dktX13_sheet_1 := dk_seg dksX13_sheet_0 24 rfl rfl
theorem dksX13_sheet_2 : cX13_sheet.data.toList.drop 48 = dktX13_sheet_2 := dk_seg dksX13_sheet_1 24 rfl rfl
theorem dksX13_sheet_3 : cX13_sheet.data.toList.drop 72 = dktX13_sheet_3 := dk_seg dksX13_sheet_2 24 rfl rfl
theorem dksX13_sheet_4 : cX13_sheet.data.toList.drop 94 = dktX13_sheet_4 := dk_seg dksX13_sheet_3 22 rfl rfl
theorem dksX13_sheet_5 : cX13_sheet.data.toList.drop 118 = dktX13_sheet_5 := dk_seg dksX13_sheet_4 24 rfl rfl
theorem dX13_sheet_0 : decode cX13_sheet 0 = .ok (.iload_n 1, 1) := dk_27 (dk_at dksX13_sheet_0 0 rfl rfl)
theorem dX13_sheet_1 : decode cX13_sheet 1 = .ok (.invokestatic 374, 3) := dk_184 1 118 (dk_at dksX13_sheet_0 1 rfl rfl)
theorem dX13_sheet_4 : decode cX13_sheet 4 = .ok (.ifCond .eq 25, 3) := dk_153 0 25 (dk_at dksX13_sheet_0 4 rfl rfl)
theorem dX13_sheet_7 : decode cX13_sheet 7 = .ok (.iload_n 2, 1) := dk_28 (dk_at dksX13_sheet_0 7 rfl rfl)
theorem dX13_sheet_8 : decode cX13_sheet 8 = .ok (.ifCond .eq 28, 3) := dk_153 0 28 (dk_at dksX13_sheet_0 8 rfl rfl)
theorem dX13_sheet_11 : decode cX13_sheet 11 = .ok (.iload_n 2, 1) := dk_28 (dk_at dksX13_sheet_0 11 rfl rfl)
theorem dX13_sheet_12 : decode cX13_sheet 12 = .ok (.bipush 8, 2) := dk_16 8 (dk_at dksX13_sheet_0 12 rfl rfl)
theorem dX13_sheet_14 : decode cX13_sheet 14 = .ok (.if_icmp .eq 22, 3) := dk_159 0 22 (dk_at dksX13_sheet_0 14 rfl rfl)
theorem dX13_sheet_17 : decode cX13_sheet 17 = .ok (.iload_n 2, 1) := dk_28 (dk_at dksX13_sheet_0 17 rfl rfl)
theorem dX13_sheet_18 : decode cX13_sheet 18 = .ok (.bipush 16, 2) := dk_16 16 (dk_at dksX13_sheet_0 18 rfl rfl)
theorem dX13_sheet_20 : decode cX13_sheet 20 = .ok (.if_icmp .eq 16, 3) := dk_159 0 16 (dk_at dksX13_sheet_0 20 rfl rfl)
theorem dX13_sheet_23 : decode cX13_sheet 23 = .ok (.iload_n 2, 1) := dk_28 (dk_at dksX13_sheet_0 23 rfl rfl)
theorem dX13_sheet_24 : decode cX13_sheet 24 = .ok (.bipush 32, 2) := dk_16 32 (dk_at dksX13_sheet_1 0 rfl rfl)
theorem dX13_sheet_26 : decode cX13_sheet 26 = .ok (.if_icmp .eq 10, 3) := dk_159 0 10 (dk_at dksX13_sheet_1 2 rfl rfl)
theorem dX13_sheet_29 : decode cX13_sheet 29 = .ok (.aload_n 0, 1) := dk_42 (dk_at dksX13_sheet_1 5 rfl rfl)
theorem dX13_sheet_30 : decode cX13_sheet 30 = .ok (.ldc 72, 2) := dk_18 72 (dk_at dksX13_sheet_1 6 rfl rfl)
theorem dX13_sheet_32 : decode cX13_sheet 32 = .ok (.invokevirtual 92, 3) := dk_182 0 92 (dk_at dksX13_sheet_1 8 rfl rfl)
theorem dX13_sheet_35 : decode cX13_sheet 35 = .ok (.ireturn, 1) := dk_172 (dk_at dksX13_sheet_1 11 rfl rfl)
theorem dX13_sheet_36 : decode cX13_sheet 36 = .ok (.iload_n 3, 1) := dk_29 (dk_at dksX13_sheet_1 12 rfl rfl)
theorem dX13_sheet_37 : decode cX13_sheet 37 = .ok (.ifCond .ge 11, 3) := dk_156 0 11 (dk_at dksX13_sheet_1 13 rfl rfl)
theorem dX13_sheet_40 : decode cX13_sheet 40 = .ok (.aload_n 0, 1) := dk_42 (dk_at dksX13_sheet_1 16 rfl rfl)
theorem dX13_sheet_41 : decode cX13_sheet 41 = .ok (.ldc_w 377, 3) := dk_19 1 121 (dk_at dksX13_sheet_1 17 rfl rfl)
theorem dX13_sheet_44 : decode cX13_sheet 44 = .ok (.invokevirtual 92, 3) := dk_182 0 92 (dk_at dksX13_sheet_1 20 rfl rfl)
theorem dX13_sheet_47 : decode cX13_sheet 47 = .ok (.ireturn, 1) := dk_172 (dk_at dksX13_sheet_1 23 rfl rfl)
theorem dX13_sheet_48 : decode cX13_sheet 48 = .ok (.iload_n 3, 1) := dk_29 (dk_at dksX13_sheet_2 0 rfl rfl)
theorem dX13_sheet_49 : decode cX13_sheet 49 = .ok (.bipush 40, 2) := dk_16 40 (dk_at dksX13_sheet_2 1 rfl rfl)
theorem dX13_sheet_51 : decode cX13_sheet 51 = .ok (.if_icmp .le 10, 3) := dk_164 0 10 (dk_at dksX13_sheet_2 3 rfl rfl)
theorem dX13_sheet_54 : decode cX13_sheet 54 = .ok (.aload_n 0, 1) := dk_42 (dk_at dksX13_sheet_2 6 rfl rfl)
theorem dX13_sheet_55 : decode cX13_sheet 55 = .ok (.ldc 72, 2) := dk_18 72 (dk_at dksX13_sheet_2 7 rfl rfl)
theorem dX13_sheet_57 : decode cX13_sheet 57 = .ok (.invokevirtual 92, 3) := dk_182 0 92 (dk_at dksX13_sheet_2 9 rfl rfl)
theorem dX13_sheet_60 : decode cX13_sheet 60 = .ok (.ireturn, 1) := dk_172 (dk_at dksX13_sheet_2 12 rfl rfl)
theorem dX13_sheet_61 : decode cX13_sheet 61 = .ok (.aload_n 0, 1) := dk_42 (dk_at dksX13_sheet_2 13 rfl rfl)
theorem dX13_sheet_62 : decode cX13_sheet 62 = .ok (.getfield 60, 3) := dk_180 0 60 (dk_at dksX13_sheet_2 14 rfl rfl)
theorem dX13_sheet_65 : decode cX13_sheet 65 = .ok (.iload_n 1, 1) := dk_27 (dk_at dksX13_sheet_2 17 rfl rfl)
theorem dX13_sheet_66 : decode cX13_sheet 66 = .ok (.iload_n 2, 1) := dk_28 (dk_at dksX13_sheet_2 18 rfl rfl)
theorem dX13_sheet_67 : decode cX13_sheet 67 = .ok (.iastore, 1) := dk_79 (dk_at dksX13_sheet_2 19 rfl rfl)
theorem dX13_sheet_68 : decode cX13_sheet 68 = .ok (.aload_n 0, 1) := dk_42 (dk_at dksX13_sheet_2 20 rfl rfl)
theorem dX13_sheet_69 : decode cX13_sheet 69 = .ok (.getfield 63, 3) := dk_180 0 63 (dk_at dksX13_sheet_2 21 rfl rfl)
theorem dX13_sheet_72 : decode cX13_sheet 72 = .ok (.iload_n 1, 1) := dk_27 (dk_at dksX13_sheet_3 0 rfl rfl)
theorem dX13_sheet_73 : decode cX13_sheet 73 = .ok (.iload_n 2, 1) := dk_28 (dk_at dksX13_sheet_3 1 rfl rfl)
theorem dX13_sheet_74 : decode cX13_sheet 74 = .ok (.ifCond .ne 7, 3) := dk_154 0 7 (dk_at dksX13_sheet_3 2 rfl rfl)
theorem dX13_sheet_77 : decode cX13_sheet 77 = .ok (.iconst 0, 1) := dk_3 (dk_at dksX13_sheet_3 5 rfl rfl)
theorem dX13_sheet_78 : decode cX13_sheet 78 = .ok (.goto 4, 3) := dk_167 0 4 (dk_at dksX13_sheet_3 6 rfl rfl)
theorem dX13_sheet_81 : decode cX13_sheet 81 = .ok (.iload_n 3, 1) := dk_29 (dk_at dksX13_sheet_3 9 rfl rfl)
theorem dX13_sheet_82 : decode cX13_sheet 82 = .ok (.iastore, 1) := dk_79 (dk_at dksX13_sheet_3 10 rfl rfl)
theorem dX13_sheet_83 : decode cX13_sheet 83 = .ok (.iconst 0, 1) := dk_3 (dk_at dksX13_sheet_3 11 rfl rfl)
theorem dX13_sheet_84 : decode cX13_sheet 84 = .ok (.istore 4, 2) := dk_54 4 (dk_at dksX13_sheet_3 12 rfl rfl)
theorem dX13_sheet_86 : decode cX13_sheet 86 = .ok (.iload 4, 2) := dk_21 4 (dk_at dksX13_sheet_3 14 rfl rfl)
theorem dX13_sheet_88 : decode cX13_sheet 88 = .ok (.bipush 40, 2) := dk_16 40 (dk_at dksX13_sheet_3 16 rfl rfl)
theorem dX13_sheet_90 : decode cX13_sheet 90 = .ok (.if_icmp .ge 22, 3) := dk_162 0 22 (dk_at dksX13_sheet_3 18 rfl rfl)
theorem dX13_sheet_93 : decode cX13_sheet 93 = .ok (.aload_n 0, 1) := dk_42 (dk_at dksX13_sheet_3 21 rfl rfl)
theorem dX13_sheet_94 : decode cX13_sheet 94 = .ok (.getfield 66, 3) := dk_180 0 66 (dk_at dksX13_sheet_4 0 rfl rfl)
theorem dX13_sheet_97 : decode cX13_sheet 97 = .ok (.bipush 40, 2) := dk_16 40 (dk_at dksX13_sheet_4 3 rfl rfl)
theorem dX13_sheet_99 : decode cX13_sheet 99 = .ok (.iload_n 1, 1) := dk_27 (dk_at dksX13_sheet_4 5 rfl rfl)
theorem dX13_sheet_100 : decode cX13_sheet 100 = .ok (.imul, 1) := dk_104 (dk_at dksX13_sheet_4 6 rfl rfl)
theorem dX13_sheet_101 : decode cX13_sheet 101 = .ok (.iload 4, 2) := dk_21 4 (dk_at dksX13_sheet_4 7 rfl rfl)
theorem dX13_sheet_103 : decode cX13_sheet 103 = .ok (.iadd, 1) := dk_96 (dk_at dksX13_sheet_4 9 rfl rfl)
theorem dX13_sheet_104 : decode cX13_sheet 104 = .ok (.iconst 0, 1) := dk_3 (dk_at dksX13_sheet_4 10 rfl rfl)
theorem dX13_sheet_105 : decode cX13_sheet 105 = .ok (.iastore, 1) := dk_79 (dk_at dksX13_sheet_4 11 rfl rfl)
theorem dX13_sheet_106 : decode cX13_sheet 106 = .ok (.iinc 4 1, 3) := dk_132 4 1 (dk_at dksX13_sheet_4 12 rfl rfl)
theorem dX13_sheet_109 : decode cX13_sheet 109 = .ok (.goto (-23), 3) := dk_167 255 233 (dk_at dksX13_sheet_4 15 rfl rfl)
theorem dX13_sheet_112 : decode cX13_sheet 112 = .ok (.aload_n 0, 1) := dk_42 (dk_at dksX13_sheet_4 18 rfl rfl)
theorem dX13_sheet_113 : decode cX13_sheet 113 = .ok (.getfield 63, 3) := dk_180 0 63 (dk_at dksX13_sheet_4 19 rfl rfl)
theorem dX13_sheet_116 : decode cX13_sheet 116 = .ok (.iload_n 1, 1) := dk_27 (dk_at dksX13_sheet_4 22 rfl rfl)
theorem dX13_sheet_117 : decode cX13_sheet 117 = .ok (.iaload, 1) := dk_46 (dk_at dksX13_sheet_4 23 rfl rfl)
theorem dX13_sheet_118 : decode cX13_sheet 118 = .ok (.ireturn, 1) := dk_172 (dk_at dksX13_sheet_5 0 rfl rfl)
abbrev cX13_isSheet : ByteArray := prog_16_method_108_code
def yX13_isSheet : MethodName := ⟨RX13, "isSheet", "(I)Z"⟩
def dkwX13_isSheet_0 : List UInt8 := [26, 3, 6, 184, 0, 77, 172]
abbrev dktX13_isSheet_0 : List UInt8 := dkwX13_isSheet_0 ++ []
theorem dksX13_isSheet_0 : cX13_isSheet.data.toList.drop 0 = dktX13_isSheet_0 := by decide +kernel
theorem dX13_isSheet_0 : decode cX13_isSheet 0 = .ok (.iload_n 0, 1) := dk_26 (dk_at dksX13_isSheet_0 0 rfl rfl)
theorem dX13_isSheet_1 : decode cX13_isSheet 1 = .ok (.iconst 0, 1) := dk_3 (dk_at dksX13_isSheet_0 1 rfl rfl)
theorem dX13_isSheet_2 : decode cX13_isSheet 2 = .ok (.iconst 3, 1) := dk_6 (dk_at dksX13_isSheet_0 2 rfl rfl)
theorem dX13_isSheet_3 : decode cX13_isSheet 3 = .ok (.invokestatic 77, 3) := dk_184 0 77 (dk_at dksX13_isSheet_0 3 rfl rfl)
theorem dX13_isSheet_6 : decode cX13_isSheet 6 = .ok (.ireturn, 1) := dk_172 (dk_at dksX13_isSheet_0 6 rfl rfl)
abbrev cX13_write : ByteArray := prog_16_method_111_code
def yX13_write : MethodName := ⟨RX13, "write", "(III)I"⟩
def dkwX13_write_3 : List UInt8 := [184, 1, 122, 79, 4, 172]
abbrev dktX13_write_3 : List UInt8 := dkwX13_write_3 ++ []
def dkwX13_write_2 : List UInt8 := [18, 72, 182, 0, 92, 172, 42, 180, 0, 66, 16, 40, 27, 104, 28, 96, 29, 42, 180, 0, 60, 27, 46]
abbrev dktX13_write_2 : List UInt8 := dkwX13_write_2 ++ dktX13_write_3
def dkwX13_write_1 : List UInt8 := [19, 1, 116, 182, 0, 92, 172, 28, 3, 42, 180, 0, 63, 27, 46, 4, 100, 184, 0, 77, 154, 0, 10, 42]
abbrev dktX13_write_1 : List UInt8 := dkwX13_write_1 ++ dktX13_write_2
def dkwX13_write_0 : List UInt8 := [27, 184, 1, 118, 154, 0, 10, 42, 18, 72, 182, 0, 92, 172, 42, 180, 0, 60, 27, 46, 154, 0, 11, 42]
abbrev dktX13_write_0 : List UInt8 := dkwX13_write_0 ++ dktX13_write_1
theorem dksX13_write_0 : cX13_write.data.toList.drop 0 = dktX13_write_0 := by decide +kernel
theorem dksX13_write_1 : cX13_write.data.toList.drop 24 = dktX13_write_1 := dk_seg dksX13_write_0 24 rfl rfl
theorem dksX13_write_2 : cX13_write.data.toList.drop 48 = dktX13_write_2 := dk_seg dksX13_write_1 24 rfl rfl
theorem dksX13_write_3 : cX13_write.data.toList.drop 71 = dktX13_write_3 := dk_seg dksX13_write_2 23 rfl rfl
theorem dX13_write_0 : decode cX13_write 0 = .ok (.iload_n 1, 1) := dk_27 (dk_at dksX13_write_0 0 rfl rfl)
theorem dX13_write_1 : decode cX13_write 1 = .ok (.invokestatic 374, 3) := dk_184 1 118 (dk_at dksX13_write_0 1 rfl rfl)
theorem dX13_write_4 : decode cX13_write 4 = .ok (.ifCond .ne 10, 3) := dk_154 0 10 (dk_at dksX13_write_0 4 rfl rfl)
theorem dX13_write_7 : decode cX13_write 7 = .ok (.aload_n 0, 1) := dk_42 (dk_at dksX13_write_0 7 rfl rfl)
theorem dX13_write_8 : decode cX13_write 8 = .ok (.ldc 72, 2) := dk_18 72 (dk_at dksX13_write_0 8 rfl rfl)
theorem dX13_write_10 : decode cX13_write 10 = .ok (.invokevirtual 92, 3) := dk_182 0 92 (dk_at dksX13_write_0 10 rfl rfl)
theorem dX13_write_13 : decode cX13_write 13 = .ok (.ireturn, 1) := dk_172 (dk_at dksX13_write_0 13 rfl rfl)
theorem dX13_write_14 : decode cX13_write 14 = .ok (.aload_n 0, 1) := dk_42 (dk_at dksX13_write_0 14 rfl rfl)
theorem dX13_write_15 : decode cX13_write 15 = .ok (.getfield 60, 3) := dk_180 0 60 (dk_at dksX13_write_0 15 rfl rfl)
theorem dX13_write_18 : decode cX13_write 18 = .ok (.iload_n 1, 1) := dk_27 (dk_at dksX13_write_0 18 rfl rfl)
theorem dX13_write_19 : decode cX13_write 19 = .ok (.iaload, 1) := dk_46 (dk_at dksX13_write_0 19 rfl rfl)
theorem dX13_write_20 : decode cX13_write 20 = .ok (.ifCond .ne 11, 3) := dk_154 0 11 (dk_at dksX13_write_0 20 rfl rfl)
theorem dX13_write_23 : decode cX13_write 23 = .ok (.aload_n 0, 1) := dk_42 (dk_at dksX13_write_0 23 rfl rfl)
theorem dX13_write_24 : decode cX13_write 24 = .ok (.ldc_w 372, 3) := dk_19 1 116 (dk_at dksX13_write_1 0 rfl rfl)
theorem dX13_write_27 : decode cX13_write 27 = .ok (.invokevirtual 92, 3) := dk_182 0 92 (dk_at dksX13_write_1 3 rfl rfl)
theorem dX13_write_30 : decode cX13_write 30 = .ok (.ireturn, 1) := dk_172 (dk_at dksX13_write_1 6 rfl rfl)
theorem dX13_write_31 : decode cX13_write 31 = .ok (.iload_n 2, 1) := dk_28 (dk_at dksX13_write_1 7 rfl rfl)
theorem dX13_write_32 : decode cX13_write 32 = .ok (.iconst 0, 1) := dk_3 (dk_at dksX13_write_1 8 rfl rfl)
theorem dX13_write_33 : decode cX13_write 33 = .ok (.aload_n 0, 1) := dk_42 (dk_at dksX13_write_1 9 rfl rfl)
theorem dX13_write_34 : decode cX13_write 34 = .ok (.getfield 63, 3) := dk_180 0 63 (dk_at dksX13_write_1 10 rfl rfl)
theorem dX13_write_37 : decode cX13_write 37 = .ok (.iload_n 1, 1) := dk_27 (dk_at dksX13_write_1 13 rfl rfl)
theorem dX13_write_38 : decode cX13_write 38 = .ok (.iaload, 1) := dk_46 (dk_at dksX13_write_1 14 rfl rfl)
theorem dX13_write_39 : decode cX13_write 39 = .ok (.iconst 1, 1) := dk_4 (dk_at dksX13_write_1 15 rfl rfl)
theorem dX13_write_40 : decode cX13_write 40 = .ok (.isub, 1) := dk_100 (dk_at dksX13_write_1 16 rfl rfl)
theorem dX13_write_41 : decode cX13_write 41 = .ok (.invokestatic 77, 3) := dk_184 0 77 (dk_at dksX13_write_1 17 rfl rfl)
theorem dX13_write_44 : decode cX13_write 44 = .ok (.ifCond .ne 10, 3) := dk_154 0 10 (dk_at dksX13_write_1 20 rfl rfl)
theorem dX13_write_47 : decode cX13_write 47 = .ok (.aload_n 0, 1) := dk_42 (dk_at dksX13_write_1 23 rfl rfl)
theorem dX13_write_48 : decode cX13_write 48 = .ok (.ldc 72, 2) := dk_18 72 (dk_at dksX13_write_2 0 rfl rfl)
theorem dX13_write_50 : decode cX13_write 50 = .ok (.invokevirtual 92, 3) := dk_182 0 92 (dk_at dksX13_write_2 2 rfl rfl)
theorem dX13_write_53 : decode cX13_write 53 = .ok (.ireturn, 1) := dk_172 (dk_at dksX13_write_2 5 rfl rfl)
theorem dX13_write_54 : decode cX13_write 54 = .ok (.aload_n 0, 1) := dk_42 (dk_at dksX13_write_2 6 rfl rfl)
theorem dX13_write_55 : decode cX13_write 55 = .ok (.getfield 66, 3) := dk_180 0 66 (dk_at dksX13_write_2 7 rfl rfl)
theorem dX13_write_58 : decode cX13_write 58 = .ok (.bipush 40, 2) := dk_16 40 (dk_at dksX13_write_2 10 rfl rfl)
theorem dX13_write_60 : decode cX13_write 60 = .ok (.iload_n 1, 1) := dk_27 (dk_at dksX13_write_2 12 rfl rfl)
theorem dX13_write_61 : decode cX13_write 61 = .ok (.imul, 1) := dk_104 (dk_at dksX13_write_2 13 rfl rfl)
theorem dX13_write_62 : decode cX13_write 62 = .ok (.iload_n 2, 1) := dk_28 (dk_at dksX13_write_2 14 rfl rfl)
theorem dX13_write_63 : decode cX13_write 63 = .ok (.iadd, 1) := dk_96 (dk_at dksX13_write_2 15 rfl rfl)
theorem dX13_write_64 : decode cX13_write 64 = .ok (.iload_n 3, 1) := dk_29 (dk_at dksX13_write_2 16 rfl rfl)
theorem dX13_write_65 : decode cX13_write 65 = .ok (.aload_n 0, 1) := dk_42 (dk_at dksX13_write_2 17 rfl rfl)
theorem dX13_write_66 : decode cX13_write 66 = .ok (.getfield 60, 3) := dk_180 0 60 (dk_at dksX13_write_2 18 rfl rfl)
theorem dX13_write_69 : decode cX13_write 69 = .ok (.iload_n 1, 1) := dk_27 (dk_at dksX13_write_2 21 rfl rfl)
theorem dX13_write_70 : decode cX13_write 70 = .ok (.iaload, 1) := dk_46 (dk_at dksX13_write_2 22 rfl rfl)
theorem dX13_write_71 : decode cX13_write 71 = .ok (.invokestatic 378, 3) := dk_184 1 122 (dk_at dksX13_write_3 0 rfl rfl)
theorem dX13_write_74 : decode cX13_write 74 = .ok (.iastore, 1) := dk_79 (dk_at dksX13_write_3 3 rfl rfl)
theorem dX13_write_75 : decode cX13_write 75 = .ok (.iconst 1, 1) := dk_4 (dk_at dksX13_write_3 4 rfl rfl)
theorem dX13_write_76 : decode cX13_write 76 = .ok (.ireturn, 1) := dk_172 (dk_at dksX13_write_3 5 rfl rfl)
abbrev cX13_cutTo : ByteArray := prog_16_method_109_code
def yX13_cutTo : MethodName := ⟨RX13, "cutTo", "(II)I"⟩
def dkwX13_cutTo_0 : List UInt8 := [27, 16, 8, 160, 0, 8, 26, 145, 167, 0, 15, 27, 16, 16, 160, 0, 8, 26, 147, 167, 0, 4, 26, 172]
abbrev dktX13_cutTo_0 : List UInt8 := dkwX13_cutTo_0 ++ []
theorem dksX13_cutTo_0 : cX13_cutTo.data.toList.drop 0 = dktX13_cutTo_0 := by decide +kernel
theorem dX13_cutTo_0 : decode cX13_cutTo 0 = .ok (.iload_n 1, 1) := dk_27 (dk_at dksX13_cutTo_0 0 rfl rfl)
theorem dX13_cutTo_1 : decode cX13_cutTo 1 = .ok (.bipush 8, 2) := dk_16 8 (dk_at dksX13_cutTo_0 1 rfl rfl)
theorem dX13_cutTo_3 : decode cX13_cutTo 3 = .ok (.if_icmp .ne 8, 3) := dk_160 0 8 (dk_at dksX13_cutTo_0 3 rfl rfl)
theorem dX13_cutTo_6 : decode cX13_cutTo 6 = .ok (.iload_n 0, 1) := dk_26 (dk_at dksX13_cutTo_0 6 rfl rfl)
theorem dX13_cutTo_7 : decode cX13_cutTo 7 = .ok (.i2b, 1) := dk_145 (dk_at dksX13_cutTo_0 7 rfl rfl)
theorem dX13_cutTo_8 : decode cX13_cutTo 8 = .ok (.goto 15, 3) := dk_167 0 15 (dk_at dksX13_cutTo_0 8 rfl rfl)
theorem dX13_cutTo_11 : decode cX13_cutTo 11 = .ok (.iload_n 1, 1) := dk_27 (dk_at dksX13_cutTo_0 11 rfl rfl)
theorem dX13_cutTo_12 : decode cX13_cutTo 12 = .ok (.bipush 16, 2) := dk_16 16 (dk_at dksX13_cutTo_0 12 rfl rfl)
theorem dX13_cutTo_14 : decode cX13_cutTo 14 = .ok (.if_icmp .ne 8, 3) := dk_160 0 8 (dk_at dksX13_cutTo_0 14 rfl rfl)
theorem dX13_cutTo_17 : decode cX13_cutTo 17 = .ok (.iload_n 0, 1) := dk_26 (dk_at dksX13_cutTo_0 17 rfl rfl)
theorem dX13_cutTo_18 : decode cX13_cutTo 18 = .ok (.i2s, 1) := dk_147 (dk_at dksX13_cutTo_0 18 rfl rfl)
theorem dX13_cutTo_19 : decode cX13_cutTo 19 = .ok (.goto 4, 3) := dk_167 0 4 (dk_at dksX13_cutTo_0 19 rfl rfl)
theorem dX13_cutTo_22 : decode cX13_cutTo 22 = .ok (.iload_n 0, 1) := dk_26 (dk_at dksX13_cutTo_0 22 rfl rfl)
theorem dX13_cutTo_23 : decode cX13_cutTo 23 = .ok (.ireturn, 1) := dk_172 (dk_at dksX13_cutTo_0 23 rfl rfl)
abbrev cX13_copy : ByteArray := prog_16_method_112_code
def yX13_copy : MethodName := ⟨RX13, "copy", "(IIIII)I"⟩
def dkwX13_copy_8 : List UInt8 := [180, 0, 69, 21, 6, 46, 79, 132, 6, 1, 167, 255, 224, 21, 5, 172]
abbrev dktX13_copy_8 : List UInt8 := dkwX13_copy_8 ++ []
def dkwX13_copy_7 : List UInt8 := [54, 6, 21, 6, 21, 5, 162, 0, 31, 42, 180, 0, 66, 16, 40, 29, 104, 21, 4, 96, 21, 6, 96, 42]
abbrev dktX13_copy_7 : List UInt8 := dkwX13_copy_7 ++ dktX13_copy_8
def dkwX13_copy_6 : List UInt8 := [21, 6, 42, 180, 0, 66, 16, 40, 27, 104, 28, 96, 21, 6, 96, 46, 79, 132, 6, 1, 167, 255, 225, 3]
abbrev dktX13_copy_6 : List UInt8 := dkwX13_copy_6 ++ dktX13_copy_7
def dkwX13_copy_5 : List UInt8 := [158, 0, 10, 42, 18, 72, 182, 0, 92, 172, 3, 54, 6, 21, 6, 21, 5, 162, 0, 30, 42, 180, 0, 69]
abbrev dktX13_copy_5 : List UInt8 := dkwX13_copy_5 ++ dktX13_copy_6
def dkwX13_copy_4 : List UInt8 := [27, 46, 133, 148, 157, 0, 21, 21, 4, 133, 21, 5, 133, 97, 42, 180, 0, 63, 29, 46, 133, 148]
abbrev dktX13_copy_4 : List UInt8 := dkwX13_copy_4 ++ dktX13_copy_5
def dkwX13_copy_3 : List UInt8 := [28, 155, 0, 48, 21, 4, 155, 0, 43, 21, 5, 155, 0, 38, 28, 133, 21, 5, 133, 97, 42, 180, 0, 63]
abbrev dktX13_copy_3 : List UInt8 := dkwX13_copy_3 ++ dktX13_copy_4
def dkwX13_copy_2 : List UInt8 := [172, 42, 180, 0, 60, 27, 46, 42, 180, 0, 60, 29, 46, 159, 0, 11, 42, 19, 1, 117, 182, 0, 92, 172]
abbrev dktX13_copy_2 : List UInt8 := dkwX13_copy_2 ++ dktX13_copy_3
def dkwX13_copy_1 : List UInt8 := [180, 0, 60, 27, 46, 153, 0, 12, 42, 180, 0, 60, 29, 46, 154, 0, 11, 42, 19, 1, 116, 182, 0, 92]
abbrev dktX13_copy_1 : List UInt8 := dkwX13_copy_1 ++ dktX13_copy_2
def dkwX13_copy_0 : List UInt8 := [27, 184, 1, 118, 153, 0, 10, 29, 184, 1, 118, 154, 0, 10, 42, 18, 72, 182, 0, 92, 172, 42]
abbrev dktX13_copy_0 : List UInt8 := dkwX13_copy_0 ++ dktX13_copy_1
theorem dksX13_copy_0 : cX13_copy.data.toList.drop 0 = dktX13_copy_0 := by decide +kernel
theorem dksX13_copy_1 : cX13_copy.data.toList.drop 22 = dktX13_copy_1 := dk_seg dksX13_copy_0 22 rfl rfl
theorem dksX13_copy_2 : cX13_copy.data.toList.drop 46 = dktX13_copy_2 := dk_seg dksX13_copy_1 24 rfl rfl
theorem dksX13_copy_3 : cX13_copy.data.toList.drop 70 = dktX13_copy_3 := dk_seg dksX13_copy_2 24 rfl rfl
theorem dksX13_copy_4 : cX13_copy.data.toList.drop 94 = dktX13_copy_4 := dk_seg dksX13_copy_3 24 rfl rfl
theorem dksX13_copy_5 : cX13_copy.data.toList.drop 116 = dktX13_copy_5 := dk_seg dksX13_copy_4 22 rfl rfl
theorem dksX13_copy_6 : cX13_copy.data.toList.drop 140 = dktX13_copy_6 := dk_seg dksX13_copy_5 24 rfl rfl
theorem dksX13_copy_7 : cX13_copy.data.toList.drop 164 = dktX13_copy_7 := dk_seg dksX13_copy_6 24 rfl rfl
theorem dksX13_copy_8 : cX13_copy.data.toList.drop 188 = dktX13_copy_8 := dk_seg dksX13_copy_7 24 rfl rfl
theorem dX13_copy_0 : decode cX13_copy 0 = .ok (.iload_n 1, 1) := dk_27 (dk_at dksX13_copy_0 0 rfl rfl)
theorem dX13_copy_1 : decode cX13_copy 1 = .ok (.invokestatic 374, 3) := dk_184 1 118 (dk_at dksX13_copy_0 1 rfl rfl)
theorem dX13_copy_4 : decode cX13_copy 4 = .ok (.ifCond .eq 10, 3) := dk_153 0 10 (dk_at dksX13_copy_0 4 rfl rfl)
theorem dX13_copy_7 : decode cX13_copy 7 = .ok (.iload_n 3, 1) := dk_29 (dk_at dksX13_copy_0 7 rfl rfl)
theorem dX13_copy_8 : decode cX13_copy 8 = .ok (.invokestatic 374, 3) := dk_184 1 118 (dk_at dksX13_copy_0 8 rfl rfl)
theorem dX13_copy_11 : decode cX13_copy 11 = .ok (.ifCond .ne 10, 3) := dk_154 0 10 (dk_at dksX13_copy_0 11 rfl rfl)
theorem dX13_copy_14 : decode cX13_copy 14 = .ok (.aload_n 0, 1) := dk_42 (dk_at dksX13_copy_0 14 rfl rfl)
theorem dX13_copy_15 : decode cX13_copy 15 = .ok (.ldc 72, 2) := dk_18 72 (dk_at dksX13_copy_0 15 rfl rfl)
theorem dX13_copy_17 : decode cX13_copy 17 = .ok (.invokevirtual 92, 3) := dk_182 0 92 (dk_at dksX13_copy_0 17 rfl rfl)
theorem dX13_copy_20 : decode cX13_copy 20 = .ok (.ireturn, 1) := dk_172 (dk_at dksX13_copy_0 20 rfl rfl)
theorem dX13_copy_21 : decode cX13_copy 21 = .ok (.aload_n 0, 1) := dk_42 (dk_at dksX13_copy_0 21 rfl rfl)
theorem dX13_copy_22 : decode cX13_copy 22 = .ok (.getfield 60, 3) := dk_180 0 60 (dk_at dksX13_copy_1 0 rfl rfl)
theorem dX13_copy_25 : decode cX13_copy 25 = .ok (.iload_n 1, 1) := dk_27 (dk_at dksX13_copy_1 3 rfl rfl)
theorem dX13_copy_26 : decode cX13_copy 26 = .ok (.iaload, 1) := dk_46 (dk_at dksX13_copy_1 4 rfl rfl)
theorem dX13_copy_27 : decode cX13_copy 27 = .ok (.ifCond .eq 12, 3) := dk_153 0 12 (dk_at dksX13_copy_1 5 rfl rfl)
theorem dX13_copy_30 : decode cX13_copy 30 = .ok (.aload_n 0, 1) := dk_42 (dk_at dksX13_copy_1 8 rfl rfl)
theorem dX13_copy_31 : decode cX13_copy 31 = .ok (.getfield 60, 3) := dk_180 0 60 (dk_at dksX13_copy_1 9 rfl rfl)
theorem dX13_copy_34 : decode cX13_copy 34 = .ok (.iload_n 3, 1) := dk_29 (dk_at dksX13_copy_1 12 rfl rfl)
theorem dX13_copy_35 : decode cX13_copy 35 = .ok (.iaload, 1) := dk_46 (dk_at dksX13_copy_1 13 rfl rfl)
theorem dX13_copy_36 : decode cX13_copy 36 = .ok (.ifCond .ne 11, 3) := dk_154 0 11 (dk_at dksX13_copy_1 14 rfl rfl)
theorem dX13_copy_39 : decode cX13_copy 39 = .ok (.aload_n 0, 1) := dk_42 (dk_at dksX13_copy_1 17 rfl rfl)
theorem dX13_copy_40 : decode cX13_copy 40 = .ok (.ldc_w 372, 3) := dk_19 1 116 (dk_at dksX13_copy_1 18 rfl rfl)
theorem dX13_copy_43 : decode cX13_copy 43 = .ok (.invokevirtual 92, 3) := dk_182 0 92 (dk_at dksX13_copy_1 21 rfl rfl)
theorem dX13_copy_46 : decode cX13_copy 46 = .ok (.ireturn, 1) := dk_172 (dk_at dksX13_copy_2 0 rfl rfl)
theorem dX13_copy_47 : decode cX13_copy 47 = .ok (.aload_n 0, 1) := dk_42 (dk_at dksX13_copy_2 1 rfl rfl)
theorem dX13_copy_48 : decode cX13_copy 48 = .ok (.getfield 60, 3) := dk_180 0 60 (dk_at dksX13_copy_2 2 rfl rfl)
theorem dX13_copy_51 : decode cX13_copy 51 = .ok (.iload_n 1, 1) := dk_27 (dk_at dksX13_copy_2 5 rfl rfl)
theorem dX13_copy_52 : decode cX13_copy 52 = .ok (.iaload, 1) := dk_46 (dk_at dksX13_copy_2 6 rfl rfl)
theorem dX13_copy_53 : decode cX13_copy 53 = .ok (.aload_n 0, 1) := dk_42 (dk_at dksX13_copy_2 7 rfl rfl)
theorem dX13_copy_54 : decode cX13_copy 54 = .ok (.getfield 60, 3) := dk_180 0 60 (dk_at dksX13_copy_2 8 rfl rfl)
theorem dX13_copy_57 : decode cX13_copy 57 = .ok (.iload_n 3, 1) := dk_29 (dk_at dksX13_copy_2 11 rfl rfl)
theorem dX13_copy_58 : decode cX13_copy 58 = .ok (.iaload, 1) := dk_46 (dk_at dksX13_copy_2 12 rfl rfl)
theorem dX13_copy_59 : decode cX13_copy 59 = .ok (.if_icmp .eq 11, 3) := dk_159 0 11 (dk_at dksX13_copy_2 13 rfl rfl)
theorem dX13_copy_62 : decode cX13_copy 62 = .ok (.aload_n 0, 1) := dk_42 (dk_at dksX13_copy_2 16 rfl rfl)
theorem dX13_copy_63 : decode cX13_copy 63 = .ok (.ldc_w 373, 3) := dk_19 1 117 (dk_at dksX13_copy_2 17 rfl rfl)
theorem dX13_copy_66 : decode cX13_copy 66 = .ok (.invokevirtual 92, 3) := dk_182 0 92 (dk_at dksX13_copy_2 20 rfl rfl)
theorem dX13_copy_69 : decode cX13_copy 69 = .ok (.ireturn, 1) := dk_172 (dk_at dksX13_copy_2 23 rfl rfl)
theorem dX13_copy_70 : decode cX13_copy 70 = .ok (.iload_n 2, 1) := dk_28 (dk_at dksX13_copy_3 0 rfl rfl)
theorem dX13_copy_71 : decode cX13_copy 71 = .ok (.ifCond .lt 48, 3) := dk_155 0 48 (dk_at dksX13_copy_3 1 rfl rfl)
theorem dX13_copy_74 : decode cX13_copy 74 = .ok (.iload 4, 2) := dk_21 4 (dk_at dksX13_copy_3 4 rfl rfl)
theorem dX13_copy_76 : decode cX13_copy 76 = .ok (.ifCond .lt 43, 3) := dk_155 0 43 (dk_at dksX13_copy_3 6 rfl rfl)
theorem dX13_copy_79 : decode cX13_copy 79 = .ok (.iload 5, 2) := dk_21 5 (dk_at dksX13_copy_3 9 rfl rfl)
theorem dX13_copy_81 : decode cX13_copy 81 = .ok (.ifCond .lt 38, 3) := dk_155 0 38 (dk_at dksX13_copy_3 11 rfl rfl)
theorem dX13_copy_84 : decode cX13_copy 84 = .ok (.iload_n 2, 1) := dk_28 (dk_at dksX13_copy_3 14 rfl rfl)
theorem dX13_copy_85 : decode cX13_copy 85 = .ok (.i2l, 1) := dk_133 (dk_at dksX13_copy_3 15 rfl rfl)
theorem dX13_copy_86 : decode cX13_copy 86 = .ok (.iload 5, 2) := dk_21 5 (dk_at dksX13_copy_3 16 rfl rfl)
theorem dX13_copy_88 : decode cX13_copy 88 = .ok (.i2l, 1) := dk_133 (dk_at dksX13_copy_3 18 rfl rfl)
theorem dX13_copy_89 : decode cX13_copy 89 = .ok (.ladd, 1) := dk_97 (dk_at dksX13_copy_3 19 rfl rfl)
theorem dX13_copy_90 : decode cX13_copy 90 = .ok (.aload_n 0, 1) := dk_42 (dk_at dksX13_copy_3 20 rfl rfl)
theorem dX13_copy_91 : decode cX13_copy 91 = .ok (.getfield 63, 3) := dk_180 0 63 (dk_at dksX13_copy_3 21 rfl rfl)
theorem dX13_copy_94 : decode cX13_copy 94 = .ok (.iload_n 1, 1) := dk_27 (dk_at dksX13_copy_4 0 rfl rfl)
theorem dX13_copy_95 : decode cX13_copy 95 = .ok (.iaload, 1) := dk_46 (dk_at dksX13_copy_4 1 rfl rfl)
theorem dX13_copy_96 : decode cX13_copy 96 = .ok (.i2l, 1) := dk_133 (dk_at dksX13_copy_4 2 rfl rfl)
theorem dX13_copy_97 : decode cX13_copy 97 = .ok (.lcmp, 1) := dk_148 (dk_at dksX13_copy_4 3 rfl rfl)
theorem dX13_copy_98 : decode cX13_copy 98 = .ok (.ifCond .gt 21, 3) := dk_157 0 21 (dk_at dksX13_copy_4 4 rfl rfl)
theorem dX13_copy_101 : decode cX13_copy 101 = .ok (.iload 4, 2) := dk_21 4 (dk_at dksX13_copy_4 7 rfl rfl)
theorem dX13_copy_103 : decode cX13_copy 103 = .ok (.i2l, 1) := dk_133 (dk_at dksX13_copy_4 9 rfl rfl)
theorem dX13_copy_104 : decode cX13_copy 104 = .ok (.iload 5, 2) := dk_21 5 (dk_at dksX13_copy_4 10 rfl rfl)
theorem dX13_copy_106 : decode cX13_copy 106 = .ok (.i2l, 1) := dk_133 (dk_at dksX13_copy_4 12 rfl rfl)
theorem dX13_copy_107 : decode cX13_copy 107 = .ok (.ladd, 1) := dk_97 (dk_at dksX13_copy_4 13 rfl rfl)
theorem dX13_copy_108 : decode cX13_copy 108 = .ok (.aload_n 0, 1) := dk_42 (dk_at dksX13_copy_4 14 rfl rfl)
theorem dX13_copy_109 : decode cX13_copy 109 = .ok (.getfield 63, 3) := dk_180 0 63 (dk_at dksX13_copy_4 15 rfl rfl)
theorem dX13_copy_112 : decode cX13_copy 112 = .ok (.iload_n 3, 1) := dk_29 (dk_at dksX13_copy_4 18 rfl rfl)
theorem dX13_copy_113 : decode cX13_copy 113 = .ok (.iaload, 1) := dk_46 (dk_at dksX13_copy_4 19 rfl rfl)
theorem dX13_copy_114 : decode cX13_copy 114 = .ok (.i2l, 1) := dk_133 (dk_at dksX13_copy_4 20 rfl rfl)
theorem dX13_copy_115 : decode cX13_copy 115 = .ok (.lcmp, 1) := dk_148 (dk_at dksX13_copy_4 21 rfl rfl)
theorem dX13_copy_116 : decode cX13_copy 116 = .ok (.ifCond .le 10, 3) := dk_158 0 10 (dk_at dksX13_copy_5 0 rfl rfl)
theorem dX13_copy_119 : decode cX13_copy 119 = .ok (.aload_n 0, 1) := dk_42 (dk_at dksX13_copy_5 3 rfl rfl)
theorem dX13_copy_120 : decode cX13_copy 120 = .ok (.ldc 72, 2) := dk_18 72 (dk_at dksX13_copy_5 4 rfl rfl)
theorem dX13_copy_122 : decode cX13_copy 122 = .ok (.invokevirtual 92, 3) := dk_182 0 92 (dk_at dksX13_copy_5 6 rfl rfl)
theorem dX13_copy_125 : decode cX13_copy 125 = .ok (.ireturn, 1) := dk_172 (dk_at dksX13_copy_5 9 rfl rfl)
theorem dX13_copy_126 : decode cX13_copy 126 = .ok (.iconst 0, 1) := dk_3 (dk_at dksX13_copy_5 10 rfl rfl)
theorem dX13_copy_127 : decode cX13_copy 127 = .ok (.istore 6, 2) := dk_54 6 (dk_at dksX13_copy_5 11 rfl rfl)
theorem dX13_copy_129 : decode cX13_copy 129 = .ok (.iload 6, 2) := dk_21 6 (dk_at dksX13_copy_5 13 rfl rfl)
theorem dX13_copy_131 : decode cX13_copy 131 = .ok (.iload 5, 2) := dk_21 5 (dk_at dksX13_copy_5 15 rfl rfl)
theorem dX13_copy_133 : decode cX13_copy 133 = .ok (.if_icmp .ge 30, 3) := dk_162 0 30 (dk_at dksX13_copy_5 17 rfl rfl)
theorem dX13_copy_136 : decode cX13_copy 136 = .ok (.aload_n 0, 1) := dk_42 (dk_at dksX13_copy_5 20 rfl rfl)
theorem dX13_copy_137 : decode cX13_copy 137 = .ok (.getfield 69, 3) := dk_180 0 69 (dk_at dksX13_copy_5 21 rfl rfl)
theorem dX13_copy_140 : decode cX13_copy 140 = .ok (.iload 6, 2) := dk_21 6 (dk_at dksX13_copy_6 0 rfl rfl)
theorem dX13_copy_142 : decode cX13_copy 142 = .ok (.aload_n 0, 1) := dk_42 (dk_at dksX13_copy_6 2 rfl rfl)
theorem dX13_copy_143 : decode cX13_copy 143 = .ok (.getfield 66, 3) := dk_180 0 66 (dk_at dksX13_copy_6 3 rfl rfl)
theorem dX13_copy_146 : decode cX13_copy 146 = .ok (.bipush 40, 2) := dk_16 40 (dk_at dksX13_copy_6 6 rfl rfl)
theorem dX13_copy_148 : decode cX13_copy 148 = .ok (.iload_n 1, 1) := dk_27 (dk_at dksX13_copy_6 8 rfl rfl)
theorem dX13_copy_149 : decode cX13_copy 149 = .ok (.imul, 1) := dk_104 (dk_at dksX13_copy_6 9 rfl rfl)
theorem dX13_copy_150 : decode cX13_copy 150 = .ok (.iload_n 2, 1) := dk_28 (dk_at dksX13_copy_6 10 rfl rfl)
theorem dX13_copy_151 : decode cX13_copy 151 = .ok (.iadd, 1) := dk_96 (dk_at dksX13_copy_6 11 rfl rfl)
theorem dX13_copy_152 : decode cX13_copy 152 = .ok (.iload 6, 2) := dk_21 6 (dk_at dksX13_copy_6 12 rfl rfl)
theorem dX13_copy_154 : decode cX13_copy 154 = .ok (.iadd, 1) := dk_96 (dk_at dksX13_copy_6 14 rfl rfl)
theorem dX13_copy_155 : decode cX13_copy 155 = .ok (.iaload, 1) := dk_46 (dk_at dksX13_copy_6 15 rfl rfl)
theorem dX13_copy_156 : decode cX13_copy 156 = .ok (.iastore, 1) := dk_79 (dk_at dksX13_copy_6 16 rfl rfl)
theorem dX13_copy_157 : decode cX13_copy 157 = .ok (.iinc 6 1, 3) := dk_132 6 1 (dk_at dksX13_copy_6 17 rfl rfl)
theorem dX13_copy_160 : decode cX13_copy 160 = .ok (.goto (-31), 3) := dk_167 255 225 (dk_at dksX13_copy_6 20 rfl rfl)
theorem dX13_copy_163 : decode cX13_copy 163 = .ok (.iconst 0, 1) := dk_3 (dk_at dksX13_copy_6 23 rfl rfl)
theorem dX13_copy_164 : decode cX13_copy 164 = .ok (.istore 6, 2) := dk_54 6 (dk_at dksX13_copy_7 0 rfl rfl)
theorem dX13_copy_166 : decode cX13_copy 166 = .ok (.iload 6, 2) := dk_21 6 (dk_at dksX13_copy_7 2 rfl rfl)
theorem dX13_copy_168 : decode cX13_copy 168 = .ok (.iload 5, 2) := dk_21 5 (dk_at dksX13_copy_7 4 rfl rfl)
theorem dX13_copy_170 : decode cX13_copy 170 = .ok (.if_icmp .ge 31, 3) := dk_162 0 31 (dk_at dksX13_copy_7 6 rfl rfl)
theorem dX13_copy_173 : decode cX13_copy 173 = .ok (.aload_n 0, 1) := dk_42 (dk_at dksX13_copy_7 9 rfl rfl)
theorem dX13_copy_174 : decode cX13_copy 174 = .ok (.getfield 66, 3) := dk_180 0 66 (dk_at dksX13_copy_7 10 rfl rfl)
theorem dX13_copy_177 : decode cX13_copy 177 = .ok (.bipush 40, 2) := dk_16 40 (dk_at dksX13_copy_7 13 rfl rfl)
theorem dX13_copy_179 : decode cX13_copy 179 = .ok (.iload_n 3, 1) := dk_29 (dk_at dksX13_copy_7 15 rfl rfl)
theorem dX13_copy_180 : decode cX13_copy 180 = .ok (.imul, 1) := dk_104 (dk_at dksX13_copy_7 16 rfl rfl)
theorem dX13_copy_181 : decode cX13_copy 181 = .ok (.iload 4, 2) := dk_21 4 (dk_at dksX13_copy_7 17 rfl rfl)
theorem dX13_copy_183 : decode cX13_copy 183 = .ok (.iadd, 1) := dk_96 (dk_at dksX13_copy_7 19 rfl rfl)
theorem dX13_copy_184 : decode cX13_copy 184 = .ok (.iload 6, 2) := dk_21 6 (dk_at dksX13_copy_7 20 rfl rfl)
theorem dX13_copy_186 : decode cX13_copy 186 = .ok (.iadd, 1) := dk_96 (dk_at dksX13_copy_7 22 rfl rfl)
theorem dX13_copy_187 : decode cX13_copy 187 = .ok (.aload_n 0, 1) := dk_42 (dk_at dksX13_copy_7 23 rfl rfl)
theorem dX13_copy_188 : decode cX13_copy 188 = .ok (.getfield 69, 3) := dk_180 0 69 (dk_at dksX13_copy_8 0 rfl rfl)
theorem dX13_copy_191 : decode cX13_copy 191 = .ok (.iload 6, 2) := dk_21 6 (dk_at dksX13_copy_8 3 rfl rfl)
theorem dX13_copy_193 : decode cX13_copy 193 = .ok (.iaload, 1) := dk_46 (dk_at dksX13_copy_8 5 rfl rfl)
theorem dX13_copy_194 : decode cX13_copy 194 = .ok (.iastore, 1) := dk_79 (dk_at dksX13_copy_8 6 rfl rfl)
theorem dX13_copy_195 : decode cX13_copy 195 = .ok (.iinc 6 1, 3) := dk_132 6 1 (dk_at dksX13_copy_8 7 rfl rfl)
theorem dX13_copy_198 : decode cX13_copy 198 = .ok (.goto (-32), 3) := dk_167 255 224 (dk_at dksX13_copy_8 10 rfl rfl)
theorem dX13_copy_201 : decode cX13_copy 201 = .ok (.iload 5, 2) := dk_21 5 (dk_at dksX13_copy_8 13 rfl rfl)
theorem dX13_copy_203 : decode cX13_copy 203 = .ok (.ireturn, 1) := dk_172 (dk_at dksX13_copy_8 15 rfl rfl)
abbrev cX13_load : ByteArray := prog_16_method_113_code
def yX13_load : MethodName := ⟨RX13, "load", "(I)I"⟩
def dkwX13_load_4 : List UInt8 := [167, 255, 193, 28, 172]
abbrev dktX13_load_4 : List UInt8 := dkwX13_load_4 ++ []
def dkwX13_load_3 : List UInt8 := [42, 180, 0, 9, 28, 3, 184, 0, 161, 42, 180, 0, 66, 16, 40, 27, 104, 28, 96, 46, 79, 132, 2, 1]
abbrev dktX13_load_3 : List UInt8 := dkwX13_load_3 ++ dktX13_load_4
def dkwX13_load_2 : List UInt8 := [153, 0, 51, 42, 180, 0, 66, 16, 40, 27, 104, 28, 96, 46, 4, 17, 39, 15, 184, 0, 77, 153, 0, 30]
abbrev dktX13_load_2 : List UInt8 := dkwX13_load_2 ++ dktX13_load_3
def dkwX13_load_1 : List UInt8 := [19, 1, 116, 182, 0, 92, 172, 3, 61, 28, 42, 180, 0, 63, 27, 46, 162, 0, 59, 42, 28, 182, 0, 167]
abbrev dktX13_load_1 : List UInt8 := dkwX13_load_1 ++ dktX13_load_2
def dkwX13_load_0 : List UInt8 := [27, 184, 1, 118, 154, 0, 10, 42, 18, 72, 182, 0, 92, 172, 42, 180, 0, 60, 27, 46, 154, 0, 11, 42]
abbrev dktX13_load_0 : List UInt8 := dkwX13_load_0 ++ dktX13_load_1
theorem dksX13_load_0 : cX13_load.data.toList.drop 0 = dktX13_load_0 := by decide +kernel
theorem dksX13_load_1 : cX13_load.data.toList.drop 24 = dktX13_load_1 := dk_seg dksX13_load_0 24 rfl rfl
theorem dksX13_load_2 : cX13_load.data.toList.drop 48 = dktX13_load_2 := dk_seg dksX13_load_1 24 rfl rfl
theorem dksX13_load_3 : cX13_load.data.toList.drop 72 = dktX13_load_3 := dk_seg dksX13_load_2 24 rfl rfl
theorem dksX13_load_4 : cX13_load.data.toList.drop 96 = dktX13_load_4 := dk_seg dksX13_load_3 24 rfl rfl
theorem dX13_load_0 : decode cX13_load 0 = .ok (.iload_n 1, 1) := dk_27 (dk_at dksX13_load_0 0 rfl rfl)
theorem dX13_load_1 : decode cX13_load 1 = .ok (.invokestatic 374, 3) := dk_184 1 118 (dk_at dksX13_load_0 1 rfl rfl)
theorem dX13_load_4 : decode cX13_load 4 = .ok (.ifCond .ne 10, 3) := dk_154 0 10 (dk_at dksX13_load_0 4 rfl rfl)
theorem dX13_load_7 : decode cX13_load 7 = .ok (.aload_n 0, 1) := dk_42 (dk_at dksX13_load_0 7 rfl rfl)
theorem dX13_load_8 : decode cX13_load 8 = .ok (.ldc 72, 2) := dk_18 72 (dk_at dksX13_load_0 8 rfl rfl)
theorem dX13_load_10 : decode cX13_load 10 = .ok (.invokevirtual 92, 3) := dk_182 0 92 (dk_at dksX13_load_0 10 rfl rfl)
theorem dX13_load_13 : decode cX13_load 13 = .ok (.ireturn, 1) := dk_172 (dk_at dksX13_load_0 13 rfl rfl)
theorem dX13_load_14 : decode cX13_load 14 = .ok (.aload_n 0, 1) := dk_42 (dk_at dksX13_load_0 14 rfl rfl)
theorem dX13_load_15 : decode cX13_load 15 = .ok (.getfield 60, 3) := dk_180 0 60 (dk_at dksX13_load_0 15 rfl rfl)
theorem dX13_load_18 : decode cX13_load 18 = .ok (.iload_n 1, 1) := dk_27 (dk_at dksX13_load_0 18 rfl rfl)
theorem dX13_load_19 : decode cX13_load 19 = .ok (.iaload, 1) := dk_46 (dk_at dksX13_load_0 19 rfl rfl)
theorem dX13_load_20 : decode cX13_load 20 = .ok (.ifCond .ne 11, 3) := dk_154 0 11 (dk_at dksX13_load_0 20 rfl rfl)
theorem dX13_load_23 : decode cX13_load 23 = .ok (.aload_n 0, 1) := dk_42 (dk_at dksX13_load_0 23 rfl rfl)
theorem dX13_load_24 : decode cX13_load 24 = .ok (.ldc_w 372, 3) := dk_19 1 116 (dk_at dksX13_load_1 0 rfl rfl)
theorem dX13_load_27 : decode cX13_load 27 = .ok (.invokevirtual 92, 3) := dk_182 0 92 (dk_at dksX13_load_1 3 rfl rfl)
theorem dX13_load_30 : decode cX13_load 30 = .ok (.ireturn, 1) := dk_172 (dk_at dksX13_load_1 6 rfl rfl)
theorem dX13_load_31 : decode cX13_load 31 = .ok (.iconst 0, 1) := dk_3 (dk_at dksX13_load_1 7 rfl rfl)
theorem dX13_load_32 : decode cX13_load 32 = .ok (.istore_n 2, 1) := dk_61 (dk_at dksX13_load_1 8 rfl rfl)
theorem dX13_load_33 : decode cX13_load 33 = .ok (.iload_n 2, 1) := dk_28 (dk_at dksX13_load_1 9 rfl rfl)
theorem dX13_load_34 : decode cX13_load 34 = .ok (.aload_n 0, 1) := dk_42 (dk_at dksX13_load_1 10 rfl rfl)
theorem dX13_load_35 : decode cX13_load 35 = .ok (.getfield 63, 3) := dk_180 0 63 (dk_at dksX13_load_1 11 rfl rfl)
theorem dX13_load_38 : decode cX13_load 38 = .ok (.iload_n 1, 1) := dk_27 (dk_at dksX13_load_1 14 rfl rfl)
theorem dX13_load_39 : decode cX13_load 39 = .ok (.iaload, 1) := dk_46 (dk_at dksX13_load_1 15 rfl rfl)
theorem dX13_load_40 : decode cX13_load 40 = .ok (.if_icmp .ge 59, 3) := dk_162 0 59 (dk_at dksX13_load_1 16 rfl rfl)
theorem dX13_load_43 : decode cX13_load 43 = .ok (.aload_n 0, 1) := dk_42 (dk_at dksX13_load_1 19 rfl rfl)
theorem dX13_load_44 : decode cX13_load 44 = .ok (.iload_n 2, 1) := dk_28 (dk_at dksX13_load_1 20 rfl rfl)
theorem dX13_load_45 : decode cX13_load 45 = .ok (.invokevirtual 167, 3) := dk_182 0 167 (dk_at dksX13_load_1 21 rfl rfl)
theorem dX13_load_48 : decode cX13_load 48 = .ok (.ifCond .eq 51, 3) := dk_153 0 51 (dk_at dksX13_load_2 0 rfl rfl)
theorem dX13_load_51 : decode cX13_load 51 = .ok (.aload_n 0, 1) := dk_42 (dk_at dksX13_load_2 3 rfl rfl)
theorem dX13_load_52 : decode cX13_load 52 = .ok (.getfield 66, 3) := dk_180 0 66 (dk_at dksX13_load_2 4 rfl rfl)
theorem dX13_load_55 : decode cX13_load 55 = .ok (.bipush 40, 2) := dk_16 40 (dk_at dksX13_load_2 7 rfl rfl)
theorem dX13_load_57 : decode cX13_load 57 = .ok (.iload_n 1, 1) := dk_27 (dk_at dksX13_load_2 9 rfl rfl)
theorem dX13_load_58 : decode cX13_load 58 = .ok (.imul, 1) := dk_104 (dk_at dksX13_load_2 10 rfl rfl)
theorem dX13_load_59 : decode cX13_load 59 = .ok (.iload_n 2, 1) := dk_28 (dk_at dksX13_load_2 11 rfl rfl)
theorem dX13_load_60 : decode cX13_load 60 = .ok (.iadd, 1) := dk_96 (dk_at dksX13_load_2 12 rfl rfl)
theorem dX13_load_61 : decode cX13_load 61 = .ok (.iaload, 1) := dk_46 (dk_at dksX13_load_2 13 rfl rfl)
theorem dX13_load_62 : decode cX13_load 62 = .ok (.iconst 1, 1) := dk_4 (dk_at dksX13_load_2 14 rfl rfl)
theorem dX13_load_63 : decode cX13_load 63 = .ok (.sipush 9999, 3) := dk_17 39 15 (dk_at dksX13_load_2 15 rfl rfl)
theorem dX13_load_66 : decode cX13_load 66 = .ok (.invokestatic 77, 3) := dk_184 0 77 (dk_at dksX13_load_2 18 rfl rfl)
theorem dX13_load_69 : decode cX13_load 69 = .ok (.ifCond .eq 30, 3) := dk_153 0 30 (dk_at dksX13_load_2 21 rfl rfl)
theorem dX13_load_72 : decode cX13_load 72 = .ok (.aload_n 0, 1) := dk_42 (dk_at dksX13_load_3 0 rfl rfl)
theorem dX13_load_73 : decode cX13_load 73 = .ok (.getfield 9, 3) := dk_180 0 9 (dk_at dksX13_load_3 1 rfl rfl)
theorem dX13_load_76 : decode cX13_load 76 = .ok (.iload_n 2, 1) := dk_28 (dk_at dksX13_load_3 4 rfl rfl)
theorem dX13_load_77 : decode cX13_load 77 = .ok (.iconst 0, 1) := dk_3 (dk_at dksX13_load_3 5 rfl rfl)
theorem dX13_load_78 : decode cX13_load 78 = .ok (.invokestatic 161, 3) := dk_184 0 161 (dk_at dksX13_load_3 6 rfl rfl)
theorem dX13_load_81 : decode cX13_load 81 = .ok (.aload_n 0, 1) := dk_42 (dk_at dksX13_load_3 9 rfl rfl)
theorem dX13_load_82 : decode cX13_load 82 = .ok (.getfield 66, 3) := dk_180 0 66 (dk_at dksX13_load_3 10 rfl rfl)
theorem dX13_load_85 : decode cX13_load 85 = .ok (.bipush 40, 2) := dk_16 40 (dk_at dksX13_load_3 13 rfl rfl)
theorem dX13_load_87 : decode cX13_load 87 = .ok (.iload_n 1, 1) := dk_27 (dk_at dksX13_load_3 15 rfl rfl)
theorem dX13_load_88 : decode cX13_load 88 = .ok (.imul, 1) := dk_104 (dk_at dksX13_load_3 16 rfl rfl)
theorem dX13_load_89 : decode cX13_load 89 = .ok (.iload_n 2, 1) := dk_28 (dk_at dksX13_load_3 17 rfl rfl)
theorem dX13_load_90 : decode cX13_load 90 = .ok (.iadd, 1) := dk_96 (dk_at dksX13_load_3 18 rfl rfl)
theorem dX13_load_91 : decode cX13_load 91 = .ok (.iaload, 1) := dk_46 (dk_at dksX13_load_3 19 rfl rfl)
theorem dX13_load_92 : decode cX13_load 92 = .ok (.iastore, 1) := dk_79 (dk_at dksX13_load_3 20 rfl rfl)
theorem dX13_load_93 : decode cX13_load 93 = .ok (.iinc 2 1, 3) := dk_132 2 1 (dk_at dksX13_load_3 21 rfl rfl)
theorem dX13_load_96 : decode cX13_load 96 = .ok (.goto (-63), 3) := dk_167 255 193 (dk_at dksX13_load_4 0 rfl rfl)
theorem dX13_load_99 : decode cX13_load 99 = .ok (.iload_n 2, 1) := dk_28 (dk_at dksX13_load_4 3 rfl rfl)
theorem dX13_load_100 : decode cX13_load 100 = .ok (.ireturn, 1) := dk_172 (dk_at dksX13_load_4 4 rfl rfl)
abbrev cX13_judge : ByteArray := prog_16_method_114_code
def yX13_judge : MethodName := ⟨RX13, "judge", "(II)I"⟩
def dkwX13_judge_6 : List UInt8 := [18, 160, 182, 0, 92, 167, 0, 4, 29, 172]
abbrev dktX13_judge_6 : List UInt8 := dkwX13_judge_6 ++ []
def dkwX13_judge_5 : List UInt8 := [54, 4, 29, 21, 4, 96, 62, 132, 5, 1, 167, 255, 192, 42, 21, 4, 182, 1, 17, 156, 0, 12, 42]
abbrev dktX13_judge_5 : List UInt8 := dkwX13_judge_5 ++ dktX13_judge_6
def dkwX13_judge_4 : List UInt8 := [42, 28, 182, 1, 8, 21, 6, 184, 0, 129, 153, 0, 13, 42, 28, 21, 6, 182, 0, 199, 167, 0, 4, 2]
abbrev dktX13_judge_4 : List UInt8 := dkwX13_judge_4 ++ dktX13_judge_5
def dkwX13_judge_3 : List UInt8 := [27, 46, 162, 0, 59, 21, 4, 155, 0, 54, 42, 180, 0, 66, 16, 40, 27, 104, 21, 5, 96, 46, 54, 6]
abbrev dktX13_judge_3 : List UInt8 := dkwX13_judge_3 ++ dktX13_judge_4
def dkwX13_judge_2 : List UInt8 := [180, 0, 9, 42, 180, 0, 16, 184, 0, 73, 3, 62, 3, 54, 4, 3, 54, 5, 21, 5, 42, 180, 0, 63]
abbrev dktX13_judge_2 : List UInt8 := dkwX13_judge_2 ++ dktX13_judge_3
def dkwX13_judge_1 : List UInt8 := [19, 1, 116, 182, 0, 92, 172, 42, 28, 182, 0, 117, 154, 0, 10, 42, 18, 72, 182, 0, 92, 172, 42]
abbrev dktX13_judge_1 : List UInt8 := dkwX13_judge_1 ++ dktX13_judge_2
def dkwX13_judge_0 : List UInt8 := [27, 184, 1, 118, 154, 0, 10, 42, 18, 72, 182, 0, 92, 172, 42, 180, 0, 60, 27, 46, 154, 0, 11, 42]
abbrev dktX13_judge_0 : List UInt8 := dkwX13_judge_0 ++ dktX13_judge_1
theorem dksX13_judge_0 : cX13_judge.data.toList.drop 0 = dktX13_judge_0 := by decide +kernel
theorem dksX13_judge_1 : cX13_judge.data.toList.drop 24 = dktX13_judge_1 := dk_seg dksX13_judge_0 24 rfl rfl
theorem dksX13_judge_2 : cX13_judge.data.toList.drop 47 = dktX13_judge_2 := dk_seg dksX13_judge_1 23 rfl rfl
theorem dksX13_judge_3 : cX13_judge.data.toList.drop 71 = dktX13_judge_3 := dk_seg dksX13_judge_2 24 rfl rfl
theorem dksX13_judge_4 : cX13_judge.data.toList.drop 95 = dktX13_judge_4 := dk_seg dksX13_judge_3 24 rfl rfl
theorem dksX13_judge_5 : cX13_judge.data.toList.drop 119 = dktX13_judge_5 := dk_seg dksX13_judge_4 24 rfl rfl
theorem dksX13_judge_6 : cX13_judge.data.toList.drop 142 = dktX13_judge_6 := dk_seg dksX13_judge_5 23 rfl rfl
theorem dX13_judge_0 : decode cX13_judge 0 = .ok (.iload_n 1, 1) := dk_27 (dk_at dksX13_judge_0 0 rfl rfl)
theorem dX13_judge_1 : decode cX13_judge 1 = .ok (.invokestatic 374, 3) := dk_184 1 118 (dk_at dksX13_judge_0 1 rfl rfl)
theorem dX13_judge_4 : decode cX13_judge 4 = .ok (.ifCond .ne 10, 3) := dk_154 0 10 (dk_at dksX13_judge_0 4 rfl rfl)
theorem dX13_judge_7 : decode cX13_judge 7 = .ok (.aload_n 0, 1) := dk_42 (dk_at dksX13_judge_0 7 rfl rfl)
theorem dX13_judge_8 : decode cX13_judge 8 = .ok (.ldc 72, 2) := dk_18 72 (dk_at dksX13_judge_0 8 rfl rfl)
theorem dX13_judge_10 : decode cX13_judge 10 = .ok (.invokevirtual 92, 3) := dk_182 0 92 (dk_at dksX13_judge_0 10 rfl rfl)
theorem dX13_judge_13 : decode cX13_judge 13 = .ok (.ireturn, 1) := dk_172 (dk_at dksX13_judge_0 13 rfl rfl)
theorem dX13_judge_14 : decode cX13_judge 14 = .ok (.aload_n 0, 1) := dk_42 (dk_at dksX13_judge_0 14 rfl rfl)
theorem dX13_judge_15 : decode cX13_judge 15 = .ok (.getfield 60, 3) := dk_180 0 60 (dk_at dksX13_judge_0 15 rfl rfl)
theorem dX13_judge_18 : decode cX13_judge 18 = .ok (.iload_n 1, 1) := dk_27 (dk_at dksX13_judge_0 18 rfl rfl)
theorem dX13_judge_19 : decode cX13_judge 19 = .ok (.iaload, 1) := dk_46 (dk_at dksX13_judge_0 19 rfl rfl)
theorem dX13_judge_20 : decode cX13_judge 20 = .ok (.ifCond .ne 11, 3) := dk_154 0 11 (dk_at dksX13_judge_0 20 rfl rfl)
theorem dX13_judge_23 : decode cX13_judge 23 = .ok (.aload_n 0, 1) := dk_42 (dk_at dksX13_judge_0 23 rfl rfl)
theorem dX13_judge_24 : decode cX13_judge 24 = .ok (.ldc_w 372, 3) := dk_19 1 116 (dk_at dksX13_judge_1 0 rfl rfl)
theorem dX13_judge_27 : decode cX13_judge 27 = .ok (.invokevirtual 92, 3) := dk_182 0 92 (dk_at dksX13_judge_1 3 rfl rfl)
theorem dX13_judge_30 : decode cX13_judge 30 = .ok (.ireturn, 1) := dk_172 (dk_at dksX13_judge_1 6 rfl rfl)
theorem dX13_judge_31 : decode cX13_judge 31 = .ok (.aload_n 0, 1) := dk_42 (dk_at dksX13_judge_1 7 rfl rfl)
theorem dX13_judge_32 : decode cX13_judge 32 = .ok (.iload_n 2, 1) := dk_28 (dk_at dksX13_judge_1 8 rfl rfl)
theorem dX13_judge_33 : decode cX13_judge 33 = .ok (.invokevirtual 117, 3) := dk_182 0 117 (dk_at dksX13_judge_1 9 rfl rfl)
theorem dX13_judge_36 : decode cX13_judge 36 = .ok (.ifCond .ne 10, 3) := dk_154 0 10 (dk_at dksX13_judge_1 12 rfl rfl)
theorem dX13_judge_39 : decode cX13_judge 39 = .ok (.aload_n 0, 1) := dk_42 (dk_at dksX13_judge_1 15 rfl rfl)
theorem dX13_judge_40 : decode cX13_judge 40 = .ok (.ldc 72, 2) := dk_18 72 (dk_at dksX13_judge_1 16 rfl rfl)
theorem dX13_judge_42 : decode cX13_judge 42 = .ok (.invokevirtual 92, 3) := dk_182 0 92 (dk_at dksX13_judge_1 18 rfl rfl)
theorem dX13_judge_45 : decode cX13_judge 45 = .ok (.ireturn, 1) := dk_172 (dk_at dksX13_judge_1 21 rfl rfl)
theorem dX13_judge_46 : decode cX13_judge 46 = .ok (.aload_n 0, 1) := dk_42 (dk_at dksX13_judge_1 22 rfl rfl)
theorem dX13_judge_47 : decode cX13_judge 47 = .ok (.getfield 9, 3) := dk_180 0 9 (dk_at dksX13_judge_2 0 rfl rfl)
theorem dX13_judge_50 : decode cX13_judge 50 = .ok (.aload_n 0, 1) := dk_42 (dk_at dksX13_judge_2 3 rfl rfl)
theorem dX13_judge_51 : decode cX13_judge 51 = .ok (.getfield 16, 3) := dk_180 0 16 (dk_at dksX13_judge_2 4 rfl rfl)
theorem dX13_judge_54 : decode cX13_judge 54 = .ok (.invokestatic 73, 3) := dk_184 0 73 (dk_at dksX13_judge_2 7 rfl rfl)
theorem dX13_judge_57 : decode cX13_judge 57 = .ok (.iconst 0, 1) := dk_3 (dk_at dksX13_judge_2 10 rfl rfl)
theorem dX13_judge_58 : decode cX13_judge 58 = .ok (.istore_n 3, 1) := dk_62 (dk_at dksX13_judge_2 11 rfl rfl)
theorem dX13_judge_59 : decode cX13_judge 59 = .ok (.iconst 0, 1) := dk_3 (dk_at dksX13_judge_2 12 rfl rfl)
theorem dX13_judge_60 : decode cX13_judge 60 = .ok (.istore 4, 2) := dk_54 4 (dk_at dksX13_judge_2 13 rfl rfl)
theorem dX13_judge_62 : decode cX13_judge 62 = .ok (.iconst 0, 1) := dk_3 (dk_at dksX13_judge_2 15 rfl rfl)
theorem dX13_judge_63 : decode cX13_judge 63 = .ok (.istore 5, 2) := dk_54 5 (dk_at dksX13_judge_2 16 rfl rfl)
theorem dX13_judge_65 : decode cX13_judge 65 = .ok (.iload 5, 2) := dk_21 5 (dk_at dksX13_judge_2 18 rfl rfl)
theorem dX13_judge_67 : decode cX13_judge 67 = .ok (.aload_n 0, 1) := dk_42 (dk_at dksX13_judge_2 20 rfl rfl)
theorem dX13_judge_68 : decode cX13_judge 68 = .ok (.getfield 63, 3) := dk_180 0 63 (dk_at dksX13_judge_2 21 rfl rfl)
theorem dX13_judge_71 : decode cX13_judge 71 = .ok (.iload_n 1, 1) := dk_27 (dk_at dksX13_judge_3 0 rfl rfl)
theorem dX13_judge_72 : decode cX13_judge 72 = .ok (.iaload, 1) := dk_46 (dk_at dksX13_judge_3 1 rfl rfl)
theorem dX13_judge_73 : decode cX13_judge 73 = .ok (.if_icmp .ge 59, 3) := dk_162 0 59 (dk_at dksX13_judge_3 2 rfl rfl)
theorem dX13_judge_76 : decode cX13_judge 76 = .ok (.iload 4, 2) := dk_21 4 (dk_at dksX13_judge_3 5 rfl rfl)
theorem dX13_judge_78 : decode cX13_judge 78 = .ok (.ifCond .lt 54, 3) := dk_155 0 54 (dk_at dksX13_judge_3 7 rfl rfl)
theorem dX13_judge_81 : decode cX13_judge 81 = .ok (.aload_n 0, 1) := dk_42 (dk_at dksX13_judge_3 10 rfl rfl)
theorem dX13_judge_82 : decode cX13_judge 82 = .ok (.getfield 66, 3) := dk_180 0 66 (dk_at dksX13_judge_3 11 rfl rfl)
theorem dX13_judge_85 : decode cX13_judge 85 = .ok (.bipush 40, 2) := dk_16 40 (dk_at dksX13_judge_3 14 rfl rfl)
theorem dX13_judge_87 : decode cX13_judge 87 = .ok (.iload_n 1, 1) := dk_27 (dk_at dksX13_judge_3 16 rfl rfl)
theorem dX13_judge_88 : decode cX13_judge 88 = .ok (.imul, 1) := dk_104 (dk_at dksX13_judge_3 17 rfl rfl)
theorem dX13_judge_89 : decode cX13_judge 89 = .ok (.iload 5, 2) := dk_21 5 (dk_at dksX13_judge_3 18 rfl rfl)
theorem dX13_judge_91 : decode cX13_judge 91 = .ok (.iadd, 1) := dk_96 (dk_at dksX13_judge_3 20 rfl rfl)
theorem dX13_judge_92 : decode cX13_judge 92 = .ok (.iaload, 1) := dk_46 (dk_at dksX13_judge_3 21 rfl rfl)
theorem dX13_judge_93 : decode cX13_judge 93 = .ok (.istore 6, 2) := dk_54 6 (dk_at dksX13_judge_3 22 rfl rfl)
theorem dX13_judge_95 : decode cX13_judge 95 = .ok (.aload_n 0, 1) := dk_42 (dk_at dksX13_judge_4 0 rfl rfl)
theorem dX13_judge_96 : decode cX13_judge 96 = .ok (.iload_n 2, 1) := dk_28 (dk_at dksX13_judge_4 1 rfl rfl)
theorem dX13_judge_97 : decode cX13_judge 97 = .ok (.invokevirtual 264, 3) := dk_182 1 8 (dk_at dksX13_judge_4 2 rfl rfl)
theorem dX13_judge_100 : decode cX13_judge 100 = .ok (.iload 6, 2) := dk_21 6 (dk_at dksX13_judge_4 5 rfl rfl)
theorem dX13_judge_102 : decode cX13_judge 102 = .ok (.invokestatic 129, 3) := dk_184 0 129 (dk_at dksX13_judge_4 7 rfl rfl)
theorem dX13_judge_105 : decode cX13_judge 105 = .ok (.ifCond .eq 13, 3) := dk_153 0 13 (dk_at dksX13_judge_4 10 rfl rfl)
theorem dX13_judge_108 : decode cX13_judge 108 = .ok (.aload_n 0, 1) := dk_42 (dk_at dksX13_judge_4 13 rfl rfl)
theorem dX13_judge_109 : decode cX13_judge 109 = .ok (.iload_n 2, 1) := dk_28 (dk_at dksX13_judge_4 14 rfl rfl)
theorem dX13_judge_110 : decode cX13_judge 110 = .ok (.iload 6, 2) := dk_21 6 (dk_at dksX13_judge_4 15 rfl rfl)
theorem dX13_judge_112 : decode cX13_judge 112 = .ok (.invokevirtual 199, 3) := dk_182 0 199 (dk_at dksX13_judge_4 17 rfl rfl)
theorem dX13_judge_115 : decode cX13_judge 115 = .ok (.goto 4, 3) := dk_167 0 4 (dk_at dksX13_judge_4 20 rfl rfl)
theorem dX13_judge_118 : decode cX13_judge 118 = .ok (.iconst (-1), 1) := dk_2 (dk_at dksX13_judge_4 23 rfl rfl)
theorem dX13_judge_119 : decode cX13_judge 119 = .ok (.istore 4, 2) := dk_54 4 (dk_at dksX13_judge_5 0 rfl rfl)
theorem dX13_judge_121 : decode cX13_judge 121 = .ok (.iload_n 3, 1) := dk_29 (dk_at dksX13_judge_5 2 rfl rfl)
theorem dX13_judge_122 : decode cX13_judge 122 = .ok (.iload 4, 2) := dk_21 4 (dk_at dksX13_judge_5 3 rfl rfl)
theorem dX13_judge_124 : decode cX13_judge 124 = .ok (.iadd, 1) := dk_96 (dk_at dksX13_judge_5 5 rfl rfl)
theorem dX13_judge_125 : decode cX13_judge 125 = .ok (.istore_n 3, 1) := dk_62 (dk_at dksX13_judge_5 6 rfl rfl)
theorem dX13_judge_126 : decode cX13_judge 126 = .ok (.iinc 5 1, 3) := dk_132 5 1 (dk_at dksX13_judge_5 7 rfl rfl)
theorem dX13_judge_129 : decode cX13_judge 129 = .ok (.goto (-64), 3) := dk_167 255 192 (dk_at dksX13_judge_5 10 rfl rfl)
theorem dX13_judge_132 : decode cX13_judge 132 = .ok (.aload_n 0, 1) := dk_42 (dk_at dksX13_judge_5 13 rfl rfl)
theorem dX13_judge_133 : decode cX13_judge 133 = .ok (.iload 4, 2) := dk_21 4 (dk_at dksX13_judge_5 14 rfl rfl)
theorem dX13_judge_135 : decode cX13_judge 135 = .ok (.invokevirtual 273, 3) := dk_182 1 17 (dk_at dksX13_judge_5 16 rfl rfl)
theorem dX13_judge_138 : decode cX13_judge 138 = .ok (.ifCond .ge 12, 3) := dk_156 0 12 (dk_at dksX13_judge_5 19 rfl rfl)
theorem dX13_judge_141 : decode cX13_judge 141 = .ok (.aload_n 0, 1) := dk_42 (dk_at dksX13_judge_5 22 rfl rfl)
theorem dX13_judge_142 : decode cX13_judge 142 = .ok (.ldc 160, 2) := dk_18 160 (dk_at dksX13_judge_6 0 rfl rfl)
theorem dX13_judge_144 : decode cX13_judge 144 = .ok (.invokevirtual 92, 3) := dk_182 0 92 (dk_at dksX13_judge_6 2 rfl rfl)
theorem dX13_judge_147 : decode cX13_judge 147 = .ok (.goto 4, 3) := dk_167 0 4 (dk_at dksX13_judge_6 5 rfl rfl)
theorem dX13_judge_150 : decode cX13_judge 150 = .ok (.iload_n 3, 1) := dk_29 (dk_at dksX13_judge_6 8 rfl rfl)
theorem dX13_judge_151 : decode cX13_judge 151 = .ok (.ireturn, 1) := dk_172 (dk_at dksX13_judge_6 9 rfl rfl)
abbrev cX13_image : ByteArray := prog_16_method_115_code
def yX13_image : MethodName := ⟨RX13, "image", "()I"⟩
def dkwX13_image_0 : List UInt8 := [42, 180, 0, 9, 42, 180, 0, 13, 184, 0, 73, 42, 4, 181, 1, 125, 4, 172]
abbrev dktX13_image_0 : List UInt8 := dkwX13_image_0 ++ []
theorem dksX13_image_0 : cX13_image.data.toList.drop 0 = dktX13_image_0 := by decide +kernel
theorem dX13_image_0 : decode cX13_image 0 = .ok (.aload_n 0, 1) := dk_42 (dk_at dksX13_image_0 0 rfl rfl)
theorem dX13_image_1 : decode cX13_image 1 = .ok (.getfield 9, 3) := dk_180 0 9 (dk_at dksX13_image_0 1 rfl rfl)
theorem dX13_image_4 : decode cX13_image 4 = .ok (.aload_n 0, 1) := dk_42 (dk_at dksX13_image_0 4 rfl rfl)
theorem dX13_image_5 : decode cX13_image 5 = .ok (.getfield 13, 3) := dk_180 0 13 (dk_at dksX13_image_0 5 rfl rfl)
theorem dX13_image_8 : decode cX13_image 8 = .ok (.invokestatic 73, 3) := dk_184 0 73 (dk_at dksX13_image_0 8 rfl rfl)
theorem dX13_image_11 : decode cX13_image 11 = .ok (.aload_n 0, 1) := dk_42 (dk_at dksX13_image_0 11 rfl rfl)
theorem dX13_image_12 : decode cX13_image 12 = .ok (.iconst 1, 1) := dk_4 (dk_at dksX13_image_0 12 rfl rfl)
theorem dX13_image_13 : decode cX13_image 13 = .ok (.putfield 381, 3) := dk_181 1 125 (dk_at dksX13_image_0 13 rfl rfl)
theorem dX13_image_16 : decode cX13_image 16 = .ok (.iconst 1, 1) := dk_4 (dk_at dksX13_image_0 16 rfl rfl)
theorem dX13_image_17 : decode cX13_image 17 = .ok (.ireturn, 1) := dk_172 (dk_at dksX13_image_0 17 rfl rfl)
abbrev cX13_undo : ByteArray := prog_16_method_116_code
def yX13_undo : MethodName := ⟨RX13, "undo", "()I"⟩
def dkwX13_undo_1 : List UInt8 := [184, 0, 73, 42, 180, 0, 9, 16, 43, 46, 172]
abbrev dktX13_undo_1 : List UInt8 := dkwX13_undo_1 ++ []
def dkwX13_undo_0 : List UInt8 := [42, 180, 1, 125, 154, 0, 10, 42, 18, 160, 182, 0, 92, 172, 42, 180, 0, 13, 42, 180, 0, 9]
abbrev dktX13_undo_0 : List UInt8 := dkwX13_undo_0 ++ dktX13_undo_1
theorem dksX13_undo_0 : cX13_undo.data.toList.drop 0 = dktX13_undo_0 := by decide +kernel
theorem dksX13_undo_1 : cX13_undo.data.toList.drop 22 = dktX13_undo_1 := dk_seg dksX13_undo_0 22 rfl rfl
theorem dX13_undo_0 : decode cX13_undo 0 = .ok (.aload_n 0, 1) := dk_42 (dk_at dksX13_undo_0 0 rfl rfl)
theorem dX13_undo_1 : decode cX13_undo 1 = .ok (.getfield 381, 3) := dk_180 1 125 (dk_at dksX13_undo_0 1 rfl rfl)
theorem dX13_undo_4 : decode cX13_undo 4 = .ok (.ifCond .ne 10, 3) := dk_154 0 10 (dk_at dksX13_undo_0 4 rfl rfl)
theorem dX13_undo_7 : decode cX13_undo 7 = .ok (.aload_n 0, 1) := dk_42 (dk_at dksX13_undo_0 7 rfl rfl)
theorem dX13_undo_8 : decode cX13_undo 8 = .ok (.ldc 160, 2) := dk_18 160 (dk_at dksX13_undo_0 8 rfl rfl)
theorem dX13_undo_10 : decode cX13_undo 10 = .ok (.invokevirtual 92, 3) := dk_182 0 92 (dk_at dksX13_undo_0 10 rfl rfl)
theorem dX13_undo_13 : decode cX13_undo 13 = .ok (.ireturn, 1) := dk_172 (dk_at dksX13_undo_0 13 rfl rfl)
theorem dX13_undo_14 : decode cX13_undo 14 = .ok (.aload_n 0, 1) := dk_42 (dk_at dksX13_undo_0 14 rfl rfl)
theorem dX13_undo_15 : decode cX13_undo 15 = .ok (.getfield 13, 3) := dk_180 0 13 (dk_at dksX13_undo_0 15 rfl rfl)
theorem dX13_undo_18 : decode cX13_undo 18 = .ok (.aload_n 0, 1) := dk_42 (dk_at dksX13_undo_0 18 rfl rfl)
theorem dX13_undo_19 : decode cX13_undo 19 = .ok (.getfield 9, 3) := dk_180 0 9 (dk_at dksX13_undo_0 19 rfl rfl)
theorem dX13_undo_22 : decode cX13_undo 22 = .ok (.invokestatic 73, 3) := dk_184 0 73 (dk_at dksX13_undo_1 0 rfl rfl)
theorem dX13_undo_25 : decode cX13_undo 25 = .ok (.aload_n 0, 1) := dk_42 (dk_at dksX13_undo_1 3 rfl rfl)
theorem dX13_undo_26 : decode cX13_undo 26 = .ok (.getfield 9, 3) := dk_180 0 9 (dk_at dksX13_undo_1 4 rfl rfl)
theorem dX13_undo_29 : decode cX13_undo 29 = .ok (.bipush 43, 2) := dk_16 43 (dk_at dksX13_undo_1 7 rfl rfl)
theorem dX13_undo_31 : decode cX13_undo 31 = .ok (.iaload, 1) := dk_46 (dk_at dksX13_undo_1 9 rfl rfl)
theorem dX13_undo_32 : decode cX13_undo 32 = .ok (.ireturn, 1) := dk_172 (dk_at dksX13_undo_1 10 rfl rfl)
abbrev cX13_tear : ByteArray := prog_16_method_117_code
def yX13_tear : MethodName := ⟨RX13, "tear", "()I"⟩
def dkwX13_tear_0 : List UInt8 := [42, 180, 1, 125, 153, 0, 7, 4, 167, 0, 4, 3, 60, 42, 3, 181, 1, 125, 27, 172]
abbrev dktX13_tear_0 : List UInt8 := dkwX13_tear_0 ++ []
theorem dksX13_tear_0 : cX13_tear.data.toList.drop 0 = dktX13_tear_0 := by decide +kernel
theorem dX13_tear_0 : decode cX13_tear 0 = .ok (.aload_n 0, 1) := dk_42 (dk_at dksX13_tear_0 0 rfl rfl)
theorem dX13_tear_1 : decode cX13_tear 1 = .ok (.getfield 381, 3) := dk_180 1 125 (dk_at dksX13_tear_0 1 rfl rfl)
theorem dX13_tear_4 : decode cX13_tear 4 = .ok (.ifCond .eq 7, 3) := dk_153 0 7 (dk_at dksX13_tear_0 4 rfl rfl)
theorem dX13_tear_7 : decode cX13_tear 7 = .ok (.iconst 1, 1) := dk_4 (dk_at dksX13_tear_0 7 rfl rfl)
theorem dX13_tear_8 : decode cX13_tear 8 = .ok (.goto 4, 3) := dk_167 0 4 (dk_at dksX13_tear_0 8 rfl rfl)
theorem dX13_tear_11 : decode cX13_tear 11 = .ok (.iconst 0, 1) := dk_3 (dk_at dksX13_tear_0 11 rfl rfl)
theorem dX13_tear_12 : decode cX13_tear 12 = .ok (.istore_n 1, 1) := dk_60 (dk_at dksX13_tear_0 12 rfl rfl)
theorem dX13_tear_13 : decode cX13_tear 13 = .ok (.aload_n 0, 1) := dk_42 (dk_at dksX13_tear_0 13 rfl rfl)
theorem dX13_tear_14 : decode cX13_tear 14 = .ok (.iconst 0, 1) := dk_3 (dk_at dksX13_tear_0 14 rfl rfl)
theorem dX13_tear_15 : decode cX13_tear 15 = .ok (.putfield 381, 3) := dk_181 1 125 (dk_at dksX13_tear_0 15 rfl rfl)
theorem dX13_tear_18 : decode cX13_tear 18 = .ok (.iload_n 1, 1) := dk_27 (dk_at dksX13_tear_0 18 rfl rfl)
theorem dX13_tear_19 : decode cX13_tear 19 = .ok (.ireturn, 1) := dk_172 (dk_at dksX13_tear_0 19 rfl rfl)
abbrev cX13_count : ByteArray := prog_16_method_118_code
def yX13_count : MethodName := ⟨RX13, "count", "(I)I"⟩
def dkwX13_count_5 : List UInt8 := [167, 0, 4, 4, 96, 61, 132, 3, 1, 167, 255, 227, 28, 172, 42, 18, 72, 182, 0, 92, 172]
abbrev dktX13_count_5 : List UInt8 := dkwX13_count_5 ++ []
def dkwX13_count_4 : List UInt8 := [172, 3, 62, 29, 16, 10, 162, 0, 29, 28, 42, 180, 0, 9, 16, 46, 29, 96, 46, 156, 0, 7, 3]
abbrev dktX13_count_4 : List UInt8 := dkwX13_count_4 ++ dktX13_count_5
def dkwX13_count_3 : List UInt8 := [42, 6, 182, 0, 205, 172, 42, 7, 182, 0, 205, 172, 42, 180, 1, 20, 172, 42, 180, 0, 9, 16, 45, 46]
abbrev dktX13_count_3 : List UInt8 := dkwX13_count_3 ++ dktX13_count_4
def dkwX13_count_2 : List UInt8 := [42, 180, 0, 9, 16, 42, 46, 172, 42, 180, 0, 9, 16, 43, 46, 172, 42, 180, 0, 9, 16, 44, 46, 172]
abbrev dktX13_count_2 : List UInt8 := dkwX13_count_2 ++ dktX13_count_3
def dkwX13_count_1 : List UInt8 := [170, 0, 0, 0, 130, 0, 0, 0, 0, 0, 0, 0, 7, 0, 0, 0, 45, 0, 0, 0, 53, 0, 0, 0, 61, 0, 0, 0, 69, 0, 0, 0, 75, 0, 0, 0, 81, 0, 0, 0, 86, 0, 0, 0, 94]
abbrev dktX13_count_1 : List UInt8 := dkwX13_count_1 ++ dktX13_count_2
def dkwX13_count_0 : List UInt8 := [3, 61, 27]
abbrev dktX13_count_0 : List UInt8 := dkwX13_count_0 ++ dktX13_count_1
theorem dksX13_count_0 : cX13_count.data.toList.drop 0 = dktX13_count_0 := by decide +kernel
theorem dksX13_count_1 : cX13_count.data.toList.drop 3 = dktX13_count_1 := dk_seg dksX13_count_0 3 rfl rfl
theorem dksX13_count_2 : cX13_count.data.toList.drop 48 = dktX13_count_2 := dk_seg dksX13_count_1 45 rfl rfl
theorem dksX13_count_3 : cX13_count.data.toList.drop 72 = dktX13_count_3 := dk_seg dksX13_count_2 24 rfl rfl
theorem dksX13_count_4 : cX13_count.data.toList.drop 96 = dktX13_count_4 := dk_seg dksX13_count_3 24 rfl rfl
theorem dksX13_count_5 : cX13_count.data.toList.drop 119 = dktX13_count_5 := dk_seg dksX13_count_4 23 rfl rfl
theorem dX13_count_0 : decode cX13_count 0 = .ok (.iconst 0, 1) := dk_3 (dk_at dksX13_count_0 0 rfl rfl)
theorem dX13_count_1 : decode cX13_count 1 = .ok (.istore_n 2, 1) := dk_61 (dk_at dksX13_count_0 1 rfl rfl)
theorem dX13_count_2 : decode cX13_count 2 = .ok (.iload_n 1, 1) := dk_27 (dk_at dksX13_count_0 2 rfl rfl)
theorem dX13_count_3 : decode cX13_count 3 = .ok (.tableswitch 130 0 7 #[45, 53, 61, 69, 75, 81, 86, 94], 45) := by decide +kernel
theorem dX13_count_48 : decode cX13_count 48 = .ok (.aload_n 0, 1) := dk_42 (dk_at dksX13_count_2 0 rfl rfl)
theorem dX13_count_49 : decode cX13_count 49 = .ok (.getfield 9, 3) := dk_180 0 9 (dk_at dksX13_count_2 1 rfl rfl)
theorem dX13_count_52 : decode cX13_count 52 = .ok (.bipush 42, 2) := dk_16 42 (dk_at dksX13_count_2 4 rfl rfl)
theorem dX13_count_54 : decode cX13_count 54 = .ok (.iaload, 1) := dk_46 (dk_at dksX13_count_2 6 rfl rfl)
theorem dX13_count_55 : decode cX13_count 55 = .ok (.ireturn, 1) := dk_172 (dk_at dksX13_count_2 7 rfl rfl)
theorem dX13_count_56 : decode cX13_count 56 = .ok (.aload_n 0, 1) := dk_42 (dk_at dksX13_count_2 8 rfl rfl)
theorem dX13_count_57 : decode cX13_count 57 = .ok (.getfield 9, 3) := dk_180 0 9 (dk_at dksX13_count_2 9 rfl rfl)
theorem dX13_count_60 : decode cX13_count 60 = .ok (.bipush 43, 2) := dk_16 43 (dk_at dksX13_count_2 12 rfl rfl)
theorem dX13_count_62 : decode cX13_count 62 = .ok (.iaload, 1) := dk_46 (dk_at dksX13_count_2 14 rfl rfl)
theorem dX13_count_63 : decode cX13_count 63 = .ok (.ireturn, 1) := dk_172 (dk_at dksX13_count_2 15 rfl rfl)
theorem dX13_count_64 : decode cX13_count 64 = .ok (.aload_n 0, 1) := dk_42 (dk_at dksX13_count_2 16 rfl rfl)
theorem dX13_count_65 : decode cX13_count 65 = .ok (.getfield 9, 3) := dk_180 0 9 (dk_at dksX13_count_2 17 rfl rfl)
theorem dX13_count_68 : decode cX13_count 68 = .ok (.bipush 44, 2) := dk_16 44 (dk_at dksX13_count_2 20 rfl rfl)
theorem dX13_count_70 : decode cX13_count 70 = .ok (.iaload, 1) := dk_46 (dk_at dksX13_count_2 22 rfl rfl)
theorem dX13_count_71 : decode cX13_count 71 = .ok (.ireturn, 1) := dk_172 (dk_at dksX13_count_2 23 rfl rfl)
theorem dX13_count_72 : decode cX13_count 72 = .ok (.aload_n 0, 1) := dk_42 (dk_at dksX13_count_3 0 rfl rfl)
theorem dX13_count_73 : decode cX13_count 73 = .ok (.iconst 3, 1) := dk_6 (dk_at dksX13_count_3 1 rfl rfl)
theorem dX13_count_74 : decode cX13_count 74 = .ok (.invokevirtual 205, 3) := dk_182 0 205 (dk_at dksX13_count_3 2 rfl rfl)
theorem dX13_count_77 : decode cX13_count 77 = .ok (.ireturn, 1) := dk_172 (dk_at dksX13_count_3 5 rfl rfl)
theorem dX13_count_78 : decode cX13_count 78 = .ok (.aload_n 0, 1) := dk_42 (dk_at dksX13_count_3 6 rfl rfl)
theorem dX13_count_79 : decode cX13_count 79 = .ok (.iconst 4, 1) := dk_7 (dk_at dksX13_count_3 7 rfl rfl)
theorem dX13_count_80 : decode cX13_count 80 = .ok (.invokevirtual 205, 3) := dk_182 0 205 (dk_at dksX13_count_3 8 rfl rfl)
theorem dX13_count_83 : decode cX13_count 83 = .ok (.ireturn, 1) := dk_172 (dk_at dksX13_count_3 11 rfl rfl)
theorem dX13_count_84 : decode cX13_count 84 = .ok (.aload_n 0, 1) := dk_42 (dk_at dksX13_count_3 12 rfl rfl)
theorem dX13_count_85 : decode cX13_count 85 = .ok (.getfield 276, 3) := dk_180 1 20 (dk_at dksX13_count_3 13 rfl rfl)
theorem dX13_count_88 : decode cX13_count 88 = .ok (.ireturn, 1) := dk_172 (dk_at dksX13_count_3 16 rfl rfl)
theorem dX13_count_89 : decode cX13_count 89 = .ok (.aload_n 0, 1) := dk_42 (dk_at dksX13_count_3 17 rfl rfl)
theorem dX13_count_90 : decode cX13_count 90 = .ok (.getfield 9, 3) := dk_180 0 9 (dk_at dksX13_count_3 18 rfl rfl)
theorem dX13_count_93 : decode cX13_count 93 = .ok (.bipush 45, 2) := dk_16 45 (dk_at dksX13_count_3 21 rfl rfl)
theorem dX13_count_95 : decode cX13_count 95 = .ok (.iaload, 1) := dk_46 (dk_at dksX13_count_3 23 rfl rfl)
theorem dX13_count_96 : decode cX13_count 96 = .ok (.ireturn, 1) := dk_172 (dk_at dksX13_count_4 0 rfl rfl)
theorem dX13_count_97 : decode cX13_count 97 = .ok (.iconst 0, 1) := dk_3 (dk_at dksX13_count_4 1 rfl rfl)
theorem dX13_count_98 : decode cX13_count 98 = .ok (.istore_n 3, 1) := dk_62 (dk_at dksX13_count_4 2 rfl rfl)
theorem dX13_count_99 : decode cX13_count 99 = .ok (.iload_n 3, 1) := dk_29 (dk_at dksX13_count_4 3 rfl rfl)
theorem dX13_count_100 : decode cX13_count 100 = .ok (.bipush 10, 2) := dk_16 10 (dk_at dksX13_count_4 4 rfl rfl)
theorem dX13_count_102 : decode cX13_count 102 = .ok (.if_icmp .ge 29, 3) := dk_162 0 29 (dk_at dksX13_count_4 6 rfl rfl)
theorem dX13_count_105 : decode cX13_count 105 = .ok (.iload_n 2, 1) := dk_28 (dk_at dksX13_count_4 9 rfl rfl)
theorem dX13_count_106 : decode cX13_count 106 = .ok (.aload_n 0, 1) := dk_42 (dk_at dksX13_count_4 10 rfl rfl)
theorem dX13_count_107 : decode cX13_count 107 = .ok (.getfield 9, 3) := dk_180 0 9 (dk_at dksX13_count_4 11 rfl rfl)
theorem dX13_count_110 : decode cX13_count 110 = .ok (.bipush 46, 2) := dk_16 46 (dk_at dksX13_count_4 14 rfl rfl)
theorem dX13_count_112 : decode cX13_count 112 = .ok (.iload_n 3, 1) := dk_29 (dk_at dksX13_count_4 16 rfl rfl)
theorem dX13_count_113 : decode cX13_count 113 = .ok (.iadd, 1) := dk_96 (dk_at dksX13_count_4 17 rfl rfl)
theorem dX13_count_114 : decode cX13_count 114 = .ok (.iaload, 1) := dk_46 (dk_at dksX13_count_4 18 rfl rfl)
theorem dX13_count_115 : decode cX13_count 115 = .ok (.ifCond .ge 7, 3) := dk_156 0 7 (dk_at dksX13_count_4 19 rfl rfl)
theorem dX13_count_118 : decode cX13_count 118 = .ok (.iconst 0, 1) := dk_3 (dk_at dksX13_count_4 22 rfl rfl)
theorem dX13_count_119 : decode cX13_count 119 = .ok (.goto 4, 3) := dk_167 0 4 (dk_at dksX13_count_5 0 rfl rfl)
theorem dX13_count_122 : decode cX13_count 122 = .ok (.iconst 1, 1) := dk_4 (dk_at dksX13_count_5 3 rfl rfl)
theorem dX13_count_123 : decode cX13_count 123 = .ok (.iadd, 1) := dk_96 (dk_at dksX13_count_5 4 rfl rfl)
theorem dX13_count_124 : decode cX13_count 124 = .ok (.istore_n 2, 1) := dk_61 (dk_at dksX13_count_5 5 rfl rfl)
theorem dX13_count_125 : decode cX13_count 125 = .ok (.iinc 3 1, 3) := dk_132 3 1 (dk_at dksX13_count_5 6 rfl rfl)
theorem dX13_count_128 : decode cX13_count 128 = .ok (.goto (-29), 3) := dk_167 255 227 (dk_at dksX13_count_5 9 rfl rfl)
theorem dX13_count_131 : decode cX13_count 131 = .ok (.iload_n 2, 1) := dk_28 (dk_at dksX13_count_5 12 rfl rfl)
theorem dX13_count_132 : decode cX13_count 132 = .ok (.ireturn, 1) := dk_172 (dk_at dksX13_count_5 13 rfl rfl)
theorem dX13_count_133 : decode cX13_count 133 = .ok (.aload_n 0, 1) := dk_42 (dk_at dksX13_count_5 14 rfl rfl)
theorem dX13_count_134 : decode cX13_count 134 = .ok (.ldc 72, 2) := dk_18 72 (dk_at dksX13_count_5 15 rfl rfl)
theorem dX13_count_136 : decode cX13_count 136 = .ok (.invokevirtual 92, 3) := dk_182 0 92 (dk_at dksX13_count_5 17 rfl rfl)
theorem dX13_count_139 : decode cX13_count 139 = .ok (.ireturn, 1) := dk_172 (dk_at dksX13_count_5 20 rfl rfl)
abbrev cX13_status : ByteArray := prog_16_method_119_code
def yX13_status : MethodName := ⟨RX13, "status", "(I)I"⟩
def dkwX13_status_1 : List UInt8 := [182, 0, 92, 172]
abbrev dktX13_status_1 : List UInt8 := dkwX13_status_1 ++ []
def dkwX13_status_0 : List UInt8 := [27, 2, 16, 6, 184, 0, 77, 153, 0, 14, 42, 180, 0, 19, 27, 4, 96, 46, 167, 0, 9, 42, 18, 72]
abbrev dktX13_status_0 : List UInt8 := dkwX13_status_0 ++ dktX13_status_1
theorem dksX13_status_0 : cX13_status.data.toList.drop 0 = dktX13_status_0 := by decide +kernel
theorem dksX13_status_1 : cX13_status.data.toList.drop 24 = dktX13_status_1 := dk_seg dksX13_status_0 24 rfl rfl
theorem dX13_status_0 : decode cX13_status 0 = .ok (.iload_n 1, 1) := dk_27 (dk_at dksX13_status_0 0 rfl rfl)
theorem dX13_status_1 : decode cX13_status 1 = .ok (.iconst (-1), 1) := dk_2 (dk_at dksX13_status_0 1 rfl rfl)
theorem dX13_status_2 : decode cX13_status 2 = .ok (.bipush 6, 2) := dk_16 6 (dk_at dksX13_status_0 2 rfl rfl)
theorem dX13_status_4 : decode cX13_status 4 = .ok (.invokestatic 77, 3) := dk_184 0 77 (dk_at dksX13_status_0 4 rfl rfl)
theorem dX13_status_7 : decode cX13_status 7 = .ok (.ifCond .eq 14, 3) := dk_153 0 14 (dk_at dksX13_status_0 7 rfl rfl)
theorem dX13_status_10 : decode cX13_status 10 = .ok (.aload_n 0, 1) := dk_42 (dk_at dksX13_status_0 10 rfl rfl)
theorem dX13_status_11 : decode cX13_status 11 = .ok (.getfield 19, 3) := dk_180 0 19 (dk_at dksX13_status_0 11 rfl rfl)
theorem dX13_status_14 : decode cX13_status 14 = .ok (.iload_n 1, 1) := dk_27 (dk_at dksX13_status_0 14 rfl rfl)
theorem dX13_status_15 : decode cX13_status 15 = .ok (.iconst 1, 1) := dk_4 (dk_at dksX13_status_0 15 rfl rfl)
theorem dX13_status_16 : decode cX13_status 16 = .ok (.iadd, 1) := dk_96 (dk_at dksX13_status_0 16 rfl rfl)
theorem dX13_status_17 : decode cX13_status 17 = .ok (.iaload, 1) := dk_46 (dk_at dksX13_status_0 17 rfl rfl)
theorem dX13_status_18 : decode cX13_status 18 = .ok (.goto 9, 3) := dk_167 0 9 (dk_at dksX13_status_0 18 rfl rfl)
theorem dX13_status_21 : decode cX13_status 21 = .ok (.aload_n 0, 1) := dk_42 (dk_at dksX13_status_0 21 rfl rfl)
theorem dX13_status_22 : decode cX13_status 22 = .ok (.ldc 72, 2) := dk_18 72 (dk_at dksX13_status_0 22 rfl rfl)
theorem dX13_status_24 : decode cX13_status 24 = .ok (.invokevirtual 92, 3) := dk_182 0 92 (dk_at dksX13_status_1 0 rfl rfl)
theorem dX13_status_27 : decode cX13_status 27 = .ok (.ireturn, 1) := dk_172 (dk_at dksX13_status_1 3 rfl rfl)
theorem q142 : (Jvm.Cond.initialized "CarryFairModel") ∈ lw_all := lw_g (lw_at lw_m1 17 rfl) rfl
theorem q1321 : (Jvm.Cond.instantiable "CarryFairModel" (30 : Nat)) ∈ lw_all := lw_g (lw_at lw_m5 236 rfl) rfl
theorem q1323 : (Jvm.Cond.instanceMethod ({ cls := "CarryFairModel", name := "<init>", desc := "()V" } : Jvm.MethodName)) ∈ lw_all := lw_g (lw_at lw_m5 238 rfl) rfl
theorem q1324 : (Jvm.Cond.code ({ cls := "CarryFairModel", name := "<init>", desc := "()V" } : Jvm.MethodName) prog_16_method_1_code (2 : Nat) (Option.none : Option Jvm.ClassFile.FieldType)) ∈ lw_all := lw_g (lw_at lw_m5 239 rfl) rfl
theorem q1325 : (Jvm.Cond.methodLink "CarryFairModel" (1 : Nat) ({ cls := "java/lang/Object", name := "<init>", desc := "()V" } : Jvm.MethodName)) ∈ lw_all := lw_g (lw_at lw_m6 0 rfl) rfl
theorem q1326 : (Jvm.Cond.classLink "CarryFairModel" (37 : Nat) "java/lang/String") ∈ lw_all := lw_g (lw_at lw_m6 1 rfl) rfl
theorem q1328 : (Jvm.Cond.stringRef "CarryFairModel" (39 : Nat) "carrier") ∈ lw_tbl := lw_at lw_m6 3 rfl
theorem q1329 : (Jvm.Cond.stringRef "CarryFairModel" (41 : Nat) "old") ∈ lw_tbl := lw_at lw_m6 4 rfl
theorem q1330 : (Jvm.Cond.stringRef "CarryFairModel" (43 : Nat) "paired") ∈ lw_tbl := lw_at lw_m6 5 rfl
theorem q1331 : (Jvm.Cond.stringRef "CarryFairModel" (45 : Nat) "cheating") ∈ lw_tbl := lw_at lw_m6 6 rfl
theorem q1332 : (Jvm.Cond.stringRef "CarryFairModel" (47 : Nat) "handed") ∈ lw_tbl := lw_at lw_m6 7 rfl
theorem q1333 : (Jvm.Cond.stringRef "CarryFairModel" (49 : Nat) "watery") ∈ lw_tbl := lw_at lw_m6 8 rfl
theorem q1334 : (Jvm.Cond.stringRef "CarryFairModel" (51 : Nat) "boated") ∈ lw_tbl := lw_at lw_m6 9 rfl
theorem q1335 : (Jvm.Cond.fieldLink "CarryFairModel" (9 : Nat) "CarryFairModel" "now" "[I") ∈ lw_all := lw_g (lw_at lw_m6 10 rfl) rfl
theorem q1336 : (Jvm.Cond.fieldLink "CarryFairModel" (13 : Nat) "CarryFairModel" "kept" "[I") ∈ lw_all := lw_g (lw_at lw_m6 11 rfl) rfl
theorem q1337 : (Jvm.Cond.fieldLink "CarryFairModel" (16 : Nat) "CarryFairModel" "aside" "[I") ∈ lw_all := lw_g (lw_at lw_m6 12 rfl) rfl
theorem q1338 : (Jvm.Cond.fieldLink "CarryFairModel" (381 : Nat) "CarryFairModel" "isKept" "Z") ∈ lw_all := lw_g (lw_at lw_m6 13 rfl) rfl
theorem q1339 : (Jvm.Cond.fieldLink "CarryFairModel" (19 : Nat) "CarryFairModel" "found" "[I") ∈ lw_all := lw_g (lw_at lw_m6 14 rfl) rfl
theorem q1340 : (Jvm.Cond.fieldLink "CarryFairModel" (22 : Nat) "CarryFairModel" "far" "[I") ∈ lw_all := lw_g (lw_at lw_m6 15 rfl) rfl
theorem q1341 : (Jvm.Cond.fieldLink "CarryFairModel" (192 : Nat) "CarryFairModel" "doneMany" "I") ∈ lw_all := lw_g (lw_at lw_m6 16 rfl) rfl
theorem q1342 : (Jvm.Cond.fieldLink "CarryFairModel" (25 : Nat) "CarryFairModel" "least" "[I") ∈ lw_all := lw_g (lw_at lw_m6 17 rfl) rfl
theorem q1343 : (Jvm.Cond.fieldLink "CarryFairModel" (28 : Nat) "CarryFairModel" "chosen" "[I") ∈ lw_all := lw_g (lw_at lw_m6 18 rfl) rfl
theorem q1344 : (Jvm.Cond.fieldLink "CarryFairModel" (31 : Nat) "CarryFairModel" "power" "[I") ∈ lw_all := lw_g (lw_at lw_m6 19 rfl) rfl
theorem q1345 : (Jvm.Cond.fieldLink "CarryFairModel" (245 : Nat) "CarryFairModel" "bestSet" "I") ∈ lw_all := lw_g (lw_at lw_m6 20 rfl) rfl
theorem q1346 : (Jvm.Cond.fieldLink "CarryFairModel" (242 : Nat) "CarryFairModel" "bestYards" "I") ∈ lw_all := lw_g (lw_at lw_m6 21 rfl) rfl
theorem q1347 : (Jvm.Cond.fieldLink "CarryFairModel" (254 : Nat) "CarryFairModel" "bestWay" "I") ∈ lw_all := lw_g (lw_at lw_m6 22 rfl) rfl
theorem q1348 : (Jvm.Cond.fieldLink "CarryFairModel" (34 : Nat) "CarryFairModel" "tape" "[I") ∈ lw_all := lw_g (lw_at lw_m6 23 rfl) rfl
theorem q1349 : (Jvm.Cond.fieldLink "CarryFairModel" (276 : Nat) "CarryFairModel" "taped" "I") ∈ lw_all := lw_g (lw_at lw_m6 24 rfl) rfl
theorem q1350 : (Jvm.Cond.fieldLink "CarryFairModel" (282 : Nat) "CarryFairModel" "begins" "I") ∈ lw_all := lw_g (lw_at lw_m6 25 rfl) rfl
theorem q1351 : (Jvm.Cond.fieldLink "CarryFairModel" (279 : Nat) "CarryFairModel" "ends" "I") ∈ lw_all := lw_g (lw_at lw_m6 26 rfl) rfl
theorem q1352 : (Jvm.Cond.fieldLink "CarryFairModel" (291 : Nat) "CarryFairModel" "sort" "I") ∈ lw_all := lw_g (lw_at lw_m6 27 rfl) rfl
theorem q1353 : (Jvm.Cond.fieldLink "CarryFairModel" (288 : Nat) "CarryFairModel" "value" "I") ∈ lw_all := lw_g (lw_at lw_m6 28 rfl) rfl
theorem q1354 : (Jvm.Cond.fieldLink "CarryFairModel" (302 : Nat) "CarryFairModel" "isWrong" "Z") ∈ lw_all := lw_g (lw_at lw_m6 29 rfl) rfl
theorem q1355 : (Jvm.Cond.fieldLink "CarryFairModel" (53 : Nat) "CarryFairModel" "kinds" "[Ljava/lang/String;") ∈ lw_all := lw_g (lw_at lw_m6 30 rfl) rfl
theorem q1356 : (Jvm.Cond.fieldLink "CarryFairModel" (57 : Nat) "CarryFairModel" "items" "[I") ∈ lw_all := lw_g (lw_at lw_m6 31 rfl) rfl
theorem q1357 : (Jvm.Cond.fieldLink "CarryFairModel" (313 : Nat) "CarryFairModel" "itemMany" "I") ∈ lw_all := lw_g (lw_at lw_m6 32 rfl) rfl
theorem q1358 : (Jvm.Cond.fieldLink "CarryFairModel" (323 : Nat) "CarryFairModel" "carrierThen" "I") ∈ lw_all := lw_g (lw_at lw_m6 33 rfl) rfl
theorem q1359 : (Jvm.Cond.fieldLink "CarryFairModel" (351 : Nat) "CarryFairModel" "errandThen" "I") ∈ lw_all := lw_g (lw_at lw_m6 34 rfl) rfl
theorem q1360 : (Jvm.Cond.fieldLink "CarryFairModel" (360 : Nat) "CarryFairModel" "wareThen" "I") ∈ lw_all := lw_g (lw_at lw_m6 35 rfl) rfl
theorem q1361 : (Jvm.Cond.fieldLink "CarryFairModel" (60 : Nat) "CarryFairModel" "widths" "[I") ∈ lw_all := lw_g (lw_at lw_m6 36 rfl) rfl
theorem q1362 : (Jvm.Cond.fieldLink "CarryFairModel" (63 : Nat) "CarryFairModel" "sizes" "[I") ∈ lw_all := lw_g (lw_at lw_m6 37 rfl) rfl
theorem q1363 : (Jvm.Cond.fieldLink "CarryFairModel" (66 : Nat) "CarryFairModel" "numbers" "[I") ∈ lw_all := lw_g (lw_at lw_m6 38 rfl) rfl
theorem q1364 : (Jvm.Cond.fieldLink "CarryFairModel" (69 : Nat) "CarryFairModel" "moved" "[I") ∈ lw_all := lw_g (lw_at lw_m6 39 rfl) rfl
theorem q1365 : (Jvm.Cond.laysFinal "CarryFairModel" "CarryFairModel" "now" "[I") ∈ lw_all := lw_g (lw_at lw_m6 40 rfl) rfl
theorem q1366 : (Jvm.Cond.soleField "CarryFairModel" "now") ∈ lw_all := lw_g (lw_at lw_m6 41 rfl) rfl
theorem q1367 : (Jvm.Cond.laysFinal "CarryFairModel" "CarryFairModel" "kept" "[I") ∈ lw_all := lw_g (lw_at lw_m6 42 rfl) rfl
theorem q1368 : (Jvm.Cond.soleField "CarryFairModel" "kept") ∈ lw_all := lw_g (lw_at lw_m6 43 rfl) rfl
theorem q1369 : (Jvm.Cond.laysFinal "CarryFairModel" "CarryFairModel" "aside" "[I") ∈ lw_all := lw_g (lw_at lw_m6 44 rfl) rfl
theorem q1370 : (Jvm.Cond.soleField "CarryFairModel" "aside") ∈ lw_all := lw_g (lw_at lw_m6 45 rfl) rfl
theorem q1371 : (Jvm.Cond.lays "CarryFairModel" "CarryFairModel" "isKept" "Z") ∈ lw_all := lw_g (lw_at lw_m6 46 rfl) rfl
theorem q1372 : (Jvm.Cond.soleField "CarryFairModel" "isKept") ∈ lw_all := lw_g (lw_at lw_m6 47 rfl) rfl
theorem q1373 : (Jvm.Cond.laysFinal "CarryFairModel" "CarryFairModel" "found" "[I") ∈ lw_all := lw_g (lw_at lw_m6 48 rfl) rfl
theorem q1374 : (Jvm.Cond.soleField "CarryFairModel" "found") ∈ lw_all := lw_g (lw_at lw_m6 49 rfl) rfl
theorem q1375 : (Jvm.Cond.laysFinal "CarryFairModel" "CarryFairModel" "far" "[I") ∈ lw_all := lw_g (lw_at lw_m6 50 rfl) rfl
theorem q1376 : (Jvm.Cond.soleField "CarryFairModel" "far") ∈ lw_all := lw_g (lw_at lw_m6 51 rfl) rfl
theorem q1377 : (Jvm.Cond.lays "CarryFairModel" "CarryFairModel" "doneMany" "I") ∈ lw_all := lw_g (lw_at lw_m6 52 rfl) rfl
theorem q1378 : (Jvm.Cond.soleField "CarryFairModel" "doneMany") ∈ lw_all := lw_g (lw_at lw_m6 53 rfl) rfl
theorem q1379 : (Jvm.Cond.laysFinal "CarryFairModel" "CarryFairModel" "least" "[I") ∈ lw_all := lw_g (lw_at lw_m6 54 rfl) rfl
theorem q1380 : (Jvm.Cond.soleField "CarryFairModel" "least") ∈ lw_all := lw_g (lw_at lw_m6 55 rfl) rfl
theorem q1381 : (Jvm.Cond.laysFinal "CarryFairModel" "CarryFairModel" "chosen" "[I") ∈ lw_all := lw_g (lw_at lw_m6 56 rfl) rfl
theorem q1382 : (Jvm.Cond.soleField "CarryFairModel" "chosen") ∈ lw_all := lw_g (lw_at lw_m6 57 rfl) rfl
theorem q1383 : (Jvm.Cond.laysFinal "CarryFairModel" "CarryFairModel" "power" "[I") ∈ lw_all := lw_g (lw_at lw_m6 58 rfl) rfl
theorem q1384 : (Jvm.Cond.soleField "CarryFairModel" "power") ∈ lw_all := lw_g (lw_at lw_m6 59 rfl) rfl
theorem q1385 : (Jvm.Cond.lays "CarryFairModel" "CarryFairModel" "bestSet" "I") ∈ lw_all := lw_g (lw_at lw_m6 60 rfl) rfl
theorem q1386 : (Jvm.Cond.soleField "CarryFairModel" "bestSet") ∈ lw_all := lw_g (lw_at lw_m6 61 rfl) rfl
theorem q1387 : (Jvm.Cond.lays "CarryFairModel" "CarryFairModel" "bestYards" "I") ∈ lw_all := lw_g (lw_at lw_m6 62 rfl) rfl
theorem q1388 : (Jvm.Cond.soleField "CarryFairModel" "bestYards") ∈ lw_all := lw_g (lw_at lw_m6 63 rfl) rfl
theorem q1389 : (Jvm.Cond.lays "CarryFairModel" "CarryFairModel" "bestWay" "I") ∈ lw_all := lw_g (lw_at lw_m6 64 rfl) rfl
theorem q1390 : (Jvm.Cond.soleField "CarryFairModel" "bestWay") ∈ lw_all := lw_g (lw_at lw_m6 65 rfl) rfl
theorem q1391 : (Jvm.Cond.laysFinal "CarryFairModel" "CarryFairModel" "tape" "[I") ∈ lw_all := lw_g (lw_at lw_m6 66 rfl) rfl
theorem q1392 : (Jvm.Cond.soleField "CarryFairModel" "tape") ∈ lw_all := lw_g (lw_at lw_m6 67 rfl) rfl
theorem q1393 : (Jvm.Cond.lays "CarryFairModel" "CarryFairModel" "taped" "I") ∈ lw_all := lw_g (lw_at lw_m6 68 rfl) rfl
theorem q1394 : (Jvm.Cond.soleField "CarryFairModel" "taped") ∈ lw_all := lw_g (lw_at lw_m6 69 rfl) rfl
theorem q1395 : (Jvm.Cond.lays "CarryFairModel" "CarryFairModel" "begins" "I") ∈ lw_all := lw_g (lw_at lw_m6 70 rfl) rfl
theorem q1396 : (Jvm.Cond.soleField "CarryFairModel" "begins") ∈ lw_all := lw_g (lw_at lw_m6 71 rfl) rfl
theorem q1397 : (Jvm.Cond.lays "CarryFairModel" "CarryFairModel" "ends" "I") ∈ lw_all := lw_g (lw_at lw_m6 72 rfl) rfl
theorem q1398 : (Jvm.Cond.soleField "CarryFairModel" "ends") ∈ lw_all := lw_g (lw_at lw_m6 73 rfl) rfl
theorem q1399 : (Jvm.Cond.lays "CarryFairModel" "CarryFairModel" "sort" "I") ∈ lw_all := lw_g (lw_at lw_m6 74 rfl) rfl
theorem q1400 : (Jvm.Cond.soleField "CarryFairModel" "sort") ∈ lw_all := lw_g (lw_at lw_m6 75 rfl) rfl
theorem q1401 : (Jvm.Cond.lays "CarryFairModel" "CarryFairModel" "value" "I") ∈ lw_all := lw_g (lw_at lw_m6 76 rfl) rfl
theorem q1402 : (Jvm.Cond.soleField "CarryFairModel" "value") ∈ lw_all := lw_g (lw_at lw_m6 77 rfl) rfl
theorem q1403 : (Jvm.Cond.lays "CarryFairModel" "CarryFairModel" "isWrong" "Z") ∈ lw_all := lw_g (lw_at lw_m6 78 rfl) rfl
theorem q1404 : (Jvm.Cond.soleField "CarryFairModel" "isWrong") ∈ lw_all := lw_g (lw_at lw_m6 79 rfl) rfl
theorem q1405 : (Jvm.Cond.laysFinal "CarryFairModel" "CarryFairModel" "kinds" "[Ljava/lang/String;") ∈ lw_all := lw_g (lw_at lw_m6 80 rfl) rfl
theorem q1406 : (Jvm.Cond.soleField "CarryFairModel" "kinds") ∈ lw_all := lw_g (lw_at lw_m6 81 rfl) rfl
theorem q1407 : (Jvm.Cond.laysFinal "CarryFairModel" "CarryFairModel" "items" "[I") ∈ lw_all := lw_g (lw_at lw_m6 82 rfl) rfl
theorem q1408 : (Jvm.Cond.soleField "CarryFairModel" "items") ∈ lw_all := lw_g (lw_at lw_m6 83 rfl) rfl
theorem q1409 : (Jvm.Cond.lays "CarryFairModel" "CarryFairModel" "itemMany" "I") ∈ lw_all := lw_g (lw_at lw_m6 84 rfl) rfl
theorem q1410 : (Jvm.Cond.soleField "CarryFairModel" "itemMany") ∈ lw_all := lw_g (lw_at lw_m6 85 rfl) rfl
theorem q1411 : (Jvm.Cond.lays "CarryFairModel" "CarryFairModel" "carrierThen" "I") ∈ lw_all := lw_g (lw_at lw_m6 86 rfl) rfl
theorem q1412 : (Jvm.Cond.soleField "CarryFairModel" "carrierThen") ∈ lw_all := lw_g (lw_at lw_m6 87 rfl) rfl
theorem q1413 : (Jvm.Cond.lays "CarryFairModel" "CarryFairModel" "errandThen" "I") ∈ lw_all := lw_g (lw_at lw_m6 88 rfl) rfl
theorem q1414 : (Jvm.Cond.soleField "CarryFairModel" "errandThen") ∈ lw_all := lw_g (lw_at lw_m6 89 rfl) rfl
theorem q1415 : (Jvm.Cond.lays "CarryFairModel" "CarryFairModel" "wareThen" "I") ∈ lw_all := lw_g (lw_at lw_m6 90 rfl) rfl
theorem q1416 : (Jvm.Cond.soleField "CarryFairModel" "wareThen") ∈ lw_all := lw_g (lw_at lw_m6 91 rfl) rfl
theorem q1417 : (Jvm.Cond.laysFinal "CarryFairModel" "CarryFairModel" "widths" "[I") ∈ lw_all := lw_g (lw_at lw_m6 92 rfl) rfl
theorem q1418 : (Jvm.Cond.soleField "CarryFairModel" "widths") ∈ lw_all := lw_g (lw_at lw_m6 93 rfl) rfl
theorem q1419 : (Jvm.Cond.laysFinal "CarryFairModel" "CarryFairModel" "sizes" "[I") ∈ lw_all := lw_g (lw_at lw_m6 94 rfl) rfl
theorem q1420 : (Jvm.Cond.soleField "CarryFairModel" "sizes") ∈ lw_all := lw_g (lw_at lw_m6 95 rfl) rfl
theorem q1421 : (Jvm.Cond.laysFinal "CarryFairModel" "CarryFairModel" "numbers" "[I") ∈ lw_all := lw_g (lw_at lw_m6 96 rfl) rfl
theorem q1422 : (Jvm.Cond.soleField "CarryFairModel" "numbers") ∈ lw_all := lw_g (lw_at lw_m6 97 rfl) rfl
theorem q1423 : (Jvm.Cond.laysFinal "CarryFairModel" "CarryFairModel" "moved" "[I") ∈ lw_all := lw_g (lw_at lw_m6 98 rfl) rfl
theorem q1424 : (Jvm.Cond.soleField "CarryFairModel" "moved") ∈ lw_all := lw_g (lw_at lw_m6 99 rfl) rfl
theorem q1425 : (Jvm.Cond.superclass "CarryFairModel" "java/lang/Object") ∈ lw_all := lw_g (lw_at lw_m6 100 rfl) rfl
theorem q1427 : (Jvm.Cond.instanceMethod ({ cls := "CarryFairModel", name := "carrier", desc := "(I)I" } : Jvm.MethodName)) ∈ lw_all := lw_g (lw_at lw_m6 102 rfl) rfl
theorem q1428 : (Jvm.Cond.selects "CarryFairModel" ({ cls := "CarryFairModel", name := "carrier", desc := "(I)I" } : Jvm.MethodName) ({ cls := "CarryFairModel", name := "carrier", desc := "(I)I" } : Jvm.MethodName)) ∈ lw_all := lw_g (lw_at lw_m6 103 rfl) rfl
theorem q1429 : (Jvm.Cond.code ({ cls := "CarryFairModel", name := "carrier", desc := "(I)I" } : Jvm.MethodName) prog_16_method_20_code (2 : Nat) (Option.some Jvm.ClassFile.FieldType.int)) ∈ lw_all := lw_g (lw_at lw_m6 104 rfl) rfl
theorem q1430 : (Jvm.Cond.methodLink "CarryFairModel" (88 : Nat) ({ cls := "CarryFairModel", name := "isKind", desc := "(I)Z" } : Jvm.MethodName)) ∈ lw_all := lw_g (lw_at lw_m6 105 rfl) rfl
theorem q1431 : (Jvm.Cond.static ({ cls := "CarryFairModel", name := "isKind", desc := "(I)Z" } : Jvm.MethodName)) ∈ lw_all := lw_g (lw_at lw_m6 106 rfl) rfl
theorem q1432 : (Jvm.Cond.code ({ cls := "CarryFairModel", name := "isKind", desc := "(I)Z" } : Jvm.MethodName) prog_16_method_13_code (1 : Nat) (Option.some Jvm.ClassFile.FieldType.boolean)) ∈ lw_all := lw_g (lw_at lw_m6 107 rfl) rfl
theorem q1433 : (Jvm.Cond.methodLink "CarryFairModel" (77 : Nat) ({ cls := "CarryFairModel", name := "within", desc := "(III)Z" } : Jvm.MethodName)) ∈ lw_all := lw_g (lw_at lw_m6 108 rfl) rfl
theorem q1434 : (Jvm.Cond.static ({ cls := "CarryFairModel", name := "within", desc := "(III)Z" } : Jvm.MethodName)) ∈ lw_all := lw_g (lw_at lw_m6 109 rfl) rfl
theorem q1435 : (Jvm.Cond.code ({ cls := "CarryFairModel", name := "within", desc := "(III)Z" } : Jvm.MethodName) prog_16_method_3_code (3 : Nat) (Option.some Jvm.ClassFile.FieldType.boolean)) ∈ lw_all := lw_g (lw_at lw_m6 110 rfl) rfl
theorem q1436 : (Jvm.Cond.constant "CarryFairModel" (72 : Nat) (-1000001 : Int32)) ∈ lw_all := lw_g (lw_at lw_m6 111 rfl) rfl
theorem q1437 : (Jvm.Cond.methodLink "CarryFairModel" (92 : Nat) ({ cls := "CarryFairModel", name := "finding", desc := "(I)I" } : Jvm.MethodName)) ∈ lw_all := lw_g (lw_at lw_m6 112 rfl) rfl
theorem q1438 : (Jvm.Cond.privateMethod ({ cls := "CarryFairModel", name := "finding", desc := "(I)I" } : Jvm.MethodName)) ∈ lw_tbl := lw_at lw_m6 113 rfl
theorem q1439 : (Jvm.Cond.instanceMethod ({ cls := "CarryFairModel", name := "finding", desc := "(I)I" } : Jvm.MethodName)) ∈ lw_all := lw_g (lw_at lw_m6 114 rfl) rfl
theorem q1440 : (Jvm.Cond.code ({ cls := "CarryFairModel", name := "finding", desc := "(I)I" } : Jvm.MethodName) prog_16_method_2_code (2 : Nat) (Option.some Jvm.ClassFile.FieldType.int)) ∈ lw_all := lw_g (lw_at lw_m6 115 rfl) rfl
theorem q1441 : (Jvm.Cond.constant "CarryFairModel" (96 : Nat) (-1000002 : Int32)) ∈ lw_all := lw_g (lw_at lw_m6 116 rfl) rfl
theorem q1442 : (Jvm.Cond.methodLink "CarryFairModel" (97 : Nat) ({ cls := "CarryFairModel", name := "newCarrier", desc := "(III)I" } : Jvm.MethodName)) ∈ lw_all := lw_g (lw_at lw_m6 117 rfl) rfl
theorem q1443 : (Jvm.Cond.privateMethod ({ cls := "CarryFairModel", name := "newCarrier", desc := "(III)I" } : Jvm.MethodName)) ∈ lw_tbl := lw_at lw_m6 118 rfl
theorem q1444 : (Jvm.Cond.instanceMethod ({ cls := "CarryFairModel", name := "newCarrier", desc := "(III)I" } : Jvm.MethodName)) ∈ lw_all := lw_g (lw_at lw_m6 119 rfl) rfl
theorem q1445 : (Jvm.Cond.code ({ cls := "CarryFairModel", name := "newCarrier", desc := "(III)I" } : Jvm.MethodName) prog_16_method_19_code (5 : Nat) (Option.some Jvm.ClassFile.FieldType.int)) ∈ lw_all := lw_g (lw_at lw_m6 120 rfl) rfl
theorem q1446 : (Jvm.Cond.methodLink "CarryFairModel" (81 : Nat) ({ cls := "CarryFairModel", name := "cAt", desc := "(II)I" } : Jvm.MethodName)) ∈ lw_all := lw_g (lw_at lw_m6 121 rfl) rfl
theorem q1447 : (Jvm.Cond.static ({ cls := "CarryFairModel", name := "cAt", desc := "(II)I" } : Jvm.MethodName)) ∈ lw_all := lw_g (lw_at lw_m6 122 rfl) rfl
theorem q1448 : (Jvm.Cond.code ({ cls := "CarryFairModel", name := "cAt", desc := "(II)I" } : Jvm.MethodName) prog_16_method_14_code (2 : Nat) (Option.some Jvm.ClassFile.FieldType.int)) ∈ lw_all := lw_g (lw_at lw_m6 123 rfl) rfl
theorem q1450 : (Jvm.Cond.instanceMethod ({ cls := "CarryFairModel", name := "of", desc := "(II)I" } : Jvm.MethodName)) ∈ lw_all := lw_g (lw_at lw_m6 125 rfl) rfl
theorem q1451 : (Jvm.Cond.selects "CarryFairModel" ({ cls := "CarryFairModel", name := "of", desc := "(II)I" } : Jvm.MethodName) ({ cls := "CarryFairModel", name := "of", desc := "(II)I" } : Jvm.MethodName)) ∈ lw_all := lw_g (lw_at lw_m6 126 rfl) rfl
theorem q1452 : (Jvm.Cond.code ({ cls := "CarryFairModel", name := "of", desc := "(II)I" } : Jvm.MethodName) prog_16_method_27_code (3 : Nat) (Option.some Jvm.ClassFile.FieldType.int)) ∈ lw_all := lw_g (lw_at lw_m6 127 rfl) rfl
theorem q1453 : (Jvm.Cond.methodLink "CarryFairModel" (117 : Nat) ({ cls := "CarryFairModel", name := "isCarrier", desc := "(I)Z" } : Jvm.MethodName)) ∈ lw_all := lw_g (lw_at lw_m6 128 rfl) rfl
theorem q1454 : (Jvm.Cond.privateMethod ({ cls := "CarryFairModel", name := "isCarrier", desc := "(I)Z" } : Jvm.MethodName)) ∈ lw_tbl := lw_at lw_m6 129 rfl
theorem q1455 : (Jvm.Cond.instanceMethod ({ cls := "CarryFairModel", name := "isCarrier", desc := "(I)Z" } : Jvm.MethodName)) ∈ lw_all := lw_g (lw_at lw_m6 130 rfl) rfl
theorem q1456 : (Jvm.Cond.code ({ cls := "CarryFairModel", name := "isCarrier", desc := "(I)Z" } : Jvm.MethodName) prog_16_method_10_code (2 : Nat) (Option.some Jvm.ClassFile.FieldType.boolean)) ∈ lw_all := lw_g (lw_at lw_m6 131 rfl) rfl
theorem q1457 : (Jvm.Cond.methodLink "CarryFairModel" (120 : Nat) ({ cls := "CarryFairModel", name := "bears", desc := "(I)I" } : Jvm.MethodName)) ∈ lw_all := lw_g (lw_at lw_m6 132 rfl) rfl
theorem q1458 : (Jvm.Cond.privateMethod ({ cls := "CarryFairModel", name := "bears", desc := "(I)I" } : Jvm.MethodName)) ∈ lw_tbl := lw_at lw_m6 133 rfl
theorem q1459 : (Jvm.Cond.instanceMethod ({ cls := "CarryFairModel", name := "bears", desc := "(I)I" } : Jvm.MethodName)) ∈ lw_all := lw_g (lw_at lw_m6 134 rfl) rfl
theorem q1460 : (Jvm.Cond.code ({ cls := "CarryFairModel", name := "bears", desc := "(I)I" } : Jvm.MethodName) prog_16_method_23_code (4 : Nat) (Option.some Jvm.ClassFile.FieldType.int)) ∈ lw_all := lw_g (lw_at lw_m6 135 rfl) rfl
theorem q1461 : (Jvm.Cond.methodLink "CarryFairModel" (104 : Nat) ({ cls := "CarryFairModel", name := "cIs", desc := "(II)I" } : Jvm.MethodName)) ∈ lw_all := lw_g (lw_at lw_m6 136 rfl) rfl
theorem q1462 : (Jvm.Cond.privateMethod ({ cls := "CarryFairModel", name := "cIs", desc := "(II)I" } : Jvm.MethodName)) ∈ lw_tbl := lw_at lw_m6 137 rfl
theorem q1463 : (Jvm.Cond.instanceMethod ({ cls := "CarryFairModel", name := "cIs", desc := "(II)I" } : Jvm.MethodName)) ∈ lw_all := lw_g (lw_at lw_m6 138 rfl) rfl
theorem q1464 : (Jvm.Cond.code ({ cls := "CarryFairModel", name := "cIs", desc := "(II)I" } : Jvm.MethodName) prog_16_method_15_code (3 : Nat) (Option.some Jvm.ClassFile.FieldType.int)) ∈ lw_all := lw_g (lw_at lw_m6 139 rfl) rfl
theorem q1465 : (Jvm.Cond.methodLink "CarryFairModel" (107 : Nat) ({ cls := "CarryFairModel", name := "isUnder", desc := "(II)Z" } : Jvm.MethodName)) ∈ lw_all := lw_g (lw_at lw_m6 140 rfl) rfl
theorem q1466 : (Jvm.Cond.static ({ cls := "CarryFairModel", name := "isUnder", desc := "(II)Z" } : Jvm.MethodName)) ∈ lw_all := lw_g (lw_at lw_m6 141 rfl) rfl
theorem q1467 : (Jvm.Cond.code ({ cls := "CarryFairModel", name := "isUnder", desc := "(II)Z" } : Jvm.MethodName) prog_16_method_22_code (3 : Nat) (Option.some Jvm.ClassFile.FieldType.boolean)) ∈ lw_all := lw_g (lw_at lw_m6 142 rfl) rfl
theorem q1468 : (Jvm.Cond.methodLink "CarryFairModel" (101 : Nat) ({ cls := "CarryFairModel", name := "above", desc := "(I)I" } : Jvm.MethodName)) ∈ lw_all := lw_g (lw_at lw_m6 143 rfl) rfl
theorem q1469 : (Jvm.Cond.static ({ cls := "CarryFairModel", name := "above", desc := "(I)I" } : Jvm.MethodName)) ∈ lw_all := lw_g (lw_at lw_m6 144 rfl) rfl
theorem q1470 : (Jvm.Cond.code ({ cls := "CarryFairModel", name := "above", desc := "(I)I" } : Jvm.MethodName) prog_16_method_21_code (1 : Nat) (Option.some Jvm.ClassFile.FieldType.int)) ∈ lw_all := lw_g (lw_at lw_m6 145 rfl) rfl
theorem q1471 : (Jvm.Cond.methodLink "CarryFairModel" (123 : Nat) ({ cls := "CarryFairModel", name := "carries", desc := "(I)I" } : Jvm.MethodName)) ∈ lw_all := lw_g (lw_at lw_m6 146 rfl) rfl
theorem q1472 : (Jvm.Cond.privateMethod ({ cls := "CarryFairModel", name := "carries", desc := "(I)I" } : Jvm.MethodName)) ∈ lw_tbl := lw_at lw_m6 147 rfl
theorem q1473 : (Jvm.Cond.instanceMethod ({ cls := "CarryFairModel", name := "carries", desc := "(I)I" } : Jvm.MethodName)) ∈ lw_all := lw_g (lw_at lw_m6 148 rfl) rfl
theorem q1474 : (Jvm.Cond.code ({ cls := "CarryFairModel", name := "carries", desc := "(I)I" } : Jvm.MethodName) prog_16_method_25_code (4 : Nat) (Option.some Jvm.ClassFile.FieldType.int)) ∈ lw_all := lw_g (lw_at lw_m6 149 rfl) rfl
theorem q1475 : (Jvm.Cond.methodLink "CarryFairModel" (111 : Nat) ({ cls := "CarryFairModel", name := "eIs", desc := "(II)I" } : Jvm.MethodName)) ∈ lw_all := lw_g (lw_at lw_m6 150 rfl) rfl
theorem q1476 : (Jvm.Cond.privateMethod ({ cls := "CarryFairModel", name := "eIs", desc := "(II)I" } : Jvm.MethodName)) ∈ lw_tbl := lw_at lw_m6 151 rfl
theorem q1477 : (Jvm.Cond.instanceMethod ({ cls := "CarryFairModel", name := "eIs", desc := "(II)I" } : Jvm.MethodName)) ∈ lw_all := lw_g (lw_at lw_m6 152 rfl) rfl
theorem q1478 : (Jvm.Cond.code ({ cls := "CarryFairModel", name := "eIs", desc := "(II)I" } : Jvm.MethodName) prog_16_method_17_code (3 : Nat) (Option.some Jvm.ClassFile.FieldType.int)) ∈ lw_all := lw_g (lw_at lw_m6 153 rfl) rfl
theorem q1479 : (Jvm.Cond.methodLink "CarryFairModel" (85 : Nat) ({ cls := "CarryFairModel", name := "eAt", desc := "(II)I" } : Jvm.MethodName)) ∈ lw_all := lw_g (lw_at lw_m6 154 rfl) rfl
theorem q1480 : (Jvm.Cond.static ({ cls := "CarryFairModel", name := "eAt", desc := "(II)I" } : Jvm.MethodName)) ∈ lw_all := lw_g (lw_at lw_m6 155 rfl) rfl
theorem q1481 : (Jvm.Cond.code ({ cls := "CarryFairModel", name := "eAt", desc := "(II)I" } : Jvm.MethodName) prog_16_method_16_code (2 : Nat) (Option.some Jvm.ClassFile.FieldType.int)) ∈ lw_all := lw_g (lw_at lw_m6 156 rfl) rfl
theorem q1482 : (Jvm.Cond.methodLink "CarryFairModel" (126 : Nat) ({ cls := "CarryFairModel", name := "weighs", desc := "(I)I" } : Jvm.MethodName)) ∈ lw_all := lw_g (lw_at lw_m6 157 rfl) rfl
theorem q1483 : (Jvm.Cond.privateMethod ({ cls := "CarryFairModel", name := "weighs", desc := "(I)I" } : Jvm.MethodName)) ∈ lw_tbl := lw_at lw_m6 158 rfl
theorem q1484 : (Jvm.Cond.instanceMethod ({ cls := "CarryFairModel", name := "weighs", desc := "(I)I" } : Jvm.MethodName)) ∈ lw_all := lw_g (lw_at lw_m6 159 rfl) rfl
theorem q1485 : (Jvm.Cond.code ({ cls := "CarryFairModel", name := "weighs", desc := "(I)I" } : Jvm.MethodName) prog_16_method_26_code (4 : Nat) (Option.some Jvm.ClassFile.FieldType.int)) ∈ lw_all := lw_g (lw_at lw_m6 160 rfl) rfl
theorem q1486 : (Jvm.Cond.methodLink "CarryFairModel" (114 : Nat) ({ cls := "CarryFairModel", name := "has", desc := "(II)Z" } : Jvm.MethodName)) ∈ lw_all := lw_g (lw_at lw_m6 161 rfl) rfl
theorem q1487 : (Jvm.Cond.static ({ cls := "CarryFairModel", name := "has", desc := "(II)Z" } : Jvm.MethodName)) ∈ lw_all := lw_g (lw_at lw_m6 162 rfl) rfl
theorem q1488 : (Jvm.Cond.code ({ cls := "CarryFairModel", name := "has", desc := "(II)Z" } : Jvm.MethodName) prog_16_method_7_code (2 : Nat) (Option.some Jvm.ClassFile.FieldType.boolean)) ∈ lw_all := lw_g (lw_at lw_m6 163 rfl) rfl
theorem q1490 : (Jvm.Cond.instanceMethod ({ cls := "CarryFairModel", name := "change", desc := "(III)I" } : Jvm.MethodName)) ∈ lw_all := lw_g (lw_at lw_m6 165 rfl) rfl
theorem q1491 : (Jvm.Cond.selects "CarryFairModel" ({ cls := "CarryFairModel", name := "change", desc := "(III)I" } : Jvm.MethodName) ({ cls := "CarryFairModel", name := "change", desc := "(III)I" } : Jvm.MethodName)) ∈ lw_all := lw_g (lw_at lw_m6 166 rfl) rfl
theorem q1492 : (Jvm.Cond.code ({ cls := "CarryFairModel", name := "change", desc := "(III)I" } : Jvm.MethodName) prog_16_method_28_code (5 : Nat) (Option.some Jvm.ClassFile.FieldType.int)) ∈ lw_all := lw_g (lw_at lw_m6 167 rfl) rfl
theorem q1493 : (Jvm.Cond.methodLink "CarryFairModel" (129 : Nat) ({ cls := "CarryFairModel", name := "isPlace", desc := "(I)Z" } : Jvm.MethodName)) ∈ lw_all := lw_g (lw_at lw_m6 168 rfl) rfl
theorem q1494 : (Jvm.Cond.static ({ cls := "CarryFairModel", name := "isPlace", desc := "(I)Z" } : Jvm.MethodName)) ∈ lw_all := lw_g (lw_at lw_m6 169 rfl) rfl
theorem q1495 : (Jvm.Cond.code ({ cls := "CarryFairModel", name := "isPlace", desc := "(I)Z" } : Jvm.MethodName) prog_16_method_9_code (1 : Nat) (Option.some Jvm.ClassFile.FieldType.boolean)) ∈ lw_all := lw_g (lw_at lw_m6 170 rfl) rfl
theorem q1496 : (Jvm.Cond.constant "CarryFairModel" (132 : Nat) (999999 : Int32)) ∈ lw_all := lw_g (lw_at lw_m6 171 rfl) rfl
theorem q1497 : (Jvm.Cond.methodLink "CarryFairModel" (133 : Nat) ({ cls := "CarryFairModel", name := "become", desc := "(II)I" } : Jvm.MethodName)) ∈ lw_all := lw_g (lw_at lw_m6 172 rfl) rfl
theorem q1498 : (Jvm.Cond.privateMethod ({ cls := "CarryFairModel", name := "become", desc := "(II)I" } : Jvm.MethodName)) ∈ lw_tbl := lw_at lw_m6 173 rfl
theorem q1499 : (Jvm.Cond.instanceMethod ({ cls := "CarryFairModel", name := "become", desc := "(II)I" } : Jvm.MethodName)) ∈ lw_all := lw_g (lw_at lw_m6 174 rfl) rfl
theorem q1500 : (Jvm.Cond.code ({ cls := "CarryFairModel", name := "become", desc := "(II)I" } : Jvm.MethodName) prog_16_method_4_code (4 : Nat) (Option.some Jvm.ClassFile.FieldType.int)) ∈ lw_all := lw_g (lw_at lw_m6 175 rfl) rfl
theorem q1502 : (Jvm.Cond.instanceMethod ({ cls := "CarryFairModel", name := "way", desc := "(IIII)I" } : Jvm.MethodName)) ∈ lw_all := lw_g (lw_at lw_m6 177 rfl) rfl
theorem q1503 : (Jvm.Cond.selects "CarryFairModel" ({ cls := "CarryFairModel", name := "way", desc := "(IIII)I" } : Jvm.MethodName) ({ cls := "CarryFairModel", name := "way", desc := "(IIII)I" } : Jvm.MethodName)) ∈ lw_all := lw_g (lw_at lw_m6 178 rfl) rfl
theorem q1504 : (Jvm.Cond.code ({ cls := "CarryFairModel", name := "way", desc := "(IIII)I" } : Jvm.MethodName) prog_16_method_31_code (6 : Nat) (Option.some Jvm.ClassFile.FieldType.int)) ∈ lw_all := lw_g (lw_at lw_m6 179 rfl) rfl
theorem q1505 : (Jvm.Cond.methodLink "CarryFairModel" (147 : Nat) ({ cls := "CarryFairModel", name := "wayIs", desc := "(IIII)I" } : Jvm.MethodName)) ∈ lw_all := lw_g (lw_at lw_m6 180 rfl) rfl
theorem q1506 : (Jvm.Cond.privateMethod ({ cls := "CarryFairModel", name := "wayIs", desc := "(IIII)I" } : Jvm.MethodName)) ∈ lw_tbl := lw_at lw_m6 181 rfl
theorem q1507 : (Jvm.Cond.instanceMethod ({ cls := "CarryFairModel", name := "wayIs", desc := "(IIII)I" } : Jvm.MethodName)) ∈ lw_all := lw_g (lw_at lw_m6 182 rfl) rfl
theorem q1508 : (Jvm.Cond.code ({ cls := "CarryFairModel", name := "wayIs", desc := "(IIII)I" } : Jvm.MethodName) prog_16_method_30_code (5 : Nat) (Option.some Jvm.ClassFile.FieldType.int)) ∈ lw_all := lw_g (lw_at lw_m6 183 rfl) rfl
theorem q1509 : (Jvm.Cond.methodLink "CarryFairModel" (144 : Nat) ({ cls := "CarryFairModel", name := "wayAt", desc := "(II)I" } : Jvm.MethodName)) ∈ lw_all := lw_g (lw_at lw_m6 184 rfl) rfl
theorem q1510 : (Jvm.Cond.static ({ cls := "CarryFairModel", name := "wayAt", desc := "(II)I" } : Jvm.MethodName)) ∈ lw_all := lw_g (lw_at lw_m6 185 rfl) rfl
theorem q1511 : (Jvm.Cond.code ({ cls := "CarryFairModel", name := "wayAt", desc := "(II)I" } : Jvm.MethodName) prog_16_method_29_code (4 : Nat) (Option.some Jvm.ClassFile.FieldType.int)) ∈ lw_all := lw_g (lw_at lw_m6 186 rfl) rfl
theorem q1512 : (Jvm.Cond.methodLink "CarryFairModel" (136 : Nat) ({ cls := "java/lang/Math", name := "min", desc := "(II)I" } : Jvm.MethodName)) ∈ lw_all := lw_g (lw_at lw_m6 187 rfl) rfl
theorem q1513 : (Jvm.Cond.methodLink "CarryFairModel" (141 : Nat) ({ cls := "java/lang/Math", name := "max", desc := "(II)I" } : Jvm.MethodName)) ∈ lw_all := lw_g (lw_at lw_m6 188 rfl) rfl
theorem q1515 : (Jvm.Cond.instanceMethod ({ cls := "CarryFairModel", name := "wayOf", desc := "(III)I" } : Jvm.MethodName)) ∈ lw_all := lw_g (lw_at lw_m6 190 rfl) rfl
theorem q1516 : (Jvm.Cond.selects "CarryFairModel" ({ cls := "CarryFairModel", name := "wayOf", desc := "(III)I" } : Jvm.MethodName) ({ cls := "CarryFairModel", name := "wayOf", desc := "(III)I" } : Jvm.MethodName)) ∈ lw_all := lw_g (lw_at lw_m6 191 rfl) rfl
theorem q1517 : (Jvm.Cond.code ({ cls := "CarryFairModel", name := "wayOf", desc := "(III)I" } : Jvm.MethodName) prog_16_method_32_code (5 : Nat) (Option.some Jvm.ClassFile.FieldType.int)) ∈ lw_all := lw_g (lw_at lw_m6 192 rfl) rfl
theorem q1519 : (Jvm.Cond.instanceMethod ({ cls := "CarryFairModel", name := "errand", desc := "(III)I" } : Jvm.MethodName)) ∈ lw_all := lw_g (lw_at lw_m6 194 rfl) rfl
theorem q1520 : (Jvm.Cond.selects "CarryFairModel" ({ cls := "CarryFairModel", name := "errand", desc := "(III)I" } : Jvm.MethodName) ({ cls := "CarryFairModel", name := "errand", desc := "(III)I" } : Jvm.MethodName)) ∈ lw_all := lw_g (lw_at lw_m6 195 rfl) rfl
theorem q1521 : (Jvm.Cond.code ({ cls := "CarryFairModel", name := "errand", desc := "(III)I" } : Jvm.MethodName) prog_16_method_34_code (4 : Nat) (Option.some Jvm.ClassFile.FieldType.int)) ∈ lw_all := lw_g (lw_at lw_m6 196 rfl) rfl
theorem q1522 : (Jvm.Cond.methodLink "CarryFairModel" (151 : Nat) ({ cls := "CarryFairModel", name := "newErrand", desc := "(III)I" } : Jvm.MethodName)) ∈ lw_all := lw_g (lw_at lw_m6 197 rfl) rfl
theorem q1523 : (Jvm.Cond.privateMethod ({ cls := "CarryFairModel", name := "newErrand", desc := "(III)I" } : Jvm.MethodName)) ∈ lw_tbl := lw_at lw_m6 198 rfl
theorem q1524 : (Jvm.Cond.instanceMethod ({ cls := "CarryFairModel", name := "newErrand", desc := "(III)I" } : Jvm.MethodName)) ∈ lw_all := lw_g (lw_at lw_m6 199 rfl) rfl
theorem q1525 : (Jvm.Cond.code ({ cls := "CarryFairModel", name := "newErrand", desc := "(III)I" } : Jvm.MethodName) prog_16_method_33_code (5 : Nat) (Option.some Jvm.ClassFile.FieldType.int)) ∈ lw_all := lw_g (lw_at lw_m6 200 rfl) rfl
theorem q1527 : (Jvm.Cond.instanceMethod ({ cls := "CarryFairModel", name := "errandOf", desc := "(II)I" } : Jvm.MethodName)) ∈ lw_all := lw_g (lw_at lw_m6 202 rfl) rfl
theorem q1528 : (Jvm.Cond.selects "CarryFairModel" ({ cls := "CarryFairModel", name := "errandOf", desc := "(II)I" } : Jvm.MethodName) ({ cls := "CarryFairModel", name := "errandOf", desc := "(II)I" } : Jvm.MethodName)) ∈ lw_all := lw_g (lw_at lw_m6 203 rfl) rfl
theorem q1529 : (Jvm.Cond.code ({ cls := "CarryFairModel", name := "errandOf", desc := "(II)I" } : Jvm.MethodName) prog_16_method_35_code (4 : Nat) (Option.some Jvm.ClassFile.FieldType.int)) ∈ lw_all := lw_g (lw_at lw_m6 204 rfl) rfl
theorem q1530 : (Jvm.Cond.methodLink "CarryFairModel" (154 : Nat) ({ cls := "CarryFairModel", name := "isErrand", desc := "(I)Z" } : Jvm.MethodName)) ∈ lw_all := lw_g (lw_at lw_m6 205 rfl) rfl
theorem q1531 : (Jvm.Cond.privateMethod ({ cls := "CarryFairModel", name := "isErrand", desc := "(I)Z" } : Jvm.MethodName)) ∈ lw_tbl := lw_at lw_m6 206 rfl
theorem q1532 : (Jvm.Cond.instanceMethod ({ cls := "CarryFairModel", name := "isErrand", desc := "(I)Z" } : Jvm.MethodName)) ∈ lw_all := lw_g (lw_at lw_m6 207 rfl) rfl
theorem q1533 : (Jvm.Cond.code ({ cls := "CarryFairModel", name := "isErrand", desc := "(I)Z" } : Jvm.MethodName) prog_16_method_11_code (2 : Nat) (Option.some Jvm.ClassFile.FieldType.boolean)) ∈ lw_all := lw_g (lw_at lw_m6 208 rfl) rfl
theorem q1534 : (Jvm.Cond.methodLink "CarryFairModel" (157 : Nat) ({ cls := "CarryFairModel", name := "worthOf", desc := "(I)I" } : Jvm.MethodName)) ∈ lw_all := lw_g (lw_at lw_m6 209 rfl) rfl
theorem q1535 : (Jvm.Cond.privateMethod ({ cls := "CarryFairModel", name := "worthOf", desc := "(I)I" } : Jvm.MethodName)) ∈ lw_tbl := lw_at lw_m6 210 rfl
theorem q1536 : (Jvm.Cond.instanceMethod ({ cls := "CarryFairModel", name := "worthOf", desc := "(I)I" } : Jvm.MethodName)) ∈ lw_all := lw_g (lw_at lw_m6 211 rfl) rfl
theorem q1537 : (Jvm.Cond.code ({ cls := "CarryFairModel", name := "worthOf", desc := "(I)I" } : Jvm.MethodName) prog_16_method_43_code (3 : Nat) (Option.some Jvm.ClassFile.FieldType.int)) ∈ lw_all := lw_g (lw_at lw_m6 212 rfl) rfl
theorem q1538 : (Jvm.Cond.methodLink "CarryFairModel" (178 : Nat) ({ cls := "CarryFairModel", name := "farFor", desc := "(III)I" } : Jvm.MethodName)) ∈ lw_all := lw_g (lw_at lw_m6 213 rfl) rfl
theorem q1539 : (Jvm.Cond.privateMethod ({ cls := "CarryFairModel", name := "farFor", desc := "(III)I" } : Jvm.MethodName)) ∈ lw_tbl := lw_at lw_m6 214 rfl
theorem q1540 : (Jvm.Cond.instanceMethod ({ cls := "CarryFairModel", name := "farFor", desc := "(III)I" } : Jvm.MethodName)) ∈ lw_all := lw_g (lw_at lw_m6 215 rfl) rfl
theorem q1541 : (Jvm.Cond.code ({ cls := "CarryFairModel", name := "farFor", desc := "(III)I" } : Jvm.MethodName) prog_16_method_41_code (4 : Nat) (Option.some Jvm.ClassFile.FieldType.int)) ∈ lw_all := lw_g (lw_at lw_m6 216 rfl) rfl
theorem q1542 : (Jvm.Cond.methodLink "CarryFairModel" (174 : Nat) ({ cls := "CarryFairModel", name := "findFar", desc := "(I)V" } : Jvm.MethodName)) ∈ lw_all := lw_g (lw_at lw_m6 217 rfl) rfl
theorem q1543 : (Jvm.Cond.privateMethod ({ cls := "CarryFairModel", name := "findFar", desc := "(I)V" } : Jvm.MethodName)) ∈ lw_tbl := lw_at lw_m6 218 rfl
theorem q1544 : (Jvm.Cond.instanceMethod ({ cls := "CarryFairModel", name := "findFar", desc := "(I)V" } : Jvm.MethodName)) ∈ lw_all := lw_g (lw_at lw_m6 219 rfl) rfl
theorem q1545 : (Jvm.Cond.code ({ cls := "CarryFairModel", name := "findFar", desc := "(I)V" } : Jvm.MethodName) prog_16_method_40_code (5 : Nat) (Option.none : Option Jvm.ClassFile.FieldType)) ∈ lw_all := lw_g (lw_at lw_m6 220 rfl) rfl
theorem q1546 : (Jvm.Cond.constant "CarryFairModel" (170 : Nat) (1000000 : Int32)) ∈ lw_all := lw_g (lw_at lw_m6 221 rfl) rfl
theorem q1547 : (Jvm.Cond.methodLink "CarryFairModel" (171 : Nat) ({ cls := "CarryFairModel", name := "counts", desc := "(III)I" } : Jvm.MethodName)) ∈ lw_all := lw_g (lw_at lw_m6 222 rfl) rfl
theorem q1548 : (Jvm.Cond.privateMethod ({ cls := "CarryFairModel", name := "counts", desc := "(III)I" } : Jvm.MethodName)) ∈ lw_tbl := lw_at lw_m6 223 rfl
theorem q1549 : (Jvm.Cond.instanceMethod ({ cls := "CarryFairModel", name := "counts", desc := "(III)I" } : Jvm.MethodName)) ∈ lw_all := lw_g (lw_at lw_m6 224 rfl) rfl
theorem q1550 : (Jvm.Cond.code ({ cls := "CarryFairModel", name := "counts", desc := "(III)I" } : Jvm.MethodName) prog_16_method_39_code (6 : Nat) (Option.some Jvm.ClassFile.FieldType.int)) ∈ lw_all := lw_g (lw_at lw_m6 225 rfl) rfl
theorem q1551 : (Jvm.Cond.constant "CarryFairModel" (160 : Nat) (-1000004 : Int32)) ∈ lw_all := lw_g (lw_at lw_m6 226 rfl) rfl
theorem q1553 : (Jvm.Cond.instanceMethod ({ cls := "CarryFairModel", name := "ware", desc := "(I)I" } : Jvm.MethodName)) ∈ lw_all := lw_g (lw_at lw_m6 228 rfl) rfl
theorem q1554 : (Jvm.Cond.selects "CarryFairModel" ({ cls := "CarryFairModel", name := "ware", desc := "(I)I" } : Jvm.MethodName) ({ cls := "CarryFairModel", name := "ware", desc := "(I)I" } : Jvm.MethodName)) ∈ lw_all := lw_g (lw_at lw_m6 229 rfl) rfl
theorem q1555 : (Jvm.Cond.code ({ cls := "CarryFairModel", name := "ware", desc := "(I)I" } : Jvm.MethodName) prog_16_method_37_code (2 : Nat) (Option.some Jvm.ClassFile.FieldType.int)) ∈ lw_all := lw_g (lw_at lw_m6 230 rfl) rfl
theorem q1556 : (Jvm.Cond.methodLink "CarryFairModel" (164 : Nat) ({ cls := "CarryFairModel", name := "newWare", desc := "(I)I" } : Jvm.MethodName)) ∈ lw_all := lw_g (lw_at lw_m6 231 rfl) rfl
theorem q1557 : (Jvm.Cond.privateMethod ({ cls := "CarryFairModel", name := "newWare", desc := "(I)I" } : Jvm.MethodName)) ∈ lw_tbl := lw_at lw_m6 232 rfl
theorem q1558 : (Jvm.Cond.instanceMethod ({ cls := "CarryFairModel", name := "newWare", desc := "(I)I" } : Jvm.MethodName)) ∈ lw_all := lw_g (lw_at lw_m6 233 rfl) rfl
theorem q1559 : (Jvm.Cond.code ({ cls := "CarryFairModel", name := "newWare", desc := "(I)I" } : Jvm.MethodName) prog_16_method_36_code (3 : Nat) (Option.some Jvm.ClassFile.FieldType.int)) ∈ lw_all := lw_g (lw_at lw_m6 234 rfl) rfl
theorem q1560 : (Jvm.Cond.methodLink "CarryFairModel" (161 : Nat) ({ cls := "CarryFairModel", name := "wAt", desc := "(II)I" } : Jvm.MethodName)) ∈ lw_all := lw_g (lw_at lw_m6 235 rfl) rfl
theorem q1561 : (Jvm.Cond.static ({ cls := "CarryFairModel", name := "wAt", desc := "(II)I" } : Jvm.MethodName)) ∈ lw_all := lw_g (lw_at lw_m6 236 rfl) rfl
theorem q1562 : (Jvm.Cond.code ({ cls := "CarryFairModel", name := "wAt", desc := "(II)I" } : Jvm.MethodName) prog_16_method_18_code (2 : Nat) (Option.some Jvm.ClassFile.FieldType.int)) ∈ lw_all := lw_g (lw_at lw_m6 237 rfl) rfl
theorem q1564 : (Jvm.Cond.instanceMethod ({ cls := "CarryFairModel", name := "wareOf", desc := "(II)I" } : Jvm.MethodName)) ∈ lw_all := lw_g (lw_at lw_m6 239 rfl) rfl
theorem q1565 : (Jvm.Cond.selects "CarryFairModel" ({ cls := "CarryFairModel", name := "wareOf", desc := "(II)I" } : Jvm.MethodName) ({ cls := "CarryFairModel", name := "wareOf", desc := "(II)I" } : Jvm.MethodName)) ∈ lw_all := lw_g (lw_at lw_m7 0 rfl) rfl
theorem q1566 : (Jvm.Cond.code ({ cls := "CarryFairModel", name := "wareOf", desc := "(II)I" } : Jvm.MethodName) prog_16_method_38_code (3 : Nat) (Option.some Jvm.ClassFile.FieldType.int)) ∈ lw_all := lw_g (lw_at lw_m7 1 rfl) rfl
theorem q1567 : (Jvm.Cond.methodLink "CarryFairModel" (167 : Nat) ({ cls := "CarryFairModel", name := "isWare", desc := "(I)Z" } : Jvm.MethodName)) ∈ lw_all := lw_g (lw_at lw_m7 2 rfl) rfl
theorem q1568 : (Jvm.Cond.privateMethod ({ cls := "CarryFairModel", name := "isWare", desc := "(I)Z" } : Jvm.MethodName)) ∈ lw_tbl := lw_at lw_m7 3 rfl
theorem q1569 : (Jvm.Cond.instanceMethod ({ cls := "CarryFairModel", name := "isWare", desc := "(I)Z" } : Jvm.MethodName)) ∈ lw_all := lw_g (lw_at lw_m7 4 rfl) rfl
theorem q1570 : (Jvm.Cond.code ({ cls := "CarryFairModel", name := "isWare", desc := "(I)Z" } : Jvm.MethodName) prog_16_method_12_code (2 : Nat) (Option.some Jvm.ClassFile.FieldType.boolean)) ∈ lw_all := lw_g (lw_at lw_m7 5 rfl) rfl
theorem q1572 : (Jvm.Cond.instanceMethod ({ cls := "CarryFairModel", name := "far", desc := "(III)I" } : Jvm.MethodName)) ∈ lw_all := lw_g (lw_at lw_m7 7 rfl) rfl
theorem q1573 : (Jvm.Cond.selects "CarryFairModel" ({ cls := "CarryFairModel", name := "far", desc := "(III)I" } : Jvm.MethodName) ({ cls := "CarryFairModel", name := "far", desc := "(III)I" } : Jvm.MethodName)) ∈ lw_all := lw_g (lw_at lw_m7 8 rfl) rfl
theorem q1574 : (Jvm.Cond.code ({ cls := "CarryFairModel", name := "far", desc := "(III)I" } : Jvm.MethodName) prog_16_method_42_code (5 : Nat) (Option.some Jvm.ClassFile.FieldType.int)) ∈ lw_all := lw_g (lw_at lw_m7 9 rfl) rfl
theorem q1576 : (Jvm.Cond.instanceMethod ({ cls := "CarryFairModel", name := "first", desc := "(II)I" } : Jvm.MethodName)) ∈ lw_all := lw_g (lw_at lw_m7 11 rfl) rfl
theorem q1577 : (Jvm.Cond.selects "CarryFairModel" ({ cls := "CarryFairModel", name := "first", desc := "(II)I" } : Jvm.MethodName) ({ cls := "CarryFairModel", name := "first", desc := "(II)I" } : Jvm.MethodName)) ∈ lw_all := lw_g (lw_at lw_m7 12 rfl) rfl
theorem q1578 : (Jvm.Cond.code ({ cls := "CarryFairModel", name := "first", desc := "(II)I" } : Jvm.MethodName) prog_16_method_44_code (9 : Nat) (Option.some Jvm.ClassFile.FieldType.int)) ∈ lw_all := lw_g (lw_at lw_m7 13 rfl) rfl
theorem q1580 : (Jvm.Cond.instanceMethod ({ cls := "CarryFairModel", name := "take", desc := "(II)I" } : Jvm.MethodName)) ∈ lw_all := lw_g (lw_at lw_m7 15 rfl) rfl
theorem q1581 : (Jvm.Cond.selects "CarryFairModel" ({ cls := "CarryFairModel", name := "take", desc := "(II)I" } : Jvm.MethodName) ({ cls := "CarryFairModel", name := "take", desc := "(II)I" } : Jvm.MethodName)) ∈ lw_all := lw_g (lw_at lw_m7 16 rfl) rfl
theorem q1582 : (Jvm.Cond.code ({ cls := "CarryFairModel", name := "take", desc := "(II)I" } : Jvm.MethodName) prog_16_method_48_code (3 : Nat) (Option.some Jvm.ClassFile.FieldType.int)) ∈ lw_all := lw_g (lw_at lw_m7 17 rfl) rfl
theorem q1583 : (Jvm.Cond.methodLink "CarryFairModel" (181 : Nat) ({ cls := "CarryFairModel", name := "liesAt", desc := "(II)Z" } : Jvm.MethodName)) ∈ lw_all := lw_g (lw_at lw_m7 18 rfl) rfl
theorem q1584 : (Jvm.Cond.privateMethod ({ cls := "CarryFairModel", name := "liesAt", desc := "(II)Z" } : Jvm.MethodName)) ∈ lw_tbl := lw_at lw_m7 19 rfl
theorem q1585 : (Jvm.Cond.instanceMethod ({ cls := "CarryFairModel", name := "liesAt", desc := "(II)Z" } : Jvm.MethodName)) ∈ lw_all := lw_g (lw_at lw_m7 20 rfl) rfl
theorem q1586 : (Jvm.Cond.code ({ cls := "CarryFairModel", name := "liesAt", desc := "(II)Z" } : Jvm.MethodName) prog_16_method_45_code (3 : Nat) (Option.some Jvm.ClassFile.FieldType.boolean)) ∈ lw_all := lw_g (lw_at lw_m7 21 rfl) rfl
theorem q1587 : (Jvm.Cond.constant "CarryFairModel" (184 : Nat) (-1000005 : Int32)) ∈ lw_all := lw_g (lw_at lw_m7 22 rfl) rfl
theorem q1588 : (Jvm.Cond.methodLink "CarryFairModel" (185 : Nat) ({ cls := "CarryFairModel", name := "fitsTo", desc := "(II)Z" } : Jvm.MethodName)) ∈ lw_all := lw_g (lw_at lw_m7 23 rfl) rfl
theorem q1589 : (Jvm.Cond.privateMethod ({ cls := "CarryFairModel", name := "fitsTo", desc := "(II)Z" } : Jvm.MethodName)) ∈ lw_tbl := lw_at lw_m7 24 rfl
theorem q1590 : (Jvm.Cond.instanceMethod ({ cls := "CarryFairModel", name := "fitsTo", desc := "(II)Z" } : Jvm.MethodName)) ∈ lw_all := lw_g (lw_at lw_m7 25 rfl) rfl
theorem q1591 : (Jvm.Cond.code ({ cls := "CarryFairModel", name := "fitsTo", desc := "(II)Z" } : Jvm.MethodName) prog_16_method_46_code (3 : Nat) (Option.some Jvm.ClassFile.FieldType.boolean)) ∈ lw_all := lw_g (lw_at lw_m7 26 rfl) rfl
theorem q1592 : (Jvm.Cond.methodLink "CarryFairModel" (188 : Nat) ({ cls := "CarryFairModel", name := "taken", desc := "(II)V" } : Jvm.MethodName)) ∈ lw_all := lw_g (lw_at lw_m7 27 rfl) rfl
theorem q1593 : (Jvm.Cond.privateMethod ({ cls := "CarryFairModel", name := "taken", desc := "(II)V" } : Jvm.MethodName)) ∈ lw_tbl := lw_at lw_m7 28 rfl
theorem q1594 : (Jvm.Cond.instanceMethod ({ cls := "CarryFairModel", name := "taken", desc := "(II)V" } : Jvm.MethodName)) ∈ lw_all := lw_g (lw_at lw_m7 29 rfl) rfl
theorem q1595 : (Jvm.Cond.code ({ cls := "CarryFairModel", name := "taken", desc := "(II)V" } : Jvm.MethodName) prog_16_method_47_code (3 : Nat) (Option.none : Option Jvm.ClassFile.FieldType)) ∈ lw_all := lw_g (lw_at lw_m7 30 rfl) rfl
theorem q1597 : (Jvm.Cond.instanceMethod ({ cls := "CarryFairModel", name := "drop", desc := "(II)I" } : Jvm.MethodName)) ∈ lw_all := lw_g (lw_at lw_m7 32 rfl) rfl
theorem q1598 : (Jvm.Cond.selects "CarryFairModel" ({ cls := "CarryFairModel", name := "drop", desc := "(II)I" } : Jvm.MethodName) ({ cls := "CarryFairModel", name := "drop", desc := "(II)I" } : Jvm.MethodName)) ∈ lw_all := lw_g (lw_at lw_m7 33 rfl) rfl
theorem q1599 : (Jvm.Cond.code ({ cls := "CarryFairModel", name := "drop", desc := "(II)I" } : Jvm.MethodName) prog_16_method_49_code (3 : Nat) (Option.some Jvm.ClassFile.FieldType.int)) ∈ lw_all := lw_g (lw_at lw_m7 34 rfl) rfl
theorem q1601 : (Jvm.Cond.instanceMethod ({ cls := "CarryFairModel", name := "walk", desc := "(II)I" } : Jvm.MethodName)) ∈ lw_all := lw_g (lw_at lw_m7 36 rfl) rfl
theorem q1602 : (Jvm.Cond.selects "CarryFairModel" ({ cls := "CarryFairModel", name := "walk", desc := "(II)I" } : Jvm.MethodName) ({ cls := "CarryFairModel", name := "walk", desc := "(II)I" } : Jvm.MethodName)) ∈ lw_all := lw_g (lw_at lw_m7 37 rfl) rfl
theorem q1603 : (Jvm.Cond.code ({ cls := "CarryFairModel", name := "walk", desc := "(II)I" } : Jvm.MethodName) prog_16_method_51_code (4 : Nat) (Option.some Jvm.ClassFile.FieldType.int)) ∈ lw_all := lw_g (lw_at lw_m7 38 rfl) rfl
theorem q1604 : (Jvm.Cond.methodLink "CarryFairModel" (199 : Nat) ({ cls := "CarryFairModel", name := "walked", desc := "(II)I" } : Jvm.MethodName)) ∈ lw_all := lw_g (lw_at lw_m7 39 rfl) rfl
theorem q1605 : (Jvm.Cond.privateMethod ({ cls := "CarryFairModel", name := "walked", desc := "(II)I" } : Jvm.MethodName)) ∈ lw_tbl := lw_at lw_m7 40 rfl
theorem q1606 : (Jvm.Cond.instanceMethod ({ cls := "CarryFairModel", name := "walked", desc := "(II)I" } : Jvm.MethodName)) ∈ lw_all := lw_g (lw_at lw_m7 41 rfl) rfl
theorem q1607 : (Jvm.Cond.code ({ cls := "CarryFairModel", name := "walked", desc := "(II)I" } : Jvm.MethodName) prog_16_method_50_code (7 : Nat) (Option.some Jvm.ClassFile.FieldType.int)) ∈ lw_all := lw_g (lw_at lw_m7 42 rfl) rfl
theorem q1608 : (Jvm.Cond.methodLink "CarryFairModel" (196 : Nat) ({ cls := "CarryFairModel", name := "getsFor", desc := "(II)I" } : Jvm.MethodName)) ∈ lw_all := lw_g (lw_at lw_m7 43 rfl) rfl
theorem q1609 : (Jvm.Cond.privateMethod ({ cls := "CarryFairModel", name := "getsFor", desc := "(II)I" } : Jvm.MethodName)) ∈ lw_tbl := lw_at lw_m7 44 rfl
theorem q1610 : (Jvm.Cond.instanceMethod ({ cls := "CarryFairModel", name := "getsFor", desc := "(II)I" } : Jvm.MethodName)) ∈ lw_all := lw_g (lw_at lw_m7 45 rfl) rfl
theorem q1611 : (Jvm.Cond.code ({ cls := "CarryFairModel", name := "getsFor", desc := "(II)I" } : Jvm.MethodName) prog_16_method_24_code (3 : Nat) (Option.some Jvm.ClassFile.FieldType.int)) ∈ lw_all := lw_g (lw_at lw_m7 46 rfl) rfl
theorem q1613 : (Jvm.Cond.instanceMethod ({ cls := "CarryFairModel", name := "buy", desc := "(II)I" } : Jvm.MethodName)) ∈ lw_all := lw_g (lw_at lw_m7 48 rfl) rfl
theorem q1614 : (Jvm.Cond.selects "CarryFairModel" ({ cls := "CarryFairModel", name := "buy", desc := "(II)I" } : Jvm.MethodName) ({ cls := "CarryFairModel", name := "buy", desc := "(II)I" } : Jvm.MethodName)) ∈ lw_all := lw_g (lw_at lw_m7 49 rfl) rfl
theorem q1615 : (Jvm.Cond.code ({ cls := "CarryFairModel", name := "buy", desc := "(II)I" } : Jvm.MethodName) prog_16_method_52_code (3 : Nat) (Option.some Jvm.ClassFile.FieldType.int)) ∈ lw_all := lw_g (lw_at lw_m7 50 rfl) rfl
theorem q1617 : (Jvm.Cond.instanceMethod ({ cls := "CarryFairModel", name := "now", desc := "(I)I" } : Jvm.MethodName)) ∈ lw_all := lw_g (lw_at lw_m7 52 rfl) rfl
theorem q1618 : (Jvm.Cond.selects "CarryFairModel" ({ cls := "CarryFairModel", name := "now", desc := "(I)I" } : Jvm.MethodName) ({ cls := "CarryFairModel", name := "now", desc := "(I)I" } : Jvm.MethodName)) ∈ lw_all := lw_g (lw_at lw_m7 53 rfl) rfl
theorem q1619 : (Jvm.Cond.code ({ cls := "CarryFairModel", name := "now", desc := "(I)I" } : Jvm.MethodName) prog_16_method_55_code (4 : Nat) (Option.some Jvm.ClassFile.FieldType.int)) ∈ lw_all := lw_g (lw_at lw_m7 54 rfl) rfl
theorem q1620 : (Jvm.Cond.methodLink "CarryFairModel" (202 : Nat) ({ cls := "CarryFairModel", name := "errandsThat", desc := "(I)I" } : Jvm.MethodName)) ∈ lw_all := lw_g (lw_at lw_m7 55 rfl) rfl
theorem q1621 : (Jvm.Cond.privateMethod ({ cls := "CarryFairModel", name := "errandsThat", desc := "(I)I" } : Jvm.MethodName)) ∈ lw_tbl := lw_at lw_m7 56 rfl
theorem q1622 : (Jvm.Cond.instanceMethod ({ cls := "CarryFairModel", name := "errandsThat", desc := "(I)I" } : Jvm.MethodName)) ∈ lw_all := lw_g (lw_at lw_m7 57 rfl) rfl
theorem q1623 : (Jvm.Cond.code ({ cls := "CarryFairModel", name := "errandsThat", desc := "(I)I" } : Jvm.MethodName) prog_16_method_53_code (4 : Nat) (Option.some Jvm.ClassFile.FieldType.int)) ∈ lw_all := lw_g (lw_at lw_m7 58 rfl) rfl
theorem q1624 : (Jvm.Cond.methodLink "CarryFairModel" (205 : Nat) ({ cls := "CarryFairModel", name := "ofAll", desc := "(I)I" } : Jvm.MethodName)) ∈ lw_all := lw_g (lw_at lw_m7 59 rfl) rfl
theorem q1625 : (Jvm.Cond.privateMethod ({ cls := "CarryFairModel", name := "ofAll", desc := "(I)I" } : Jvm.MethodName)) ∈ lw_tbl := lw_at lw_m7 60 rfl
theorem q1626 : (Jvm.Cond.instanceMethod ({ cls := "CarryFairModel", name := "ofAll", desc := "(I)I" } : Jvm.MethodName)) ∈ lw_all := lw_g (lw_at lw_m7 61 rfl) rfl
theorem q1627 : (Jvm.Cond.code ({ cls := "CarryFairModel", name := "ofAll", desc := "(I)I" } : Jvm.MethodName) prog_16_method_54_code (4 : Nat) (Option.some Jvm.ClassFile.FieldType.int)) ∈ lw_all := lw_g (lw_at lw_m7 62 rfl) rfl
theorem q1629 : (Jvm.Cond.instanceMethod ({ cls := "CarryFairModel", name := "round", desc := "(II)I" } : Jvm.MethodName)) ∈ lw_all := lw_g (lw_at lw_m7 64 rfl) rfl
theorem q1630 : (Jvm.Cond.selects "CarryFairModel" ({ cls := "CarryFairModel", name := "round", desc := "(II)I" } : Jvm.MethodName) ({ cls := "CarryFairModel", name := "round", desc := "(II)I" } : Jvm.MethodName)) ∈ lw_all := lw_g (lw_at lw_m7 65 rfl) rfl
theorem q1631 : (Jvm.Cond.code ({ cls := "CarryFairModel", name := "round", desc := "(II)I" } : Jvm.MethodName) prog_16_method_65_code (4 : Nat) (Option.some Jvm.ClassFile.FieldType.int)) ∈ lw_all := lw_g (lw_at lw_m7 66 rfl) rfl
theorem q1632 : (Jvm.Cond.methodLink "CarryFairModel" (230 : Nat) ({ cls := "CarryFairModel", name := "refuses", desc := "(II)I" } : Jvm.MethodName)) ∈ lw_all := lw_g (lw_at lw_m7 67 rfl) rfl
theorem q1633 : (Jvm.Cond.privateMethod ({ cls := "CarryFairModel", name := "refuses", desc := "(II)I" } : Jvm.MethodName)) ∈ lw_tbl := lw_at lw_m7 68 rfl
theorem q1634 : (Jvm.Cond.instanceMethod ({ cls := "CarryFairModel", name := "refuses", desc := "(II)I" } : Jvm.MethodName)) ∈ lw_all := lw_g (lw_at lw_m7 69 rfl) rfl
theorem q1635 : (Jvm.Cond.code ({ cls := "CarryFairModel", name := "refuses", desc := "(II)I" } : Jvm.MethodName) prog_16_method_63_code (3 : Nat) (Option.some Jvm.ClassFile.FieldType.int)) ∈ lw_all := lw_g (lw_at lw_m7 70 rfl) rfl
theorem q1636 : (Jvm.Cond.methodLink "CarryFairModel" (224 : Nat) ({ cls := "CarryFairModel", name := "isSet", desc := "(II)Z" } : Jvm.MethodName)) ∈ lw_all := lw_g (lw_at lw_m7 71 rfl) rfl
theorem q1637 : (Jvm.Cond.privateMethod ({ cls := "CarryFairModel", name := "isSet", desc := "(II)Z" } : Jvm.MethodName)) ∈ lw_tbl := lw_at lw_m7 72 rfl
theorem q1638 : (Jvm.Cond.instanceMethod ({ cls := "CarryFairModel", name := "isSet", desc := "(II)Z" } : Jvm.MethodName)) ∈ lw_all := lw_g (lw_at lw_m7 73 rfl) rfl
theorem q1639 : (Jvm.Cond.code ({ cls := "CarryFairModel", name := "isSet", desc := "(II)Z" } : Jvm.MethodName) prog_16_method_61_code (3 : Nat) (Option.some Jvm.ClassFile.FieldType.boolean)) ∈ lw_all := lw_g (lw_at lw_m7 74 rfl) rfl
theorem q1640 : (Jvm.Cond.methodLink "CarryFairModel" (221 : Nat) ({ cls := "CarryFairModel", name := "bits", desc := "(I)I" } : Jvm.MethodName)) ∈ lw_all := lw_g (lw_at lw_m7 75 rfl) rfl
theorem q1641 : (Jvm.Cond.static ({ cls := "CarryFairModel", name := "bits", desc := "(I)I" } : Jvm.MethodName)) ∈ lw_all := lw_g (lw_at lw_m7 76 rfl) rfl
theorem q1642 : (Jvm.Cond.code ({ cls := "CarryFairModel", name := "bits", desc := "(I)I" } : Jvm.MethodName) prog_16_method_8_code (3 : Nat) (Option.some Jvm.ClassFile.FieldType.int)) ∈ lw_all := lw_g (lw_at lw_m7 77 rfl) rfl
theorem q1643 : (Jvm.Cond.methodLink "CarryFairModel" (227 : Nat) ({ cls := "CarryFairModel", name := "allLie", desc := "(I)Z" } : Jvm.MethodName)) ∈ lw_all := lw_g (lw_at lw_m7 78 rfl) rfl
theorem q1644 : (Jvm.Cond.privateMethod ({ cls := "CarryFairModel", name := "allLie", desc := "(I)Z" } : Jvm.MethodName)) ∈ lw_tbl := lw_at lw_m7 79 rfl
theorem q1645 : (Jvm.Cond.instanceMethod ({ cls := "CarryFairModel", name := "allLie", desc := "(I)Z" } : Jvm.MethodName)) ∈ lw_all := lw_g (lw_at lw_m7 80 rfl) rfl
theorem q1646 : (Jvm.Cond.code ({ cls := "CarryFairModel", name := "allLie", desc := "(I)Z" } : Jvm.MethodName) prog_16_method_62_code (2 : Nat) (Option.some Jvm.ClassFile.FieldType.boolean)) ∈ lw_all := lw_g (lw_at lw_m7 81 rfl) rfl
theorem q1647 : (Jvm.Cond.methodLink "CarryFairModel" (233 : Nat) ({ cls := "CarryFairModel", name := "roundOf", desc := "(II)I" } : Jvm.MethodName)) ∈ lw_all := lw_g (lw_at lw_m7 82 rfl) rfl
theorem q1648 : (Jvm.Cond.privateMethod ({ cls := "CarryFairModel", name := "roundOf", desc := "(II)I" } : Jvm.MethodName)) ∈ lw_tbl := lw_at lw_m7 83 rfl
theorem q1649 : (Jvm.Cond.instanceMethod ({ cls := "CarryFairModel", name := "roundOf", desc := "(II)I" } : Jvm.MethodName)) ∈ lw_all := lw_g (lw_at lw_m7 84 rfl) rfl
theorem q1650 : (Jvm.Cond.code ({ cls := "CarryFairModel", name := "roundOf", desc := "(II)I" } : Jvm.MethodName) prog_16_method_58_code (8 : Nat) (Option.some Jvm.ClassFile.FieldType.int)) ∈ lw_all := lw_g (lw_at lw_m7 85 rfl) rfl
theorem q1651 : (Jvm.Cond.methodLink "CarryFairModel" (208 : Nat) ({ cls := "CarryFairModel", name := "walkOn", desc := "(II)V" } : Jvm.MethodName)) ∈ lw_all := lw_g (lw_at lw_m7 86 rfl) rfl
theorem q1652 : (Jvm.Cond.privateMethod ({ cls := "CarryFairModel", name := "walkOn", desc := "(II)V" } : Jvm.MethodName)) ∈ lw_tbl := lw_at lw_m7 87 rfl
theorem q1653 : (Jvm.Cond.instanceMethod ({ cls := "CarryFairModel", name := "walkOn", desc := "(II)V" } : Jvm.MethodName)) ∈ lw_all := lw_g (lw_at lw_m7 88 rfl) rfl
theorem q1654 : (Jvm.Cond.code ({ cls := "CarryFairModel", name := "walkOn", desc := "(II)V" } : Jvm.MethodName) prog_16_method_59_code (8 : Nat) (Option.none : Option Jvm.ClassFile.FieldType)) ∈ lw_all := lw_g (lw_at lw_m7 89 rfl) rfl
theorem q1655 : (Jvm.Cond.methodLink "CarryFairModel" (215 : Nat) ({ cls := "CarryFairModel", name := "digit", desc := "(II)I" } : Jvm.MethodName)) ∈ lw_all := lw_g (lw_at lw_m7 90 rfl) rfl
theorem q1656 : (Jvm.Cond.privateMethod ({ cls := "CarryFairModel", name := "digit", desc := "(II)I" } : Jvm.MethodName)) ∈ lw_tbl := lw_at lw_m7 91 rfl
theorem q1657 : (Jvm.Cond.instanceMethod ({ cls := "CarryFairModel", name := "digit", desc := "(II)I" } : Jvm.MethodName)) ∈ lw_all := lw_g (lw_at lw_m7 92 rfl) rfl
theorem q1658 : (Jvm.Cond.code ({ cls := "CarryFairModel", name := "digit", desc := "(II)I" } : Jvm.MethodName) prog_16_method_56_code (3 : Nat) (Option.some Jvm.ClassFile.FieldType.int)) ∈ lw_all := lw_g (lw_at lw_m7 93 rfl) rfl
theorem q1659 : (Jvm.Cond.methodLink "CarryFairModel" (218 : Nat) ({ cls := "CarryFairModel", name := "shorter", desc := "(III)V" } : Jvm.MethodName)) ∈ lw_all := lw_g (lw_at lw_m7 94 rfl) rfl
theorem q1660 : (Jvm.Cond.privateMethod ({ cls := "CarryFairModel", name := "shorter", desc := "(III)V" } : Jvm.MethodName)) ∈ lw_tbl := lw_at lw_m7 95 rfl
theorem q1661 : (Jvm.Cond.instanceMethod ({ cls := "CarryFairModel", name := "shorter", desc := "(III)V" } : Jvm.MethodName)) ∈ lw_all := lw_g (lw_at lw_m7 96 rfl) rfl
theorem q1662 : (Jvm.Cond.code ({ cls := "CarryFairModel", name := "shorter", desc := "(III)V" } : Jvm.MethodName) prog_16_method_57_code (4 : Nat) (Option.none : Option Jvm.ClassFile.FieldType)) ∈ lw_all := lw_g (lw_at lw_m7 97 rfl) rfl
theorem q1663 : (Jvm.Cond.methodLink "CarryFairModel" (211 : Nat) ({ cls := "CarryFairModel", name := "takeOn", desc := "(III)V" } : Jvm.MethodName)) ∈ lw_all := lw_g (lw_at lw_m7 98 rfl) rfl
theorem q1664 : (Jvm.Cond.privateMethod ({ cls := "CarryFairModel", name := "takeOn", desc := "(III)V" } : Jvm.MethodName)) ∈ lw_tbl := lw_at lw_m7 99 rfl
theorem q1665 : (Jvm.Cond.instanceMethod ({ cls := "CarryFairModel", name := "takeOn", desc := "(III)V" } : Jvm.MethodName)) ∈ lw_all := lw_g (lw_at lw_m7 100 rfl) rfl
theorem q1666 : (Jvm.Cond.code ({ cls := "CarryFairModel", name := "takeOn", desc := "(III)V" } : Jvm.MethodName) prog_16_method_60_code (7 : Nat) (Option.none : Option Jvm.ClassFile.FieldType)) ∈ lw_all := lw_g (lw_at lw_m7 101 rfl) rfl
theorem q1667 : (Jvm.Cond.methodLink "CarryFairModel" (236 : Nat) ({ cls := "CarryFairModel", name := "told", desc := "(I)I" } : Jvm.MethodName)) ∈ lw_all := lw_g (lw_at lw_m7 102 rfl) rfl
theorem q1668 : (Jvm.Cond.privateMethod ({ cls := "CarryFairModel", name := "told", desc := "(I)I" } : Jvm.MethodName)) ∈ lw_tbl := lw_at lw_m7 103 rfl
theorem q1669 : (Jvm.Cond.instanceMethod ({ cls := "CarryFairModel", name := "told", desc := "(I)I" } : Jvm.MethodName)) ∈ lw_all := lw_g (lw_at lw_m7 104 rfl) rfl
theorem q1670 : (Jvm.Cond.code ({ cls := "CarryFairModel", name := "told", desc := "(I)I" } : Jvm.MethodName) prog_16_method_64_code (2 : Nat) (Option.some Jvm.ClassFile.FieldType.int)) ∈ lw_all := lw_g (lw_at lw_m7 105 rfl) rfl
theorem q1672 : (Jvm.Cond.instanceMethod ({ cls := "CarryFairModel", name := "gets", desc := "(II)I" } : Jvm.MethodName)) ∈ lw_all := lw_g (lw_at lw_m7 107 rfl) rfl
theorem q1673 : (Jvm.Cond.selects "CarryFairModel" ({ cls := "CarryFairModel", name := "gets", desc := "(II)I" } : Jvm.MethodName) ({ cls := "CarryFairModel", name := "gets", desc := "(II)I" } : Jvm.MethodName)) ∈ lw_all := lw_g (lw_at lw_m7 108 rfl) rfl
theorem q1674 : (Jvm.Cond.code ({ cls := "CarryFairModel", name := "gets", desc := "(II)I" } : Jvm.MethodName) prog_16_method_67_code (4 : Nat) (Option.some Jvm.ClassFile.FieldType.int)) ∈ lw_all := lw_g (lw_at lw_m7 109 rfl) rfl
theorem q1675 : (Jvm.Cond.methodLink "CarryFairModel" (239 : Nat) ({ cls := "CarryFairModel", name := "getsOf", desc := "(II)I" } : Jvm.MethodName)) ∈ lw_all := lw_g (lw_at lw_m7 110 rfl) rfl
theorem q1676 : (Jvm.Cond.privateMethod ({ cls := "CarryFairModel", name := "getsOf", desc := "(II)I" } : Jvm.MethodName)) ∈ lw_tbl := lw_at lw_m7 111 rfl
theorem q1677 : (Jvm.Cond.instanceMethod ({ cls := "CarryFairModel", name := "getsOf", desc := "(II)I" } : Jvm.MethodName)) ∈ lw_all := lw_g (lw_at lw_m7 112 rfl) rfl
theorem q1678 : (Jvm.Cond.code ({ cls := "CarryFairModel", name := "getsOf", desc := "(II)I" } : Jvm.MethodName) prog_16_method_66_code (6 : Nat) (Option.some Jvm.ClassFile.FieldType.int)) ∈ lw_all := lw_g (lw_at lw_m7 113 rfl) rfl
theorem q1680 : (Jvm.Cond.instanceMethod ({ cls := "CarryFairModel", name := "cheapest", desc := "(II)I" } : Jvm.MethodName)) ∈ lw_all := lw_g (lw_at lw_m7 115 rfl) rfl
theorem q1681 : (Jvm.Cond.selects "CarryFairModel" ({ cls := "CarryFairModel", name := "cheapest", desc := "(II)I" } : Jvm.MethodName) ({ cls := "CarryFairModel", name := "cheapest", desc := "(II)I" } : Jvm.MethodName)) ∈ lw_all := lw_g (lw_at lw_m7 116 rfl) rfl
theorem q1682 : (Jvm.Cond.code ({ cls := "CarryFairModel", name := "cheapest", desc := "(II)I" } : Jvm.MethodName) prog_16_method_69_code (4 : Nat) (Option.some Jvm.ClassFile.FieldType.int)) ∈ lw_all := lw_g (lw_at lw_m7 117 rfl) rfl
theorem q1683 : (Jvm.Cond.methodLink "CarryFairModel" (248 : Nat) ({ cls := "CarryFairModel", name := "refusesWare", desc := "(II)I" } : Jvm.MethodName)) ∈ lw_all := lw_g (lw_at lw_m7 118 rfl) rfl
theorem q1684 : (Jvm.Cond.privateMethod ({ cls := "CarryFairModel", name := "refusesWare", desc := "(II)I" } : Jvm.MethodName)) ∈ lw_tbl := lw_at lw_m7 119 rfl
theorem q1685 : (Jvm.Cond.instanceMethod ({ cls := "CarryFairModel", name := "refusesWare", desc := "(II)I" } : Jvm.MethodName)) ∈ lw_all := lw_g (lw_at lw_m7 120 rfl) rfl
theorem q1686 : (Jvm.Cond.code ({ cls := "CarryFairModel", name := "refusesWare", desc := "(II)I" } : Jvm.MethodName) prog_16_method_68_code (8 : Nat) (Option.some Jvm.ClassFile.FieldType.int)) ∈ lw_all := lw_g (lw_at lw_m7 121 rfl) rfl
theorem q1688 : (Jvm.Cond.instanceMethod ({ cls := "CarryFairModel", name := "which", desc := "(II)I" } : Jvm.MethodName)) ∈ lw_all := lw_g (lw_at lw_m7 123 rfl) rfl
theorem q1689 : (Jvm.Cond.selects "CarryFairModel" ({ cls := "CarryFairModel", name := "which", desc := "(II)I" } : Jvm.MethodName) ({ cls := "CarryFairModel", name := "which", desc := "(II)I" } : Jvm.MethodName)) ∈ lw_all := lw_g (lw_at lw_m7 124 rfl) rfl
theorem q1690 : (Jvm.Cond.code ({ cls := "CarryFairModel", name := "which", desc := "(II)I" } : Jvm.MethodName) prog_16_method_70_code (4 : Nat) (Option.some Jvm.ClassFile.FieldType.int)) ∈ lw_all := lw_g (lw_at lw_m7 125 rfl) rfl
theorem q1692 : (Jvm.Cond.instanceMethod ({ cls := "CarryFairModel", name := "who", desc := "(I)I" } : Jvm.MethodName)) ∈ lw_all := lw_g (lw_at lw_m7 127 rfl) rfl
theorem q1693 : (Jvm.Cond.selects "CarryFairModel" ({ cls := "CarryFairModel", name := "who", desc := "(I)I" } : Jvm.MethodName) ({ cls := "CarryFairModel", name := "who", desc := "(I)I" } : Jvm.MethodName)) ∈ lw_all := lw_g (lw_at lw_m7 128 rfl) rfl
theorem q1694 : (Jvm.Cond.code ({ cls := "CarryFairModel", name := "who", desc := "(I)I" } : Jvm.MethodName) prog_16_method_71_code (6 : Nat) (Option.some Jvm.ClassFile.FieldType.int)) ∈ lw_all := lw_g (lw_at lw_m7 129 rfl) rfl
theorem q1696 : (Jvm.Cond.instanceMethod ({ cls := "CarryFairModel", name := "joined", desc := "(II)I" } : Jvm.MethodName)) ∈ lw_all := lw_g (lw_at lw_m7 131 rfl) rfl
theorem q1697 : (Jvm.Cond.selects "CarryFairModel" ({ cls := "CarryFairModel", name := "joined", desc := "(II)I" } : Jvm.MethodName) ({ cls := "CarryFairModel", name := "joined", desc := "(II)I" } : Jvm.MethodName)) ∈ lw_all := lw_g (lw_at lw_m7 132 rfl) rfl
theorem q1698 : (Jvm.Cond.code ({ cls := "CarryFairModel", name := "joined", desc := "(II)I" } : Jvm.MethodName) prog_16_method_72_code (7 : Nat) (Option.some Jvm.ClassFile.FieldType.int)) ∈ lw_all := lw_g (lw_at lw_m7 133 rfl) rfl
theorem q1700 : (Jvm.Cond.instanceMethod ({ cls := "CarryFairModel", name := "shared", desc := "(III)I" } : Jvm.MethodName)) ∈ lw_all := lw_g (lw_at lw_m7 135 rfl) rfl
theorem q1701 : (Jvm.Cond.selects "CarryFairModel" ({ cls := "CarryFairModel", name := "shared", desc := "(III)I" } : Jvm.MethodName) ({ cls := "CarryFairModel", name := "shared", desc := "(III)I" } : Jvm.MethodName)) ∈ lw_all := lw_g (lw_at lw_m7 136 rfl) rfl
theorem q1702 : (Jvm.Cond.code ({ cls := "CarryFairModel", name := "shared", desc := "(III)I" } : Jvm.MethodName) prog_16_method_74_code (5 : Nat) (Option.some Jvm.ClassFile.FieldType.int)) ∈ lw_all := lw_g (lw_at lw_m7 137 rfl) rfl
theorem q1703 : (Jvm.Cond.methodLink "CarryFairModel" (251 : Nat) ({ cls := "CarryFairModel", name := "refusesShared", desc := "(III)I" } : Jvm.MethodName)) ∈ lw_all := lw_g (lw_at lw_m7 138 rfl) rfl
theorem q1704 : (Jvm.Cond.privateMethod ({ cls := "CarryFairModel", name := "refusesShared", desc := "(III)I" } : Jvm.MethodName)) ∈ lw_tbl := lw_at lw_m7 139 rfl
theorem q1705 : (Jvm.Cond.instanceMethod ({ cls := "CarryFairModel", name := "refusesShared", desc := "(III)I" } : Jvm.MethodName)) ∈ lw_all := lw_g (lw_at lw_m7 140 rfl) rfl
theorem q1706 : (Jvm.Cond.code ({ cls := "CarryFairModel", name := "refusesShared", desc := "(III)I" } : Jvm.MethodName) prog_16_method_73_code (6 : Nat) (Option.some Jvm.ClassFile.FieldType.int)) ∈ lw_all := lw_g (lw_at lw_m7 141 rfl) rfl
theorem q1708 : (Jvm.Cond.instanceMethod ({ cls := "CarryFairModel", name := "part", desc := "(III)I" } : Jvm.MethodName)) ∈ lw_all := lw_g (lw_at lw_m7 143 rfl) rfl
theorem q1709 : (Jvm.Cond.selects "CarryFairModel" ({ cls := "CarryFairModel", name := "part", desc := "(III)I" } : Jvm.MethodName) ({ cls := "CarryFairModel", name := "part", desc := "(III)I" } : Jvm.MethodName)) ∈ lw_all := lw_g (lw_at lw_m7 144 rfl) rfl
theorem q1710 : (Jvm.Cond.code ({ cls := "CarryFairModel", name := "part", desc := "(III)I" } : Jvm.MethodName) prog_16_method_75_code (5 : Nat) (Option.some Jvm.ClassFile.FieldType.int)) ∈ lw_all := lw_g (lw_at lw_m7 145 rfl) rfl
theorem q1712 : (Jvm.Cond.instanceMethod ({ cls := "CarryFairModel", name := "strength", desc := "(II)I" } : Jvm.MethodName)) ∈ lw_all := lw_g (lw_at lw_m7 147 rfl) rfl
theorem q1713 : (Jvm.Cond.selects "CarryFairModel" ({ cls := "CarryFairModel", name := "strength", desc := "(II)I" } : Jvm.MethodName) ({ cls := "CarryFairModel", name := "strength", desc := "(II)I" } : Jvm.MethodName)) ∈ lw_all := lw_g (lw_at lw_m7 148 rfl) rfl
theorem q1714 : (Jvm.Cond.code ({ cls := "CarryFairModel", name := "strength", desc := "(II)I" } : Jvm.MethodName) prog_16_method_76_code (7 : Nat) (Option.some Jvm.ClassFile.FieldType.int)) ∈ lw_all := lw_g (lw_at lw_m7 149 rfl) rfl
theorem q1716 : (Jvm.Cond.instanceMethod ({ cls := "CarryFairModel", name := "kindFor", desc := "(II)I" } : Jvm.MethodName)) ∈ lw_all := lw_g (lw_at lw_m7 151 rfl) rfl
theorem q1717 : (Jvm.Cond.selects "CarryFairModel" ({ cls := "CarryFairModel", name := "kindFor", desc := "(II)I" } : Jvm.MethodName) ({ cls := "CarryFairModel", name := "kindFor", desc := "(II)I" } : Jvm.MethodName)) ∈ lw_all := lw_g (lw_at lw_m7 152 rfl) rfl
theorem q1718 : (Jvm.Cond.code ({ cls := "CarryFairModel", name := "kindFor", desc := "(II)I" } : Jvm.MethodName) prog_16_method_77_code (9 : Nat) (Option.some Jvm.ClassFile.FieldType.int)) ∈ lw_all := lw_g (lw_at lw_m7 153 rfl) rfl
theorem q1720 : (Jvm.Cond.instanceMethod ({ cls := "CarryFairModel", name := "bridge", desc := "(II)I" } : Jvm.MethodName)) ∈ lw_all := lw_g (lw_at lw_m7 155 rfl) rfl
theorem q1721 : (Jvm.Cond.selects "CarryFairModel" ({ cls := "CarryFairModel", name := "bridge", desc := "(II)I" } : Jvm.MethodName) ({ cls := "CarryFairModel", name := "bridge", desc := "(II)I" } : Jvm.MethodName)) ∈ lw_all := lw_g (lw_at lw_m7 156 rfl) rfl
theorem q1722 : (Jvm.Cond.code ({ cls := "CarryFairModel", name := "bridge", desc := "(II)I" } : Jvm.MethodName) prog_16_method_79_code (4 : Nat) (Option.some Jvm.ClassFile.FieldType.int)) ∈ lw_all := lw_g (lw_at lw_m7 157 rfl) rfl
theorem q1723 : (Jvm.Cond.methodLink "CarryFairModel" (257 : Nat) ({ cls := "CarryFairModel", name := "refusesBridge", desc := "(II)I" } : Jvm.MethodName)) ∈ lw_all := lw_g (lw_at lw_m7 158 rfl) rfl
theorem q1724 : (Jvm.Cond.privateMethod ({ cls := "CarryFairModel", name := "refusesBridge", desc := "(II)I" } : Jvm.MethodName)) ∈ lw_tbl := lw_at lw_m7 159 rfl
theorem q1725 : (Jvm.Cond.instanceMethod ({ cls := "CarryFairModel", name := "refusesBridge", desc := "(II)I" } : Jvm.MethodName)) ∈ lw_all := lw_g (lw_at lw_m7 160 rfl) rfl
theorem q1726 : (Jvm.Cond.code ({ cls := "CarryFairModel", name := "refusesBridge", desc := "(II)I" } : Jvm.MethodName) prog_16_method_78_code (7 : Nat) (Option.some Jvm.ClassFile.FieldType.int)) ∈ lw_all := lw_g (lw_at lw_m7 161 rfl) rfl
theorem q1728 : (Jvm.Cond.instanceMethod ({ cls := "CarryFairModel", name := "worth", desc := "(II)I" } : Jvm.MethodName)) ∈ lw_all := lw_g (lw_at lw_m7 163 rfl) rfl
theorem q1729 : (Jvm.Cond.selects "CarryFairModel" ({ cls := "CarryFairModel", name := "worth", desc := "(II)I" } : Jvm.MethodName) ({ cls := "CarryFairModel", name := "worth", desc := "(II)I" } : Jvm.MethodName)) ∈ lw_all := lw_g (lw_at lw_m7 164 rfl) rfl
theorem q1730 : (Jvm.Cond.code ({ cls := "CarryFairModel", name := "worth", desc := "(II)I" } : Jvm.MethodName) prog_16_method_80_code (5 : Nat) (Option.some Jvm.ClassFile.FieldType.int)) ∈ lw_all := lw_g (lw_at lw_m7 165 rfl) rfl
theorem q1732 : (Jvm.Cond.instanceMethod ({ cls := "CarryFairModel", name := "reach", desc := "(I)I" } : Jvm.MethodName)) ∈ lw_all := lw_g (lw_at lw_m7 167 rfl) rfl
theorem q1733 : (Jvm.Cond.selects "CarryFairModel" ({ cls := "CarryFairModel", name := "reach", desc := "(I)I" } : Jvm.MethodName) ({ cls := "CarryFairModel", name := "reach", desc := "(I)I" } : Jvm.MethodName)) ∈ lw_all := lw_g (lw_at lw_m7 168 rfl) rfl
theorem q1734 : (Jvm.Cond.code ({ cls := "CarryFairModel", name := "reach", desc := "(I)I" } : Jvm.MethodName) prog_16_method_81_code (4 : Nat) (Option.some Jvm.ClassFile.FieldType.int)) ∈ lw_all := lw_g (lw_at lw_m7 169 rfl) rfl
theorem q1736 : (Jvm.Cond.instanceMethod ({ cls := "CarryFairModel", name := "middle", desc := "(I)I" } : Jvm.MethodName)) ∈ lw_all := lw_g (lw_at lw_m7 171 rfl) rfl
theorem q1737 : (Jvm.Cond.selects "CarryFairModel" ({ cls := "CarryFairModel", name := "middle", desc := "(I)I" } : Jvm.MethodName) ({ cls := "CarryFairModel", name := "middle", desc := "(I)I" } : Jvm.MethodName)) ∈ lw_all := lw_g (lw_at lw_m7 172 rfl) rfl
theorem q1738 : (Jvm.Cond.code ({ cls := "CarryFairModel", name := "middle", desc := "(I)I" } : Jvm.MethodName) prog_16_method_82_code (8 : Nat) (Option.some Jvm.ClassFile.FieldType.int)) ∈ lw_all := lw_g (lw_at lw_m7 173 rfl) rfl
theorem q1740 : (Jvm.Cond.instanceMethod ({ cls := "CarryFairModel", name := "heavy", desc := "(II)I" } : Jvm.MethodName)) ∈ lw_all := lw_g (lw_at lw_m7 175 rfl) rfl
theorem q1741 : (Jvm.Cond.selects "CarryFairModel" ({ cls := "CarryFairModel", name := "heavy", desc := "(II)I" } : Jvm.MethodName) ({ cls := "CarryFairModel", name := "heavy", desc := "(II)I" } : Jvm.MethodName)) ∈ lw_all := lw_g (lw_at lw_m7 176 rfl) rfl
theorem q1742 : (Jvm.Cond.code ({ cls := "CarryFairModel", name := "heavy", desc := "(II)I" } : Jvm.MethodName) prog_16_method_83_code (6 : Nat) (Option.some Jvm.ClassFile.FieldType.int)) ∈ lw_all := lw_g (lw_at lw_m7 177 rfl) rfl
theorem q1744 : (Jvm.Cond.instanceMethod ({ cls := "CarryFairModel", name := "day", desc := "(I)I" } : Jvm.MethodName)) ∈ lw_all := lw_g (lw_at lw_m7 179 rfl) rfl
theorem q1745 : (Jvm.Cond.selects "CarryFairModel" ({ cls := "CarryFairModel", name := "day", desc := "(I)I" } : Jvm.MethodName) ({ cls := "CarryFairModel", name := "day", desc := "(I)I" } : Jvm.MethodName)) ∈ lw_all := lw_g (lw_at lw_m7 180 rfl) rfl
theorem q1746 : (Jvm.Cond.code ({ cls := "CarryFairModel", name := "day", desc := "(I)I" } : Jvm.MethodName) prog_16_method_88_code (3 : Nat) (Option.some Jvm.ClassFile.FieldType.int)) ∈ lw_all := lw_g (lw_at lw_m7 181 rfl) rfl
theorem q1747 : (Jvm.Cond.methodLink "CarryFairModel" (267 : Nat) ({ cls := "CarryFairModel", name := "refusesDays", desc := "(I)I" } : Jvm.MethodName)) ∈ lw_all := lw_g (lw_at lw_m7 182 rfl) rfl
theorem q1748 : (Jvm.Cond.privateMethod ({ cls := "CarryFairModel", name := "refusesDays", desc := "(I)I" } : Jvm.MethodName)) ∈ lw_tbl := lw_at lw_m7 183 rfl
theorem q1749 : (Jvm.Cond.instanceMethod ({ cls := "CarryFairModel", name := "refusesDays", desc := "(I)I" } : Jvm.MethodName)) ∈ lw_all := lw_g (lw_at lw_m7 184 rfl) rfl
theorem q1750 : (Jvm.Cond.code ({ cls := "CarryFairModel", name := "refusesDays", desc := "(I)I" } : Jvm.MethodName) prog_16_method_86_code (2 : Nat) (Option.some Jvm.ClassFile.FieldType.int)) ∈ lw_all := lw_g (lw_at lw_m7 185 rfl) rfl
theorem q1751 : (Jvm.Cond.methodLink "CarryFairModel" (270 : Nat) ({ cls := "CarryFairModel", name := "days", desc := "(I)I" } : Jvm.MethodName)) ∈ lw_all := lw_g (lw_at lw_m7 186 rfl) rfl
theorem q1752 : (Jvm.Cond.privateMethod ({ cls := "CarryFairModel", name := "days", desc := "(I)I" } : Jvm.MethodName)) ∈ lw_tbl := lw_at lw_m7 187 rfl
theorem q1753 : (Jvm.Cond.instanceMethod ({ cls := "CarryFairModel", name := "days", desc := "(I)I" } : Jvm.MethodName)) ∈ lw_all := lw_g (lw_at lw_m7 188 rfl) rfl
theorem q1754 : (Jvm.Cond.code ({ cls := "CarryFairModel", name := "days", desc := "(I)I" } : Jvm.MethodName) prog_16_method_87_code (5 : Nat) (Option.some Jvm.ClassFile.FieldType.int)) ∈ lw_all := lw_g (lw_at lw_m7 189 rfl) rfl
theorem q1755 : (Jvm.Cond.methodLink "CarryFairModel" (261 : Nat) ({ cls := "CarryFairModel", name := "drawn", desc := "(I)I" } : Jvm.MethodName)) ∈ lw_all := lw_g (lw_at lw_m7 190 rfl) rfl
theorem q1756 : (Jvm.Cond.privateMethod ({ cls := "CarryFairModel", name := "drawn", desc := "(I)I" } : Jvm.MethodName)) ∈ lw_tbl := lw_at lw_m7 191 rfl
theorem q1757 : (Jvm.Cond.instanceMethod ({ cls := "CarryFairModel", name := "drawn", desc := "(I)I" } : Jvm.MethodName)) ∈ lw_all := lw_g (lw_at lw_m7 192 rfl) rfl
theorem q1758 : (Jvm.Cond.code ({ cls := "CarryFairModel", name := "drawn", desc := "(I)I" } : Jvm.MethodName) prog_16_method_84_code (2 : Nat) (Option.some Jvm.ClassFile.FieldType.int)) ∈ lw_all := lw_g (lw_at lw_m7 193 rfl) rfl
theorem q1759 : (Jvm.Cond.constant "CarryFairModel" (260 : Nat) (1103515245 : Int32)) ∈ lw_all := lw_g (lw_at lw_m7 194 rfl) rfl
theorem q1760 : (Jvm.Cond.methodLink "CarryFairModel" (264 : Nat) ({ cls := "CarryFairModel", name := "takesAll", desc := "(I)V" } : Jvm.MethodName)) ∈ lw_all := lw_g (lw_at lw_m7 195 rfl) rfl
theorem q1761 : (Jvm.Cond.privateMethod ({ cls := "CarryFairModel", name := "takesAll", desc := "(I)V" } : Jvm.MethodName)) ∈ lw_tbl := lw_at lw_m7 196 rfl
theorem q1762 : (Jvm.Cond.instanceMethod ({ cls := "CarryFairModel", name := "takesAll", desc := "(I)V" } : Jvm.MethodName)) ∈ lw_all := lw_g (lw_at lw_m7 197 rfl) rfl
theorem q1763 : (Jvm.Cond.code ({ cls := "CarryFairModel", name := "takesAll", desc := "(I)V" } : Jvm.MethodName) prog_16_method_85_code (3 : Nat) (Option.none : Option Jvm.ClassFile.FieldType)) ∈ lw_all := lw_g (lw_at lw_m7 198 rfl) rfl
theorem q1765 : (Jvm.Cond.instanceMethod ({ cls := "CarryFairModel", name := "ahead", desc := "(I)I" } : Jvm.MethodName)) ∈ lw_all := lw_g (lw_at lw_m7 200 rfl) rfl
theorem q1766 : (Jvm.Cond.selects "CarryFairModel" ({ cls := "CarryFairModel", name := "ahead", desc := "(I)I" } : Jvm.MethodName) ({ cls := "CarryFairModel", name := "ahead", desc := "(I)I" } : Jvm.MethodName)) ∈ lw_all := lw_g (lw_at lw_m7 201 rfl) rfl
theorem q1767 : (Jvm.Cond.code ({ cls := "CarryFairModel", name := "ahead", desc := "(I)I" } : Jvm.MethodName) prog_16_method_89_code (3 : Nat) (Option.some Jvm.ClassFile.FieldType.int)) ∈ lw_all := lw_g (lw_at lw_m7 202 rfl) rfl
theorem q1768 : (Jvm.Cond.methodLink "CarryFairModel" (73 : Nat) ({ cls := "CarryFairModel", name := "copyRow", desc := "([I[I)V" } : Jvm.MethodName)) ∈ lw_all := lw_g (lw_at lw_m7 203 rfl) rfl
theorem q1769 : (Jvm.Cond.static ({ cls := "CarryFairModel", name := "copyRow", desc := "([I[I)V" } : Jvm.MethodName)) ∈ lw_all := lw_g (lw_at lw_m7 204 rfl) rfl
theorem q1770 : (Jvm.Cond.code ({ cls := "CarryFairModel", name := "copyRow", desc := "([I[I)V" } : Jvm.MethodName) prog_16_method_5_code (3 : Nat) (Option.none : Option Jvm.ClassFile.FieldType)) ∈ lw_all := lw_g (lw_at lw_m7 205 rfl) rfl
theorem q1771 : (Jvm.Cond.methodLink "CarryFairModel" (273 : Nat) ({ cls := "CarryFairModel", name := "putBack", desc := "(I)I" } : Jvm.MethodName)) ∈ lw_all := lw_g (lw_at lw_m7 206 rfl) rfl
theorem q1772 : (Jvm.Cond.privateMethod ({ cls := "CarryFairModel", name := "putBack", desc := "(I)I" } : Jvm.MethodName)) ∈ lw_tbl := lw_at lw_m7 207 rfl
theorem q1773 : (Jvm.Cond.instanceMethod ({ cls := "CarryFairModel", name := "putBack", desc := "(I)I" } : Jvm.MethodName)) ∈ lw_all := lw_g (lw_at lw_m7 208 rfl) rfl
theorem q1774 : (Jvm.Cond.code ({ cls := "CarryFairModel", name := "putBack", desc := "(I)I" } : Jvm.MethodName) prog_16_method_6_code (2 : Nat) (Option.some Jvm.ClassFile.FieldType.int)) ∈ lw_all := lw_g (lw_at lw_m7 209 rfl) rfl
theorem q1776 : (Jvm.Cond.instanceMethod ({ cls := "CarryFairModel", name := "seed", desc := "(I)I" } : Jvm.MethodName)) ∈ lw_all := lw_g (lw_at lw_m7 211 rfl) rfl
theorem q1777 : (Jvm.Cond.selects "CarryFairModel" ({ cls := "CarryFairModel", name := "seed", desc := "(I)I" } : Jvm.MethodName) ({ cls := "CarryFairModel", name := "seed", desc := "(I)I" } : Jvm.MethodName)) ∈ lw_all := lw_g (lw_at lw_m7 212 rfl) rfl
theorem q1778 : (Jvm.Cond.code ({ cls := "CarryFairModel", name := "seed", desc := "(I)I" } : Jvm.MethodName) prog_16_method_90_code (2 : Nat) (Option.some Jvm.ClassFile.FieldType.int)) ∈ lw_all := lw_g (lw_at lw_m7 213 rfl) rfl
theorem q1780 : (Jvm.Cond.instanceMethod ({ cls := "CarryFairModel", name := "feed", desc := "(II)I" } : Jvm.MethodName)) ∈ lw_all := lw_g (lw_at lw_m7 215 rfl) rfl
theorem q1781 : (Jvm.Cond.selects "CarryFairModel" ({ cls := "CarryFairModel", name := "feed", desc := "(II)I" } : Jvm.MethodName) ({ cls := "CarryFairModel", name := "feed", desc := "(II)I" } : Jvm.MethodName)) ∈ lw_all := lw_g (lw_at lw_m7 216 rfl) rfl
theorem q1782 : (Jvm.Cond.code ({ cls := "CarryFairModel", name := "feed", desc := "(II)I" } : Jvm.MethodName) prog_16_method_91_code (4 : Nat) (Option.some Jvm.ClassFile.FieldType.int)) ∈ lw_all := lw_g (lw_at lw_m7 217 rfl) rfl
theorem q1784 : (Jvm.Cond.instanceMethod ({ cls := "CarryFairModel", name := "wipe", desc := "()I" } : Jvm.MethodName)) ∈ lw_all := lw_g (lw_at lw_m7 219 rfl) rfl
theorem q1785 : (Jvm.Cond.selects "CarryFairModel" ({ cls := "CarryFairModel", name := "wipe", desc := "()I" } : Jvm.MethodName) ({ cls := "CarryFairModel", name := "wipe", desc := "()I" } : Jvm.MethodName)) ∈ lw_all := lw_g (lw_at lw_m7 220 rfl) rfl
theorem q1786 : (Jvm.Cond.code ({ cls := "CarryFairModel", name := "wipe", desc := "()I" } : Jvm.MethodName) prog_16_method_92_code (2 : Nat) (Option.some Jvm.ClassFile.FieldType.int)) ∈ lw_all := lw_g (lw_at lw_m7 221 rfl) rfl
theorem q1788 : (Jvm.Cond.instanceMethod ({ cls := "CarryFairModel", name := "text", desc := "()I" } : Jvm.MethodName)) ∈ lw_all := lw_g (lw_at lw_m7 223 rfl) rfl
theorem q1789 : (Jvm.Cond.selects "CarryFairModel" ({ cls := "CarryFairModel", name := "text", desc := "()I" } : Jvm.MethodName) ({ cls := "CarryFairModel", name := "text", desc := "()I" } : Jvm.MethodName)) ∈ lw_all := lw_g (lw_at lw_m7 224 rfl) rfl
theorem q1790 : (Jvm.Cond.code ({ cls := "CarryFairModel", name := "text", desc := "()I" } : Jvm.MethodName) prog_16_method_104_code (3 : Nat) (Option.some Jvm.ClassFile.FieldType.int)) ∈ lw_all := lw_g (lw_at lw_m7 225 rfl) rfl
theorem q1791 : (Jvm.Cond.methodLink "CarryFairModel" (306 : Nat) ({ cls := "CarryFairModel", name := "next", desc := "()V" } : Jvm.MethodName)) ∈ lw_all := lw_g (lw_at lw_m7 226 rfl) rfl
theorem q1792 : (Jvm.Cond.privateMethod ({ cls := "CarryFairModel", name := "next", desc := "()V" } : Jvm.MethodName)) ∈ lw_tbl := lw_at lw_m7 227 rfl
theorem q1793 : (Jvm.Cond.instanceMethod ({ cls := "CarryFairModel", name := "next", desc := "()V" } : Jvm.MethodName)) ∈ lw_all := lw_g (lw_at lw_m7 228 rfl) rfl
theorem q1794 : (Jvm.Cond.code ({ cls := "CarryFairModel", name := "next", desc := "()V" } : Jvm.MethodName) prog_16_method_94_code (2 : Nat) (Option.none : Option Jvm.ClassFile.FieldType)) ∈ lw_all := lw_g (lw_at lw_m7 229 rfl) rfl
theorem q1795 : (Jvm.Cond.methodLink "CarryFairModel" (285 : Nat) ({ cls := "CarryFairModel", name := "byteAt", desc := "(I)I" } : Jvm.MethodName)) ∈ lw_all := lw_g (lw_at lw_m7 230 rfl) rfl
theorem q1796 : (Jvm.Cond.privateMethod ({ cls := "CarryFairModel", name := "byteAt", desc := "(I)I" } : Jvm.MethodName)) ∈ lw_tbl := lw_at lw_m7 231 rfl
theorem q1797 : (Jvm.Cond.instanceMethod ({ cls := "CarryFairModel", name := "byteAt", desc := "(I)I" } : Jvm.MethodName)) ∈ lw_all := lw_g (lw_at lw_m7 232 rfl) rfl
theorem q1798 : (Jvm.Cond.code ({ cls := "CarryFairModel", name := "byteAt", desc := "(I)I" } : Jvm.MethodName) prog_16_method_93_code (2 : Nat) (Option.some Jvm.ClassFile.FieldType.int)) ∈ lw_all := lw_g (lw_at lw_m7 233 rfl) rfl
theorem q1799 : (Jvm.Cond.methodLink "CarryFairModel" (363 : Nat) ({ cls := "CarryFairModel", name := "readItem", desc := "()V" } : Jvm.MethodName)) ∈ lw_all := lw_g (lw_at lw_m7 234 rfl) rfl
theorem q1800 : (Jvm.Cond.privateMethod ({ cls := "CarryFairModel", name := "readItem", desc := "()V" } : Jvm.MethodName)) ∈ lw_tbl := lw_at lw_m7 235 rfl
theorem q1801 : (Jvm.Cond.instanceMethod ({ cls := "CarryFairModel", name := "readItem", desc := "()V" } : Jvm.MethodName)) ∈ lw_all := lw_g (lw_at lw_m7 236 rfl) rfl
theorem q1802 : (Jvm.Cond.code ({ cls := "CarryFairModel", name := "readItem", desc := "()V" } : Jvm.MethodName) prog_16_method_102_code (5 : Nat) (Option.none : Option Jvm.ClassFile.FieldType)) ∈ lw_all := lw_g (lw_at lw_m7 237 rfl) rfl
theorem q1803 : (Jvm.Cond.methodLink "CarryFairModel" (320 : Nat) ({ cls := "CarryFairModel", name := "kindTold", desc := "()I" } : Jvm.MethodName)) ∈ lw_all := lw_g (lw_at lw_m7 238 rfl) rfl
theorem q1804 : (Jvm.Cond.privateMethod ({ cls := "CarryFairModel", name := "kindTold", desc := "()I" } : Jvm.MethodName)) ∈ lw_tbl := lw_at lw_m7 239 rfl
theorem q1805 : (Jvm.Cond.instanceMethod ({ cls := "CarryFairModel", name := "kindTold", desc := "()I" } : Jvm.MethodName)) ∈ lw_all := lw_g (lw_at lw_m8 0 rfl) rfl
theorem q1806 : (Jvm.Cond.code ({ cls := "CarryFairModel", name := "kindTold", desc := "()I" } : Jvm.MethodName) prog_16_method_99_code (3 : Nat) (Option.some Jvm.ClassFile.FieldType.int)) ∈ lw_all := lw_g (lw_at lw_m8 1 rfl) rfl
theorem q1807 : (Jvm.Cond.methodLink "CarryFairModel" (316 : Nat) ({ cls := "CarryFairModel", name := "isWord", desc := "(Ljava/lang/String;)Z" } : Jvm.MethodName)) ∈ lw_all := lw_g (lw_at lw_m8 2 rfl) rfl
theorem q1808 : (Jvm.Cond.privateMethod ({ cls := "CarryFairModel", name := "isWord", desc := "(Ljava/lang/String;)Z" } : Jvm.MethodName)) ∈ lw_tbl := lw_at lw_m8 3 rfl
theorem q1809 : (Jvm.Cond.instanceMethod ({ cls := "CarryFairModel", name := "isWord", desc := "(Ljava/lang/String;)Z" } : Jvm.MethodName)) ∈ lw_all := lw_g (lw_at lw_m8 4 rfl) rfl
theorem q1810 : (Jvm.Cond.code ({ cls := "CarryFairModel", name := "isWord", desc := "(Ljava/lang/String;)Z" } : Jvm.MethodName) prog_16_method_95_code (4 : Nat) (Option.some Jvm.ClassFile.FieldType.boolean)) ∈ lw_all := lw_g (lw_at lw_m8 5 rfl) rfl
theorem q1811 : (Jvm.Cond.methodLink "CarryFairModel" (294 : Nat) ({ cls := "java/lang/String", name := "length", desc := "()I" } : Jvm.MethodName)) ∈ lw_all := lw_g (lw_at lw_m8 6 rfl) rfl
theorem q1819 : (Jvm.Cond.methodLink "CarryFairModel" (298 : Nat) ({ cls := "java/lang/String", name := "charAt", desc := "(I)C" } : Jvm.MethodName)) ∈ lw_all := lw_g (lw_at lw_m8 14 rfl) rfl
theorem q1820 : (Jvm.Cond.methodLink "CarryFairModel" (309 : Nat) ({ cls := "CarryFairModel", name := "must", desc := "(Z)V" } : Jvm.MethodName)) ∈ lw_all := lw_g (lw_at lw_m8 15 rfl) rfl
theorem q1821 : (Jvm.Cond.privateMethod ({ cls := "CarryFairModel", name := "must", desc := "(Z)V" } : Jvm.MethodName)) ∈ lw_tbl := lw_at lw_m8 16 rfl
theorem q1822 : (Jvm.Cond.instanceMethod ({ cls := "CarryFairModel", name := "must", desc := "(Z)V" } : Jvm.MethodName)) ∈ lw_all := lw_g (lw_at lw_m8 17 rfl) rfl
theorem q1823 : (Jvm.Cond.code ({ cls := "CarryFairModel", name := "must", desc := "(Z)V" } : Jvm.MethodName) prog_16_method_96_code (2 : Nat) (Option.none : Option Jvm.ClassFile.FieldType)) ∈ lw_all := lw_g (lw_at lw_m8 18 rfl) rfl
theorem q1824 : (Jvm.Cond.stringRef "CarryFairModel" (326 : Nat) "at") ∈ lw_tbl := lw_at lw_m8 19 rfl
theorem q1825 : (Jvm.Cond.methodLink "CarryFairModel" (328 : Nat) ({ cls := "CarryFairModel", name := "isNext", desc := "(Ljava/lang/String;)Z" } : Jvm.MethodName)) ∈ lw_all := lw_g (lw_at lw_m8 20 rfl) rfl
theorem q1826 : (Jvm.Cond.privateMethod ({ cls := "CarryFairModel", name := "isNext", desc := "(Ljava/lang/String;)Z" } : Jvm.MethodName)) ∈ lw_tbl := lw_at lw_m8 21 rfl
theorem q1827 : (Jvm.Cond.instanceMethod ({ cls := "CarryFairModel", name := "isNext", desc := "(Ljava/lang/String;)Z" } : Jvm.MethodName)) ∈ lw_all := lw_g (lw_at lw_m8 22 rfl) rfl
theorem q1828 : (Jvm.Cond.code ({ cls := "CarryFairModel", name := "isNext", desc := "(Ljava/lang/String;)Z" } : Jvm.MethodName) prog_16_method_100_code (3 : Nat) (Option.some Jvm.ClassFile.FieldType.boolean)) ∈ lw_all := lw_g (lw_at lw_m8 23 rfl) rfl
theorem q1829 : (Jvm.Cond.methodLink "CarryFairModel" (331 : Nat) ({ cls := "CarryFairModel", name := "number", desc := "(II)I" } : Jvm.MethodName)) ∈ lw_all := lw_g (lw_at lw_m8 24 rfl) rfl
theorem q1830 : (Jvm.Cond.privateMethod ({ cls := "CarryFairModel", name := "number", desc := "(II)I" } : Jvm.MethodName)) ∈ lw_tbl := lw_at lw_m8 25 rfl
theorem q1831 : (Jvm.Cond.instanceMethod ({ cls := "CarryFairModel", name := "number", desc := "(II)I" } : Jvm.MethodName)) ∈ lw_all := lw_g (lw_at lw_m8 26 rfl) rfl
theorem q1832 : (Jvm.Cond.code ({ cls := "CarryFairModel", name := "number", desc := "(II)I" } : Jvm.MethodName) prog_16_method_97_code (4 : Nat) (Option.some Jvm.ClassFile.FieldType.int)) ∈ lw_all := lw_g (lw_at lw_m8 27 rfl) rfl
theorem q1833 : (Jvm.Cond.stringRef "CarryFairModel" (334 : Nat) "strong") ∈ lw_tbl := lw_at lw_m8 28 rfl
theorem q1834 : (Jvm.Cond.methodLink "CarryFairModel" (336 : Nat) ({ cls := "CarryFairModel", name := "item", desc := "(IIIII)V" } : Jvm.MethodName)) ∈ lw_all := lw_g (lw_at lw_m8 29 rfl) rfl
theorem q1835 : (Jvm.Cond.privateMethod ({ cls := "CarryFairModel", name := "item", desc := "(IIIII)V" } : Jvm.MethodName)) ∈ lw_tbl := lw_at lw_m8 30 rfl
theorem q1836 : (Jvm.Cond.instanceMethod ({ cls := "CarryFairModel", name := "item", desc := "(IIIII)V" } : Jvm.MethodName)) ∈ lw_all := lw_g (lw_at lw_m8 31 rfl) rfl
theorem q1837 : (Jvm.Cond.code ({ cls := "CarryFairModel", name := "item", desc := "(IIIII)V" } : Jvm.MethodName) prog_16_method_98_code (7 : Nat) (Option.none : Option Jvm.ClassFile.FieldType)) ∈ lw_all := lw_g (lw_at lw_m8 32 rfl) rfl
theorem q1838 : (Jvm.Cond.stringRef "CarryFairModel" (340 : Nat) "way") ∈ lw_tbl := lw_at lw_m8 33 rfl
theorem q1839 : (Jvm.Cond.methodLink "CarryFairModel" (342 : Nat) ({ cls := "CarryFairModel", name := "unlike", desc := "(I)I" } : Jvm.MethodName)) ∈ lw_all := lw_g (lw_at lw_m8 34 rfl) rfl
theorem q1840 : (Jvm.Cond.privateMethod ({ cls := "CarryFairModel", name := "unlike", desc := "(I)I" } : Jvm.MethodName)) ∈ lw_tbl := lw_at lw_m8 35 rfl
theorem q1841 : (Jvm.Cond.instanceMethod ({ cls := "CarryFairModel", name := "unlike", desc := "(I)I" } : Jvm.MethodName)) ∈ lw_all := lw_g (lw_at lw_m8 36 rfl) rfl
theorem q1842 : (Jvm.Cond.code ({ cls := "CarryFairModel", name := "unlike", desc := "(I)I" } : Jvm.MethodName) prog_16_method_101_code (3 : Nat) (Option.some Jvm.ClassFile.FieldType.int)) ∈ lw_all := lw_g (lw_at lw_m8 37 rfl) rfl
theorem q1843 : (Jvm.Cond.stringRef "CarryFairModel" (345 : Nat) "yards") ∈ lw_tbl := lw_at lw_m8 38 rfl
theorem q1844 : (Jvm.Cond.stringRef "CarryFairModel" (347 : Nat) "river") ∈ lw_tbl := lw_at lw_m8 39 rfl
theorem q1845 : (Jvm.Cond.stringRef "CarryFairModel" (349 : Nat) "errand") ∈ lw_tbl := lw_at lw_m8 40 rfl
theorem q1846 : (Jvm.Cond.stringRef "CarryFairModel" (354 : Nat) "from") ∈ lw_tbl := lw_at lw_m8 41 rfl
theorem q1847 : (Jvm.Cond.stringRef "CarryFairModel" (356 : Nat) "to") ∈ lw_tbl := lw_at lw_m8 42 rfl
theorem q1848 : (Jvm.Cond.stringRef "CarryFairModel" (358 : Nat) "ware") ∈ lw_tbl := lw_at lw_m8 43 rfl
theorem q1849 : (Jvm.Cond.methodLink "CarryFairModel" (366 : Nat) ({ cls := "CarryFairModel", name := "isSo", desc := "(I)I" } : Jvm.MethodName)) ∈ lw_all := lw_g (lw_at lw_m8 44 rfl) rfl
theorem q1850 : (Jvm.Cond.privateMethod ({ cls := "CarryFairModel", name := "isSo", desc := "(I)I" } : Jvm.MethodName)) ∈ lw_tbl := lw_at lw_m8 45 rfl
theorem q1851 : (Jvm.Cond.instanceMethod ({ cls := "CarryFairModel", name := "isSo", desc := "(I)I" } : Jvm.MethodName)) ∈ lw_all := lw_g (lw_at lw_m8 46 rfl) rfl
theorem q1852 : (Jvm.Cond.code ({ cls := "CarryFairModel", name := "isSo", desc := "(I)I" } : Jvm.MethodName) prog_16_method_103_code (5 : Nat) (Option.some Jvm.ClassFile.FieldType.int)) ∈ lw_all := lw_g (lw_at lw_m8 47 rfl) rfl
theorem q1854 : (Jvm.Cond.instanceMethod ({ cls := "CarryFairModel", name := "hold", desc := "(II)I" } : Jvm.MethodName)) ∈ lw_all := lw_g (lw_at lw_m8 49 rfl) rfl
theorem q1855 : (Jvm.Cond.selects "CarryFairModel" ({ cls := "CarryFairModel", name := "hold", desc := "(II)I" } : Jvm.MethodName) ({ cls := "CarryFairModel", name := "hold", desc := "(II)I" } : Jvm.MethodName)) ∈ lw_all := lw_g (lw_at lw_m8 50 rfl) rfl
theorem q1856 : (Jvm.Cond.code ({ cls := "CarryFairModel", name := "hold", desc := "(II)I" } : Jvm.MethodName) prog_16_method_106_code (3 : Nat) (Option.some Jvm.ClassFile.FieldType.int)) ∈ lw_all := lw_g (lw_at lw_m8 51 rfl) rfl
theorem q1857 : (Jvm.Cond.methodLink "CarryFairModel" (369 : Nat) ({ cls := "CarryFairModel", name := "isSpot", desc := "(I)Z" } : Jvm.MethodName)) ∈ lw_all := lw_g (lw_at lw_m8 52 rfl) rfl
theorem q1858 : (Jvm.Cond.static ({ cls := "CarryFairModel", name := "isSpot", desc := "(I)Z" } : Jvm.MethodName)) ∈ lw_all := lw_g (lw_at lw_m8 53 rfl) rfl
theorem q1859 : (Jvm.Cond.code ({ cls := "CarryFairModel", name := "isSpot", desc := "(I)Z" } : Jvm.MethodName) prog_16_method_105_code (1 : Nat) (Option.some Jvm.ClassFile.FieldType.boolean)) ∈ lw_all := lw_g (lw_at lw_m8 54 rfl) rfl
theorem q1861 : (Jvm.Cond.instanceMethod ({ cls := "CarryFairModel", name := "as", desc := "(II)I" } : Jvm.MethodName)) ∈ lw_all := lw_g (lw_at lw_m8 56 rfl) rfl
theorem q1862 : (Jvm.Cond.selects "CarryFairModel" ({ cls := "CarryFairModel", name := "as", desc := "(II)I" } : Jvm.MethodName) ({ cls := "CarryFairModel", name := "as", desc := "(II)I" } : Jvm.MethodName)) ∈ lw_all := lw_g (lw_at lw_m8 57 rfl) rfl
theorem q1863 : (Jvm.Cond.code ({ cls := "CarryFairModel", name := "as", desc := "(II)I" } : Jvm.MethodName) prog_16_method_107_code (4 : Nat) (Option.some Jvm.ClassFile.FieldType.int)) ∈ lw_all := lw_g (lw_at lw_m8 58 rfl) rfl
theorem q1864 : (Jvm.Cond.constant "CarryFairModel" (372 : Nat) (-1000006 : Int32)) ∈ lw_all := lw_g (lw_at lw_m8 59 rfl) rfl
theorem q1865 : (Jvm.Cond.constant "CarryFairModel" (373 : Nat) (-1000003 : Int32)) ∈ lw_all := lw_g (lw_at lw_m8 60 rfl) rfl
theorem q1867 : (Jvm.Cond.instanceMethod ({ cls := "CarryFairModel", name := "sheet", desc := "(III)I" } : Jvm.MethodName)) ∈ lw_all := lw_g (lw_at lw_m8 62 rfl) rfl
theorem q1868 : (Jvm.Cond.selects "CarryFairModel" ({ cls := "CarryFairModel", name := "sheet", desc := "(III)I" } : Jvm.MethodName) ({ cls := "CarryFairModel", name := "sheet", desc := "(III)I" } : Jvm.MethodName)) ∈ lw_all := lw_g (lw_at lw_m8 63 rfl) rfl
theorem q1869 : (Jvm.Cond.code ({ cls := "CarryFairModel", name := "sheet", desc := "(III)I" } : Jvm.MethodName) prog_16_method_110_code (5 : Nat) (Option.some Jvm.ClassFile.FieldType.int)) ∈ lw_all := lw_g (lw_at lw_m8 64 rfl) rfl
theorem q1870 : (Jvm.Cond.methodLink "CarryFairModel" (374 : Nat) ({ cls := "CarryFairModel", name := "isSheet", desc := "(I)Z" } : Jvm.MethodName)) ∈ lw_all := lw_g (lw_at lw_m8 65 rfl) rfl
theorem q1871 : (Jvm.Cond.static ({ cls := "CarryFairModel", name := "isSheet", desc := "(I)Z" } : Jvm.MethodName)) ∈ lw_all := lw_g (lw_at lw_m8 66 rfl) rfl
theorem q1872 : (Jvm.Cond.code ({ cls := "CarryFairModel", name := "isSheet", desc := "(I)Z" } : Jvm.MethodName) prog_16_method_108_code (1 : Nat) (Option.some Jvm.ClassFile.FieldType.boolean)) ∈ lw_all := lw_g (lw_at lw_m8 67 rfl) rfl
theorem q1873 : (Jvm.Cond.constant "CarryFairModel" (377 : Nat) (-1000007 : Int32)) ∈ lw_all := lw_g (lw_at lw_m8 68 rfl) rfl
theorem q1875 : (Jvm.Cond.instanceMethod ({ cls := "CarryFairModel", name := "write", desc := "(III)I" } : Jvm.MethodName)) ∈ lw_all := lw_g (lw_at lw_m8 70 rfl) rfl
theorem q1876 : (Jvm.Cond.selects "CarryFairModel" ({ cls := "CarryFairModel", name := "write", desc := "(III)I" } : Jvm.MethodName) ({ cls := "CarryFairModel", name := "write", desc := "(III)I" } : Jvm.MethodName)) ∈ lw_all := lw_g (lw_at lw_m8 71 rfl) rfl
theorem q1877 : (Jvm.Cond.code ({ cls := "CarryFairModel", name := "write", desc := "(III)I" } : Jvm.MethodName) prog_16_method_111_code (4 : Nat) (Option.some Jvm.ClassFile.FieldType.int)) ∈ lw_all := lw_g (lw_at lw_m8 72 rfl) rfl
theorem q1878 : (Jvm.Cond.methodLink "CarryFairModel" (378 : Nat) ({ cls := "CarryFairModel", name := "cutTo", desc := "(II)I" } : Jvm.MethodName)) ∈ lw_all := lw_g (lw_at lw_m8 73 rfl) rfl
theorem q1879 : (Jvm.Cond.static ({ cls := "CarryFairModel", name := "cutTo", desc := "(II)I" } : Jvm.MethodName)) ∈ lw_all := lw_g (lw_at lw_m8 74 rfl) rfl
theorem q1880 : (Jvm.Cond.code ({ cls := "CarryFairModel", name := "cutTo", desc := "(II)I" } : Jvm.MethodName) prog_16_method_109_code (2 : Nat) (Option.some Jvm.ClassFile.FieldType.int)) ∈ lw_all := lw_g (lw_at lw_m8 75 rfl) rfl
theorem q1882 : (Jvm.Cond.instanceMethod ({ cls := "CarryFairModel", name := "copy", desc := "(IIIII)I" } : Jvm.MethodName)) ∈ lw_all := lw_g (lw_at lw_m8 77 rfl) rfl
theorem q1883 : (Jvm.Cond.selects "CarryFairModel" ({ cls := "CarryFairModel", name := "copy", desc := "(IIIII)I" } : Jvm.MethodName) ({ cls := "CarryFairModel", name := "copy", desc := "(IIIII)I" } : Jvm.MethodName)) ∈ lw_all := lw_g (lw_at lw_m8 78 rfl) rfl
theorem q1884 : (Jvm.Cond.code ({ cls := "CarryFairModel", name := "copy", desc := "(IIIII)I" } : Jvm.MethodName) prog_16_method_112_code (7 : Nat) (Option.some Jvm.ClassFile.FieldType.int)) ∈ lw_all := lw_g (lw_at lw_m8 79 rfl) rfl
theorem q1886 : (Jvm.Cond.instanceMethod ({ cls := "CarryFairModel", name := "load", desc := "(I)I" } : Jvm.MethodName)) ∈ lw_all := lw_g (lw_at lw_m8 81 rfl) rfl
theorem q1887 : (Jvm.Cond.selects "CarryFairModel" ({ cls := "CarryFairModel", name := "load", desc := "(I)I" } : Jvm.MethodName) ({ cls := "CarryFairModel", name := "load", desc := "(I)I" } : Jvm.MethodName)) ∈ lw_all := lw_g (lw_at lw_m8 82 rfl) rfl
theorem q1888 : (Jvm.Cond.code ({ cls := "CarryFairModel", name := "load", desc := "(I)I" } : Jvm.MethodName) prog_16_method_113_code (3 : Nat) (Option.some Jvm.ClassFile.FieldType.int)) ∈ lw_all := lw_g (lw_at lw_m8 83 rfl) rfl
theorem q1890 : (Jvm.Cond.instanceMethod ({ cls := "CarryFairModel", name := "judge", desc := "(II)I" } : Jvm.MethodName)) ∈ lw_all := lw_g (lw_at lw_m8 85 rfl) rfl
theorem q1891 : (Jvm.Cond.selects "CarryFairModel" ({ cls := "CarryFairModel", name := "judge", desc := "(II)I" } : Jvm.MethodName) ({ cls := "CarryFairModel", name := "judge", desc := "(II)I" } : Jvm.MethodName)) ∈ lw_all := lw_g (lw_at lw_m8 86 rfl) rfl
theorem q1892 : (Jvm.Cond.code ({ cls := "CarryFairModel", name := "judge", desc := "(II)I" } : Jvm.MethodName) prog_16_method_114_code (7 : Nat) (Option.some Jvm.ClassFile.FieldType.int)) ∈ lw_all := lw_g (lw_at lw_m8 87 rfl) rfl
theorem q1894 : (Jvm.Cond.instanceMethod ({ cls := "CarryFairModel", name := "image", desc := "()I" } : Jvm.MethodName)) ∈ lw_all := lw_g (lw_at lw_m8 89 rfl) rfl
theorem q1895 : (Jvm.Cond.selects "CarryFairModel" ({ cls := "CarryFairModel", name := "image", desc := "()I" } : Jvm.MethodName) ({ cls := "CarryFairModel", name := "image", desc := "()I" } : Jvm.MethodName)) ∈ lw_all := lw_g (lw_at lw_m8 90 rfl) rfl
theorem q1896 : (Jvm.Cond.code ({ cls := "CarryFairModel", name := "image", desc := "()I" } : Jvm.MethodName) prog_16_method_115_code (1 : Nat) (Option.some Jvm.ClassFile.FieldType.int)) ∈ lw_all := lw_g (lw_at lw_m8 91 rfl) rfl
theorem q1898 : (Jvm.Cond.instanceMethod ({ cls := "CarryFairModel", name := "undo", desc := "()I" } : Jvm.MethodName)) ∈ lw_all := lw_g (lw_at lw_m8 93 rfl) rfl
theorem q1899 : (Jvm.Cond.selects "CarryFairModel" ({ cls := "CarryFairModel", name := "undo", desc := "()I" } : Jvm.MethodName) ({ cls := "CarryFairModel", name := "undo", desc := "()I" } : Jvm.MethodName)) ∈ lw_all := lw_g (lw_at lw_m8 94 rfl) rfl
theorem q1900 : (Jvm.Cond.code ({ cls := "CarryFairModel", name := "undo", desc := "()I" } : Jvm.MethodName) prog_16_method_116_code (1 : Nat) (Option.some Jvm.ClassFile.FieldType.int)) ∈ lw_all := lw_g (lw_at lw_m8 95 rfl) rfl
theorem q1902 : (Jvm.Cond.instanceMethod ({ cls := "CarryFairModel", name := "tear", desc := "()I" } : Jvm.MethodName)) ∈ lw_all := lw_g (lw_at lw_m8 97 rfl) rfl
theorem q1903 : (Jvm.Cond.selects "CarryFairModel" ({ cls := "CarryFairModel", name := "tear", desc := "()I" } : Jvm.MethodName) ({ cls := "CarryFairModel", name := "tear", desc := "()I" } : Jvm.MethodName)) ∈ lw_all := lw_g (lw_at lw_m8 98 rfl) rfl
theorem q1904 : (Jvm.Cond.code ({ cls := "CarryFairModel", name := "tear", desc := "()I" } : Jvm.MethodName) prog_16_method_117_code (2 : Nat) (Option.some Jvm.ClassFile.FieldType.int)) ∈ lw_all := lw_g (lw_at lw_m8 99 rfl) rfl
theorem q1906 : (Jvm.Cond.instanceMethod ({ cls := "CarryFairModel", name := "count", desc := "(I)I" } : Jvm.MethodName)) ∈ lw_all := lw_g (lw_at lw_m8 101 rfl) rfl
theorem q1907 : (Jvm.Cond.selects "CarryFairModel" ({ cls := "CarryFairModel", name := "count", desc := "(I)I" } : Jvm.MethodName) ({ cls := "CarryFairModel", name := "count", desc := "(I)I" } : Jvm.MethodName)) ∈ lw_all := lw_g (lw_at lw_m8 102 rfl) rfl
theorem q1908 : (Jvm.Cond.code ({ cls := "CarryFairModel", name := "count", desc := "(I)I" } : Jvm.MethodName) prog_16_method_118_code (4 : Nat) (Option.some Jvm.ClassFile.FieldType.int)) ∈ lw_all := lw_g (lw_at lw_m8 103 rfl) rfl
theorem q1910 : (Jvm.Cond.instanceMethod ({ cls := "CarryFairModel", name := "status", desc := "(I)I" } : Jvm.MethodName)) ∈ lw_all := lw_g (lw_at lw_m8 105 rfl) rfl
theorem q1911 : (Jvm.Cond.selects "CarryFairModel" ({ cls := "CarryFairModel", name := "status", desc := "(I)I" } : Jvm.MethodName) ({ cls := "CarryFairModel", name := "status", desc := "(I)I" } : Jvm.MethodName)) ∈ lw_all := lw_g (lw_at lw_m8 106 rfl) rfl
theorem q1912 : (Jvm.Cond.code ({ cls := "CarryFairModel", name := "status", desc := "(I)I" } : Jvm.MethodName) prog_16_method_119_code (2 : Nat) (Option.some Jvm.ClassFile.FieldType.int)) ∈ lw_all := lw_g (lw_at lw_m8 107 rfl) rfl
theorem in_X13 : ∀ w ∈ wsX130, w ∈ lw_all := lw_in wsX130 [1365, 1367, 1369, 1371, 1373, 1375, 1377, 1379, 1381, 1383, 1385, 1387, 1389, 1391, 1393, 1395, 1397, 1399, 1401, 1403, 1405, 1407, 1409, 1411, 1413, 1415, 1417, 1419, 1421, 1423] (by decide +kernel) (by decide +kernel)
