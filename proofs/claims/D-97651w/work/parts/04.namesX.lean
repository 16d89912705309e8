/-! BeatenInstead -/
set_option maxRecDepth 100000
def RX0 : String := "BeatenInstead"
def TX0 : u_T := fun k => match k with
  | 0 => ("BeatenInstead", "lessons", "I", false)
  | 1 => ("BeatenInstead", "limit", "I", false)
  | 2 => ("BeatenInstead", "schoolsRead", "I", false)
  | 3 => ("BeatenInstead", "hard", "[I", true)
  | 4 => ("BeatenInstead", "blows", "[I", true)
  | 5 => ("BeatenInstead", "stripes", "[I", true)
  | 6 => ("BeatenInstead", "princes", "[LBeatenInstead$Prince;", true)
  | 7 => ("BeatenInstead", "many", "I", false)
  | 8 => ("BeatenInstead", "fond", "[I", true)
  | 9 => ("BeatenInstead", "page", "[I", true)
  | 10 => ("BeatenInstead", "pageMany", "I", false)
  | 11 => ("BeatenInstead", "orderDone", "I", false)
  | 12 => ("BeatenInstead", "order", "[I", true)
  | 13 => ("BeatenInstead", "bestOrder", "[I", true)
  | 14 => ("BeatenInstead", "orderMany", "I", false)
  | 15 => ("BeatenInstead", "bestMean", "J", false)
  | 16 => ("BeatenInstead", "matched", "[I", true)
  | 17 => ("BeatenInstead", "bestMatch", "[I", true)
  | 18 => ("BeatenInstead", "heardPrince", "[I", true)
  | 19 => ("BeatenInstead", "heardLesson", "[I", true)
  | 20 => ("BeatenInstead", "heardLearnt", "[Z", true)
  | 21 => ("BeatenInstead", "heardMany", "I", false)
  | 22 => ("BeatenInstead", "drawn", "I", false)
  | 23 => ("BeatenInstead", "savedFond", "[I", true)
  | 24 => ("BeatenInstead", "savedStripes", "[I", true)
  | 25 => ("BeatenInstead", "savedLearnt", "[I", true)
  | 26 => ("BeatenInstead", "keptFond", "[I", true)
  | 27 => ("BeatenInstead", "keptStripes", "[I", true)
  | 28 => ("BeatenInstead", "keptPrince", "[I", true)
  | 29 => ("BeatenInstead", "keptLesson", "[I", true)
  | 30 => ("BeatenInstead", "keptIs", "[Z", true)
  | 31 => ("BeatenInstead", "keptHeard", "I", false)
  | 32 => ("BeatenInstead", "keptMany", "I", false)
  | 33 => ("BeatenInstead", "keptSchool", "I", false)
  | _ => ("BeatenInstead", "h", "J", false)
def tyX0 : Nat → FieldType := fun k => match k with
  | 0 => .int
  | 1 => .int
  | 2 => .int
  | 3 => .array .int
  | 4 => .array .int
  | 5 => .array .int
  | 6 => .array (.object "BeatenInstead$Prince")
  | 7 => .int
  | 8 => .array .int
  | 9 => .array .int
  | 10 => .int
  | 11 => .int
  | 12 => .array .int
  | 13 => .array .int
  | 14 => .int
  | 15 => .long
  | 16 => .array .int
  | 17 => .array .int
  | 18 => .array .int
  | 19 => .array .int
  | 20 => .array .boolean
  | 21 => .int
  | 22 => .int
  | 23 => .array .int
  | 24 => .array .int
  | 25 => .array .int
  | 26 => .array .int
  | 27 => .array .int
  | 28 => .array .int
  | 29 => .array .int
  | 30 => .array .boolean
  | 31 => .int
  | 32 => .int
  | 33 => .int
  | _ => .long
abbrev wsX00 : List Cond := u_ws RX0 TX0 35
set_option maxRecDepth 100000 in
theorem nmX0 : ∀ a, a < 35 → ∀ b, b < 35 → a ≠ b → (TX0 a).2.1 ≠ (TX0 b).2.1 := by decide +kernel
set_option maxRecDepth 100000 in
theorem tyX0_ok : ∀ k, k < 35 → parseFieldDescriptor (TX0 k).2.2.1 = some (tyX0 k) := by decide +kernel
abbrev cX0_init : ByteArray := prog_1_method_4_code
def yX0_init : MethodName := ⟨RX0, "<init>", "()V"⟩
def dkwX0_init_7 : List UInt8 := [181, 0, 90, 177]
abbrev dktX0_init_7 : List UInt8 := dkwX0_init_7 ++ []
def dkwX0_init_6 : List UInt8 := [188, 10, 181, 0, 81, 42, 16, 6, 188, 10, 181, 0, 84, 42, 16, 6, 188, 4, 181, 0, 87, 42, 2]
abbrev dktX0_init_6 : List UInt8 := dkwX0_init_6 ++ dktX0_init_7
def dkwX0_init_5 : List UInt8 := [188, 10, 181, 0, 72, 42, 16, 9, 188, 10, 181, 0, 75, 42, 6, 188, 10, 181, 0, 78, 42, 16, 6]
abbrev dktX0_init_5 : List UInt8 := dkwX0_init_5 ++ dktX0_init_6
def dkwX0_init_4 : List UInt8 := [16, 6, 188, 4, 181, 0, 62, 42, 16, 9, 188, 10, 181, 0, 66, 42, 6, 188, 10, 181, 0, 69, 42, 6]
abbrev dktX0_init_4 : List UInt8 := dkwX0_init_4 ++ dktX0_init_5
def dkwX0_init_3 : List UInt8 := [42, 6, 188, 10, 181, 0, 53, 42, 16, 6, 188, 10, 181, 0, 56, 42, 16, 6, 188, 10, 181, 0, 59, 42]
abbrev dktX0_init_3 : List UInt8 := dkwX0_init_3 ++ dktX0_init_4
def dkwX0_init_2 : List UInt8 := [181, 0, 41, 42, 8, 188, 10, 181, 0, 44, 42, 8, 188, 10, 181, 0, 47, 42, 6, 188, 10, 181, 0, 50]
abbrev dktX0_init_2 : List UInt8 := dkwX0_init_2 ++ dktX0_init_3
def dkwX0_init_1 : List UInt8 := [181, 0, 31, 42, 6, 189, 0, 1, 181, 0, 34, 42, 16, 9, 188, 10, 181, 0, 38, 42, 16, 18, 188, 10]
abbrev dktX0_init_1 : List UInt8 := dkwX0_init_1 ++ dktX0_init_2
def dkwX0_init_0 : List UInt8 := [42, 183, 0, 19, 42, 8, 188, 10, 181, 0, 24, 42, 8, 188, 10, 181, 0, 28, 42, 6, 188, 10]
abbrev dktX0_init_0 : List UInt8 := dkwX0_init_0 ++ dktX0_init_1
theorem dksX0_init_0 : cX0_init.data.toList.drop 0 = dktX0_init_0 := by decide +kernel
theorem dksX0_init_1 : cX0_init.data.toList.drop 22 = dktX0_init_1 := dk_seg dksX0_init_0 22 rfl rfl
theorem dksX0_init_2 : cX0_init.data.toList.drop 46 = dktX0_init_2 := dk_seg dksX0_init_1 24 rfl rfl
theorem dksX0_init_3 : cX0_init.data.toList.drop 70 = dktX0_init_3 := dk_seg dksX0_init_2 24 rfl rfl
theorem dksX0_init_4 : cX0_init.data.toList.drop 94 = dktX0_init_4 := dk_seg dksX0_init_3 24 rfl rfl
theorem dksX0_init_5 : cX0_init.data.toList.drop 118 = dktX0_init_5 := dk_seg dksX0_init_4 24 rfl rfl
theorem dksX0_init_6 : cX0_init.data.toList.drop 141 = dktX0_init_6 := dk_seg dksX0_init_5 23 rfl rfl
theorem dksX0_init_7 : cX0_init.data.toList.drop 164 = dktX0_init_7 := dk_seg dksX0_init_6 23 rfl rfl
theorem dX0_init_0 : decode cX0_init 0 = .ok (.aload_n 0, 1) := dk_42 (dk_at dksX0_init_0 0 rfl rfl)
theorem dX0_init_1 : decode cX0_init 1 = .ok (.invokespecial 19, 3) := dk_183 0 19 (dk_at dksX0_init_0 1 rfl rfl)
theorem dX0_init_4 : decode cX0_init 4 = .ok (.aload_n 0, 1) := dk_42 (dk_at dksX0_init_0 4 rfl rfl)
theorem dX0_init_5 : decode cX0_init 5 = .ok (.iconst 5, 1) := dk_8 (dk_at dksX0_init_0 5 rfl rfl)
theorem dX0_init_6 : decode cX0_init 6 = .ok (.newarray .int, 2) := dk_188_10 (dk_at dksX0_init_0 6 rfl rfl)
theorem dX0_init_8 : decode cX0_init 8 = .ok (.putfield 24, 3) := dk_181 0 24 (dk_at dksX0_init_0 8 rfl rfl)
theorem dX0_init_11 : decode cX0_init 11 = .ok (.aload_n 0, 1) := dk_42 (dk_at dksX0_init_0 11 rfl rfl)
theorem dX0_init_12 : decode cX0_init 12 = .ok (.iconst 5, 1) := dk_8 (dk_at dksX0_init_0 12 rfl rfl)
theorem dX0_init_13 : decode cX0_init 13 = .ok (.newarray .int, 2) := dk_188_10 (dk_at dksX0_init_0 13 rfl rfl)
theorem dX0_init_15 : decode cX0_init 15 = .ok (.putfield 28, 3) := dk_181 0 28 (dk_at dksX0_init_0 15 rfl rfl)
theorem dX0_init_18 : decode cX0_init 18 = .ok (.aload_n 0, 1) := dk_42 (dk_at dksX0_init_0 18 rfl rfl)
theorem dX0_init_19 : decode cX0_init 19 = .ok (.iconst 3, 1) := dk_6 (dk_at dksX0_init_0 19 rfl rfl)
theorem dX0_init_20 : decode cX0_init 20 = .ok (.newarray .int, 2) := dk_188_10 (dk_at dksX0_init_0 20 rfl rfl)
theorem dX0_init_22 : decode cX0_init 22 = .ok (.putfield 31, 3) := dk_181 0 31 (dk_at dksX0_init_1 0 rfl rfl)
theorem dX0_init_25 : decode cX0_init 25 = .ok (.aload_n 0, 1) := dk_42 (dk_at dksX0_init_1 3 rfl rfl)
theorem dX0_init_26 : decode cX0_init 26 = .ok (.iconst 3, 1) := dk_6 (dk_at dksX0_init_1 4 rfl rfl)
theorem dX0_init_27 : decode cX0_init 27 = .ok (.anewarray 1, 3) := dk_189 0 1 (dk_at dksX0_init_1 5 rfl rfl)
theorem dX0_init_30 : decode cX0_init 30 = .ok (.putfield 34, 3) := dk_181 0 34 (dk_at dksX0_init_1 8 rfl rfl)
theorem dX0_init_33 : decode cX0_init 33 = .ok (.aload_n 0, 1) := dk_42 (dk_at dksX0_init_1 11 rfl rfl)
theorem dX0_init_34 : decode cX0_init 34 = .ok (.bipush 9, 2) := dk_16 9 (dk_at dksX0_init_1 12 rfl rfl)
theorem dX0_init_36 : decode cX0_init 36 = .ok (.newarray .int, 2) := dk_188_10 (dk_at dksX0_init_1 14 rfl rfl)
theorem dX0_init_38 : decode cX0_init 38 = .ok (.putfield 38, 3) := dk_181 0 38 (dk_at dksX0_init_1 16 rfl rfl)
theorem dX0_init_41 : decode cX0_init 41 = .ok (.aload_n 0, 1) := dk_42 (dk_at dksX0_init_1 19 rfl rfl)
theorem dX0_init_42 : decode cX0_init 42 = .ok (.bipush 18, 2) := dk_16 18 (dk_at dksX0_init_1 20 rfl rfl)
theorem dX0_init_44 : decode cX0_init 44 = .ok (.newarray .int, 2) := dk_188_10 (dk_at dksX0_init_1 22 rfl rfl)
theorem dX0_init_46 : decode cX0_init 46 = .ok (.putfield 41, 3) := dk_181 0 41 (dk_at dksX0_init_2 0 rfl rfl)
theorem dX0_init_49 : decode cX0_init 49 = .ok (.aload_n 0, 1) := dk_42 (dk_at dksX0_init_2 3 rfl rfl)
theorem dX0_init_50 : decode cX0_init 50 = .ok (.iconst 5, 1) := dk_8 (dk_at dksX0_init_2 4 rfl rfl)
theorem dX0_init_51 : decode cX0_init 51 = .ok (.newarray .int, 2) := dk_188_10 (dk_at dksX0_init_2 5 rfl rfl)
theorem dX0_init_53 : decode cX0_init 53 = .ok (.putfield 44, 3) := dk_181 0 44 (dk_at dksX0_init_2 7 rfl rfl)
theorem dX0_init_56 : decode cX0_init 56 = .ok (.aload_n 0, 1) := dk_42 (dk_at dksX0_init_2 10 rfl rfl)
theorem dX0_init_57 : decode cX0_init 57 = .ok (.iconst 5, 1) := dk_8 (dk_at dksX0_init_2 11 rfl rfl)
theorem dX0_init_58 : decode cX0_init 58 = .ok (.newarray .int, 2) := dk_188_10 (dk_at dksX0_init_2 12 rfl rfl)
theorem dX0_init_60 : decode cX0_init 60 = .ok (.putfield 47, 3) := dk_181 0 47 (dk_at dksX0_init_2 14 rfl rfl)
theorem dX0_init_63 : decode cX0_init 63 = .ok (.aload_n 0, 1) := dk_42 (dk_at dksX0_init_2 17 rfl rfl)
theorem dX0_init_64 : decode cX0_init 64 = .ok (.iconst 3, 1) := dk_6 (dk_at dksX0_init_2 18 rfl rfl)
theorem dX0_init_65 : decode cX0_init 65 = .ok (.newarray .int, 2) := dk_188_10 (dk_at dksX0_init_2 19 rfl rfl)
theorem dX0_init_67 : decode cX0_init 67 = .ok (.putfield 50, 3) := dk_181 0 50 (dk_at dksX0_init_2 21 rfl rfl)
theorem dX0_init_70 : decode cX0_init 70 = .ok (.aload_n 0, 1) := dk_42 (dk_at dksX0_init_3 0 rfl rfl)
theorem dX0_init_71 : decode cX0_init 71 = .ok (.iconst 3, 1) := dk_6 (dk_at dksX0_init_3 1 rfl rfl)
theorem dX0_init_72 : decode cX0_init 72 = .ok (.newarray .int, 2) := dk_188_10 (dk_at dksX0_init_3 2 rfl rfl)
theorem dX0_init_74 : decode cX0_init 74 = .ok (.putfield 53, 3) := dk_181 0 53 (dk_at dksX0_init_3 4 rfl rfl)
theorem dX0_init_77 : decode cX0_init 77 = .ok (.aload_n 0, 1) := dk_42 (dk_at dksX0_init_3 7 rfl rfl)
theorem dX0_init_78 : decode cX0_init 78 = .ok (.bipush 6, 2) := dk_16 6 (dk_at dksX0_init_3 8 rfl rfl)
theorem dX0_init_80 : decode cX0_init 80 = .ok (.newarray .int, 2) := dk_188_10 (dk_at dksX0_init_3 10 rfl rfl)
theorem dX0_init_82 : decode cX0_init 82 = .ok (.putfield 56, 3) := dk_181 0 56 (dk_at dksX0_init_3 12 rfl rfl)
theorem dX0_init_85 : decode cX0_init 85 = .ok (.aload_n 0, 1) := dk_42 (dk_at dksX0_init_3 15 rfl rfl)
theorem dX0_init_86 : decode cX0_init 86 = .ok (.bipush 6, 2) := dk_16 6 (dk_at dksX0_init_3 16 rfl rfl)
theorem dX0_init_88 : decode cX0_init 88 = .ok (.newarray .int, 2) := dk_188_10 (dk_at dksX0_init_3 18 rfl rfl)
theorem dX0_init_90 : decode cX0_init 90 = .ok (.putfield 59, 3) := dk_181 0 59 (dk_at dksX0_init_3 20 rfl rfl)
theorem dX0_init_93 : decode cX0_init 93 = .ok (.aload_n 0, 1) := dk_42 (dk_at dksX0_init_3 23 rfl rfl)
theorem dX0_init_94 : decode cX0_init 94 = .ok (.bipush 6, 2) := dk_16 6 (dk_at dksX0_init_4 0 rfl rfl)
theorem dX0_init_96 : decode cX0_init 96 = .ok (.newarray .boolean, 2) := dk_188_4 (dk_at dksX0_init_4 2 rfl rfl)
theorem dX0_init_98 : decode cX0_init 98 = .ok (.putfield 62, 3) := dk_181 0 62 (dk_at dksX0_init_4 4 rfl rfl)
theorem dX0_init_101 : decode cX0_init 101 = .ok (.aload_n 0, 1) := dk_42 (dk_at dksX0_init_4 7 rfl rfl)
theorem dX0_init_102 : decode cX0_init 102 = .ok (.bipush 9, 2) := dk_16 9 (dk_at dksX0_init_4 8 rfl rfl)
theorem dX0_init_104 : decode cX0_init 104 = .ok (.newarray .int, 2) := dk_188_10 (dk_at dksX0_init_4 10 rfl rfl)
theorem dX0_init_106 : decode cX0_init 106 = .ok (.putfield 66, 3) := dk_181 0 66 (dk_at dksX0_init_4 12 rfl rfl)
theorem dX0_init_109 : decode cX0_init 109 = .ok (.aload_n 0, 1) := dk_42 (dk_at dksX0_init_4 15 rfl rfl)
theorem dX0_init_110 : decode cX0_init 110 = .ok (.iconst 3, 1) := dk_6 (dk_at dksX0_init_4 16 rfl rfl)
theorem dX0_init_111 : decode cX0_init 111 = .ok (.newarray .int, 2) := dk_188_10 (dk_at dksX0_init_4 17 rfl rfl)
theorem dX0_init_113 : decode cX0_init 113 = .ok (.putfield 69, 3) := dk_181 0 69 (dk_at dksX0_init_4 19 rfl rfl)
theorem dX0_init_116 : decode cX0_init 116 = .ok (.aload_n 0, 1) := dk_42 (dk_at dksX0_init_4 22 rfl rfl)
theorem dX0_init_117 : decode cX0_init 117 = .ok (.iconst 3, 1) := dk_6 (dk_at dksX0_init_4 23 rfl rfl)
theorem dX0_init_118 : decode cX0_init 118 = .ok (.newarray .int, 2) := dk_188_10 (dk_at dksX0_init_5 0 rfl rfl)
theorem dX0_init_120 : decode cX0_init 120 = .ok (.putfield 72, 3) := dk_181 0 72 (dk_at dksX0_init_5 2 rfl rfl)
theorem dX0_init_123 : decode cX0_init 123 = .ok (.aload_n 0, 1) := dk_42 (dk_at dksX0_init_5 5 rfl rfl)
theorem dX0_init_124 : decode cX0_init 124 = .ok (.bipush 9, 2) := dk_16 9 (dk_at dksX0_init_5 6 rfl rfl)
theorem dX0_init_126 : decode cX0_init 126 = .ok (.newarray .int, 2) := dk_188_10 (dk_at dksX0_init_5 8 rfl rfl)
theorem dX0_init_128 : decode cX0_init 128 = .ok (.putfield 75, 3) := dk_181 0 75 (dk_at dksX0_init_5 10 rfl rfl)
theorem dX0_init_131 : decode cX0_init 131 = .ok (.aload_n 0, 1) := dk_42 (dk_at dksX0_init_5 13 rfl rfl)
theorem dX0_init_132 : decode cX0_init 132 = .ok (.iconst 3, 1) := dk_6 (dk_at dksX0_init_5 14 rfl rfl)
theorem dX0_init_133 : decode cX0_init 133 = .ok (.newarray .int, 2) := dk_188_10 (dk_at dksX0_init_5 15 rfl rfl)
theorem dX0_init_135 : decode cX0_init 135 = .ok (.putfield 78, 3) := dk_181 0 78 (dk_at dksX0_init_5 17 rfl rfl)
theorem dX0_init_138 : decode cX0_init 138 = .ok (.aload_n 0, 1) := dk_42 (dk_at dksX0_init_5 20 rfl rfl)
theorem dX0_init_139 : decode cX0_init 139 = .ok (.bipush 6, 2) := dk_16 6 (dk_at dksX0_init_5 21 rfl rfl)
theorem dX0_init_141 : decode cX0_init 141 = .ok (.newarray .int, 2) := dk_188_10 (dk_at dksX0_init_6 0 rfl rfl)
theorem dX0_init_143 : decode cX0_init 143 = .ok (.putfield 81, 3) := dk_181 0 81 (dk_at dksX0_init_6 2 rfl rfl)
theorem dX0_init_146 : decode cX0_init 146 = .ok (.aload_n 0, 1) := dk_42 (dk_at dksX0_init_6 5 rfl rfl)
theorem dX0_init_147 : decode cX0_init 147 = .ok (.bipush 6, 2) := dk_16 6 (dk_at dksX0_init_6 6 rfl rfl)
theorem dX0_init_149 : decode cX0_init 149 = .ok (.newarray .int, 2) := dk_188_10 (dk_at dksX0_init_6 8 rfl rfl)
theorem dX0_init_151 : decode cX0_init 151 = .ok (.putfield 84, 3) := dk_181 0 84 (dk_at dksX0_init_6 10 rfl rfl)
theorem dX0_init_154 : decode cX0_init 154 = .ok (.aload_n 0, 1) := dk_42 (dk_at dksX0_init_6 13 rfl rfl)
theorem dX0_init_155 : decode cX0_init 155 = .ok (.bipush 6, 2) := dk_16 6 (dk_at dksX0_init_6 14 rfl rfl)
theorem dX0_init_157 : decode cX0_init 157 = .ok (.newarray .boolean, 2) := dk_188_4 (dk_at dksX0_init_6 16 rfl rfl)
theorem dX0_init_159 : decode cX0_init 159 = .ok (.putfield 87, 3) := dk_181 0 87 (dk_at dksX0_init_6 18 rfl rfl)
theorem dX0_init_162 : decode cX0_init 162 = .ok (.aload_n 0, 1) := dk_42 (dk_at dksX0_init_6 21 rfl rfl)
theorem dX0_init_163 : decode cX0_init 163 = .ok (.iconst (-1), 1) := dk_2 (dk_at dksX0_init_6 22 rfl rfl)
theorem dX0_init_164 : decode cX0_init 164 = .ok (.putfield 90, 3) := dk_181 0 90 (dk_at dksX0_init_7 0 rfl rfl)
theorem dX0_init_167 : decode cX0_init 167 = .ok (.return_, 1) := dk_177 (dk_at dksX0_init_7 3 rfl rfl)
abbrev cX0_letter : ByteArray := prog_1_method_5_code
def yX0_letter : MethodName := ⟨RX0, "letter", "(I)I"⟩
def dkwX0_letter_2 : List UInt8 := [181, 0, 102, 42, 180, 0, 102, 172]
abbrev dktX0_letter_2 : List UInt8 := dkwX0_letter_2 ++ []
def dkwX0_letter_1 : List UInt8 := [160, 0, 6, 16, 152, 172, 42, 180, 0, 41, 42, 180, 0, 102, 27, 79, 42, 89, 180, 0, 102, 4, 96]
abbrev dktX0_letter_1 : List UInt8 := dkwX0_letter_1 ++ dktX0_letter_2
def dkwX0_letter_0 : List UInt8 := [27, 133, 20, 0, 94, 20, 0, 96, 184, 0, 98, 154, 0, 6, 16, 154, 172, 42, 180, 0, 102, 16, 18]
abbrev dktX0_letter_0 : List UInt8 := dkwX0_letter_0 ++ dktX0_letter_1
theorem dksX0_letter_0 : cX0_letter.data.toList.drop 0 = dktX0_letter_0 := by decide +kernel
theorem dksX0_letter_1 : cX0_letter.data.toList.drop 23 = dktX0_letter_1 := dk_seg dksX0_letter_0 23 rfl rfl
theorem dksX0_letter_2 : cX0_letter.data.toList.drop 46 = dktX0_letter_2 := dk_seg dksX0_letter_1 23 rfl rfl
theorem dX0_letter_0 : decode cX0_letter 0 = .ok (.iload_n 1, 1) := dk_27 (dk_at dksX0_letter_0 0 rfl rfl)
theorem dX0_letter_1 : decode cX0_letter 1 = .ok (.i2l, 1) := dk_133 (dk_at dksX0_letter_0 1 rfl rfl)
theorem dX0_letter_2 : decode cX0_letter 2 = .ok (.ldc2_w 94, 3) := dk_20 0 94 (dk_at dksX0_letter_0 2 rfl rfl)
theorem dX0_letter_5 : decode cX0_letter 5 = .ok (.ldc2_w 96, 3) := dk_20 0 96 (dk_at dksX0_letter_0 5 rfl rfl)
theorem dX0_letter_8 : decode cX0_letter 8 = .ok (.invokestatic 98, 3) := dk_184 0 98 (dk_at dksX0_letter_0 8 rfl rfl)
theorem dX0_letter_11 : decode cX0_letter 11 = .ok (.ifCond .ne 6, 3) := dk_154 0 6 (dk_at dksX0_letter_0 11 rfl rfl)
theorem dX0_letter_14 : decode cX0_letter 14 = .ok (.bipush (-102), 2) := dk_16 154 (dk_at dksX0_letter_0 14 rfl rfl)
theorem dX0_letter_16 : decode cX0_letter 16 = .ok (.ireturn, 1) := dk_172 (dk_at dksX0_letter_0 16 rfl rfl)
theorem dX0_letter_17 : decode cX0_letter 17 = .ok (.aload_n 0, 1) := dk_42 (dk_at dksX0_letter_0 17 rfl rfl)
theorem dX0_letter_18 : decode cX0_letter 18 = .ok (.getfield 102, 3) := dk_180 0 102 (dk_at dksX0_letter_0 18 rfl rfl)
theorem dX0_letter_21 : decode cX0_letter 21 = .ok (.bipush 18, 2) := dk_16 18 (dk_at dksX0_letter_0 21 rfl rfl)
theorem dX0_letter_23 : decode cX0_letter 23 = .ok (.if_icmp .ne 6, 3) := dk_160 0 6 (dk_at dksX0_letter_1 0 rfl rfl)
theorem dX0_letter_26 : decode cX0_letter 26 = .ok (.bipush (-104), 2) := dk_16 152 (dk_at dksX0_letter_1 3 rfl rfl)
theorem dX0_letter_28 : decode cX0_letter 28 = .ok (.ireturn, 1) := dk_172 (dk_at dksX0_letter_1 5 rfl rfl)
theorem dX0_letter_29 : decode cX0_letter 29 = .ok (.aload_n 0, 1) := dk_42 (dk_at dksX0_letter_1 6 rfl rfl)
theorem dX0_letter_30 : decode cX0_letter 30 = .ok (.getfield 41, 3) := dk_180 0 41 (dk_at dksX0_letter_1 7 rfl rfl)
theorem dX0_letter_33 : decode cX0_letter 33 = .ok (.aload_n 0, 1) := dk_42 (dk_at dksX0_letter_1 10 rfl rfl)
theorem dX0_letter_34 : decode cX0_letter 34 = .ok (.getfield 102, 3) := dk_180 0 102 (dk_at dksX0_letter_1 11 rfl rfl)
theorem dX0_letter_37 : decode cX0_letter 37 = .ok (.iload_n 1, 1) := dk_27 (dk_at dksX0_letter_1 14 rfl rfl)
theorem dX0_letter_38 : decode cX0_letter 38 = .ok (.iastore, 1) := dk_79 (dk_at dksX0_letter_1 15 rfl rfl)
theorem dX0_letter_39 : decode cX0_letter 39 = .ok (.aload_n 0, 1) := dk_42 (dk_at dksX0_letter_1 16 rfl rfl)
theorem dX0_letter_40 : decode cX0_letter 40 = .ok (.dup, 1) := dk_89 (dk_at dksX0_letter_1 17 rfl rfl)
theorem dX0_letter_41 : decode cX0_letter 41 = .ok (.getfield 102, 3) := dk_180 0 102 (dk_at dksX0_letter_1 18 rfl rfl)
theorem dX0_letter_44 : decode cX0_letter 44 = .ok (.iconst 1, 1) := dk_4 (dk_at dksX0_letter_1 21 rfl rfl)
theorem dX0_letter_45 : decode cX0_letter 45 = .ok (.iadd, 1) := dk_96 (dk_at dksX0_letter_1 22 rfl rfl)
theorem dX0_letter_46 : decode cX0_letter 46 = .ok (.putfield 102, 3) := dk_181 0 102 (dk_at dksX0_letter_2 0 rfl rfl)
theorem dX0_letter_49 : decode cX0_letter 49 = .ok (.aload_n 0, 1) := dk_42 (dk_at dksX0_letter_2 3 rfl rfl)
theorem dX0_letter_50 : decode cX0_letter 50 = .ok (.getfield 102, 3) := dk_180 0 102 (dk_at dksX0_letter_2 4 rfl rfl)
theorem dX0_letter_53 : decode cX0_letter 53 = .ok (.ireturn, 1) := dk_172 (dk_at dksX0_letter_2 7 rfl rfl)
abbrev cX0_isIn : ByteArray := prog_1_method_1_code
def yX0_isIn : MethodName := ⟨RX0, "isIn", "(JJJ)Z"⟩
def dkwX0_isIn_0 : List UInt8 := [30, 32, 148, 155, 0, 14, 30, 22, 4, 148, 157, 0, 7, 4, 167, 0, 4, 3, 172]
abbrev dktX0_isIn_0 : List UInt8 := dkwX0_isIn_0 ++ []
theorem dksX0_isIn_0 : cX0_isIn.data.toList.drop 0 = dktX0_isIn_0 := by decide +kernel
theorem dX0_isIn_0 : decode cX0_isIn 0 = .ok (.lload_n 0, 1) := dk_30 (dk_at dksX0_isIn_0 0 rfl rfl)
theorem dX0_isIn_1 : decode cX0_isIn 1 = .ok (.lload_n 2, 1) := dk_32 (dk_at dksX0_isIn_0 1 rfl rfl)
theorem dX0_isIn_2 : decode cX0_isIn 2 = .ok (.lcmp, 1) := dk_148 (dk_at dksX0_isIn_0 2 rfl rfl)
theorem dX0_isIn_3 : decode cX0_isIn 3 = .ok (.ifCond .lt 14, 3) := dk_155 0 14 (dk_at dksX0_isIn_0 3 rfl rfl)
theorem dX0_isIn_6 : decode cX0_isIn 6 = .ok (.lload_n 0, 1) := dk_30 (dk_at dksX0_isIn_0 6 rfl rfl)
theorem dX0_isIn_7 : decode cX0_isIn 7 = .ok (.lload 4, 2) := dk_22 4 (dk_at dksX0_isIn_0 7 rfl rfl)
theorem dX0_isIn_9 : decode cX0_isIn 9 = .ok (.lcmp, 1) := dk_148 (dk_at dksX0_isIn_0 9 rfl rfl)
theorem dX0_isIn_10 : decode cX0_isIn 10 = .ok (.ifCond .gt 7, 3) := dk_157 0 7 (dk_at dksX0_isIn_0 10 rfl rfl)
theorem dX0_isIn_13 : decode cX0_isIn 13 = .ok (.iconst 1, 1) := dk_4 (dk_at dksX0_isIn_0 13 rfl rfl)
theorem dX0_isIn_14 : decode cX0_isIn 14 = .ok (.goto 4, 3) := dk_167 0 4 (dk_at dksX0_isIn_0 14 rfl rfl)
theorem dX0_isIn_17 : decode cX0_isIn 17 = .ok (.iconst 0, 1) := dk_3 (dk_at dksX0_isIn_0 17 rfl rfl)
theorem dX0_isIn_18 : decode cX0_isIn 18 = .ok (.ireturn, 1) := dk_172 (dk_at dksX0_isIn_0 18 rfl rfl)
abbrev cX0_blank : ByteArray := prog_1_method_6_code
def yX0_blank : MethodName := ⟨RX0, "blank", "()I"⟩
def dkwX0_blank_0 : List UInt8 := [42, 180, 0, 102, 60, 42, 3, 181, 0, 102, 27, 172]
abbrev dktX0_blank_0 : List UInt8 := dkwX0_blank_0 ++ []
theorem dksX0_blank_0 : cX0_blank.data.toList.drop 0 = dktX0_blank_0 := by decide +kernel
theorem dX0_blank_0 : decode cX0_blank 0 = .ok (.aload_n 0, 1) := dk_42 (dk_at dksX0_blank_0 0 rfl rfl)
theorem dX0_blank_1 : decode cX0_blank 1 = .ok (.getfield 102, 3) := dk_180 0 102 (dk_at dksX0_blank_0 1 rfl rfl)
theorem dX0_blank_4 : decode cX0_blank 4 = .ok (.istore_n 1, 1) := dk_60 (dk_at dksX0_blank_0 4 rfl rfl)
theorem dX0_blank_5 : decode cX0_blank 5 = .ok (.aload_n 0, 1) := dk_42 (dk_at dksX0_blank_0 5 rfl rfl)
theorem dX0_blank_6 : decode cX0_blank 6 = .ok (.iconst 0, 1) := dk_3 (dk_at dksX0_blank_0 6 rfl rfl)
theorem dX0_blank_7 : decode cX0_blank 7 = .ok (.putfield 102, 3) := dk_181 0 102 (dk_at dksX0_blank_0 7 rfl rfl)
theorem dX0_blank_10 : decode cX0_blank 10 = .ok (.iload_n 1, 1) := dk_27 (dk_at dksX0_blank_0 10 rfl rfl)
theorem dX0_blank_11 : decode cX0_blank 11 = .ok (.ireturn, 1) := dk_172 (dk_at dksX0_blank_0 11 rfl rfl)
abbrev cX0_fault : ByteArray := prog_1_method_9_code
def yX0_fault : MethodName := ⟨RX0, "fault", "()I"⟩
def dkwX0_fault_4 : List UInt8 := [28, 172]
abbrev dktX0_fault_4 : List UInt8 := dkwX0_fault_4 ++ []
def dkwX0_fault_3 : List UInt8 := [180, 0, 41, 28, 46, 133, 20, 0, 119, 20, 0, 107, 184, 0, 98, 153, 0, 9, 28, 4, 96, 167, 0, 4]
abbrev dktX0_fault_3 : List UInt8 := dkwX0_fault_3 ++ dktX0_fault_4
def dkwX0_fault_2 : List UInt8 := [167, 255, 216, 27, 2, 159, 0, 43, 28, 27, 4, 96, 160, 0, 36, 28, 42, 180, 0, 102, 162, 0, 28, 42]
abbrev dktX0_fault_2 : List UInt8 := dkwX0_fault_2 ++ dktX0_fault_3
def dkwX0_fault_1 : List UInt8 := [159, 0, 8, 28, 27, 163, 0, 22, 28, 42, 180, 0, 41, 28, 46, 184, 0, 115, 153, 0, 9, 132, 2, 1]
abbrev dktX0_fault_1 : List UInt8 := dkwX0_fault_1 ++ dktX0_fault_2
def dkwX0_fault_0 : List UInt8 := [42, 182, 0, 111, 60, 3, 61, 28, 42, 180, 0, 102, 162, 0, 38, 28, 16, 15, 162, 0, 32, 27, 2]
abbrev dktX0_fault_0 : List UInt8 := dkwX0_fault_0 ++ dktX0_fault_1
theorem dksX0_fault_0 : cX0_fault.data.toList.drop 0 = dktX0_fault_0 := by decide +kernel
theorem dksX0_fault_1 : cX0_fault.data.toList.drop 23 = dktX0_fault_1 := dk_seg dksX0_fault_0 23 rfl rfl
theorem dksX0_fault_2 : cX0_fault.data.toList.drop 47 = dktX0_fault_2 := dk_seg dksX0_fault_1 24 rfl rfl
theorem dksX0_fault_3 : cX0_fault.data.toList.drop 71 = dktX0_fault_3 := dk_seg dksX0_fault_2 24 rfl rfl
theorem dksX0_fault_4 : cX0_fault.data.toList.drop 95 = dktX0_fault_4 := dk_seg dksX0_fault_3 24 rfl rfl
theorem dX0_fault_0 : decode cX0_fault 0 = .ok (.aload_n 0, 1) := dk_42 (dk_at dksX0_fault_0 0 rfl rfl)
theorem dX0_fault_1 : decode cX0_fault 1 = .ok (.invokevirtual 111, 3) := dk_182 0 111 (dk_at dksX0_fault_0 1 rfl rfl)
theorem dX0_fault_4 : decode cX0_fault 4 = .ok (.istore_n 1, 1) := dk_60 (dk_at dksX0_fault_0 4 rfl rfl)
theorem dX0_fault_5 : decode cX0_fault 5 = .ok (.iconst 0, 1) := dk_3 (dk_at dksX0_fault_0 5 rfl rfl)
theorem dX0_fault_6 : decode cX0_fault 6 = .ok (.istore_n 2, 1) := dk_61 (dk_at dksX0_fault_0 6 rfl rfl)
theorem dX0_fault_7 : decode cX0_fault 7 = .ok (.iload_n 2, 1) := dk_28 (dk_at dksX0_fault_0 7 rfl rfl)
theorem dX0_fault_8 : decode cX0_fault 8 = .ok (.aload_n 0, 1) := dk_42 (dk_at dksX0_fault_0 8 rfl rfl)
theorem dX0_fault_9 : decode cX0_fault 9 = .ok (.getfield 102, 3) := dk_180 0 102 (dk_at dksX0_fault_0 9 rfl rfl)
theorem dX0_fault_12 : decode cX0_fault 12 = .ok (.if_icmp .ge 38, 3) := dk_162 0 38 (dk_at dksX0_fault_0 12 rfl rfl)
theorem dX0_fault_15 : decode cX0_fault 15 = .ok (.iload_n 2, 1) := dk_28 (dk_at dksX0_fault_0 15 rfl rfl)
theorem dX0_fault_16 : decode cX0_fault 16 = .ok (.bipush 15, 2) := dk_16 15 (dk_at dksX0_fault_0 16 rfl rfl)
theorem dX0_fault_18 : decode cX0_fault 18 = .ok (.if_icmp .ge 32, 3) := dk_162 0 32 (dk_at dksX0_fault_0 18 rfl rfl)
theorem dX0_fault_21 : decode cX0_fault 21 = .ok (.iload_n 1, 1) := dk_27 (dk_at dksX0_fault_0 21 rfl rfl)
theorem dX0_fault_22 : decode cX0_fault 22 = .ok (.iconst (-1), 1) := dk_2 (dk_at dksX0_fault_0 22 rfl rfl)
theorem dX0_fault_23 : decode cX0_fault 23 = .ok (.if_icmp .eq 8, 3) := dk_159 0 8 (dk_at dksX0_fault_1 0 rfl rfl)
theorem dX0_fault_26 : decode cX0_fault 26 = .ok (.iload_n 2, 1) := dk_28 (dk_at dksX0_fault_1 3 rfl rfl)
theorem dX0_fault_27 : decode cX0_fault 27 = .ok (.iload_n 1, 1) := dk_27 (dk_at dksX0_fault_1 4 rfl rfl)
theorem dX0_fault_28 : decode cX0_fault 28 = .ok (.if_icmp .gt 22, 3) := dk_163 0 22 (dk_at dksX0_fault_1 5 rfl rfl)
theorem dX0_fault_31 : decode cX0_fault 31 = .ok (.iload_n 2, 1) := dk_28 (dk_at dksX0_fault_1 8 rfl rfl)
theorem dX0_fault_32 : decode cX0_fault 32 = .ok (.aload_n 0, 1) := dk_42 (dk_at dksX0_fault_1 9 rfl rfl)
theorem dX0_fault_33 : decode cX0_fault 33 = .ok (.getfield 41, 3) := dk_180 0 41 (dk_at dksX0_fault_1 10 rfl rfl)
theorem dX0_fault_36 : decode cX0_fault 36 = .ok (.iload_n 2, 1) := dk_28 (dk_at dksX0_fault_1 13 rfl rfl)
theorem dX0_fault_37 : decode cX0_fault 37 = .ok (.iaload, 1) := dk_46 (dk_at dksX0_fault_1 14 rfl rfl)
theorem dX0_fault_38 : decode cX0_fault 38 = .ok (.invokestatic 115, 3) := dk_184 0 115 (dk_at dksX0_fault_1 15 rfl rfl)
theorem dX0_fault_41 : decode cX0_fault 41 = .ok (.ifCond .eq 9, 3) := dk_153 0 9 (dk_at dksX0_fault_1 18 rfl rfl)
theorem dX0_fault_44 : decode cX0_fault 44 = .ok (.iinc 2 1, 3) := dk_132 2 1 (dk_at dksX0_fault_1 21 rfl rfl)
theorem dX0_fault_47 : decode cX0_fault 47 = .ok (.goto (-40), 3) := dk_167 255 216 (dk_at dksX0_fault_2 0 rfl rfl)
theorem dX0_fault_50 : decode cX0_fault 50 = .ok (.iload_n 1, 1) := dk_27 (dk_at dksX0_fault_2 3 rfl rfl)
theorem dX0_fault_51 : decode cX0_fault 51 = .ok (.iconst (-1), 1) := dk_2 (dk_at dksX0_fault_2 4 rfl rfl)
theorem dX0_fault_52 : decode cX0_fault 52 = .ok (.if_icmp .eq 43, 3) := dk_159 0 43 (dk_at dksX0_fault_2 5 rfl rfl)
theorem dX0_fault_55 : decode cX0_fault 55 = .ok (.iload_n 2, 1) := dk_28 (dk_at dksX0_fault_2 8 rfl rfl)
theorem dX0_fault_56 : decode cX0_fault 56 = .ok (.iload_n 1, 1) := dk_27 (dk_at dksX0_fault_2 9 rfl rfl)
theorem dX0_fault_57 : decode cX0_fault 57 = .ok (.iconst 1, 1) := dk_4 (dk_at dksX0_fault_2 10 rfl rfl)
theorem dX0_fault_58 : decode cX0_fault 58 = .ok (.iadd, 1) := dk_96 (dk_at dksX0_fault_2 11 rfl rfl)
theorem dX0_fault_59 : decode cX0_fault 59 = .ok (.if_icmp .ne 36, 3) := dk_160 0 36 (dk_at dksX0_fault_2 12 rfl rfl)
theorem dX0_fault_62 : decode cX0_fault 62 = .ok (.iload_n 2, 1) := dk_28 (dk_at dksX0_fault_2 15 rfl rfl)
theorem dX0_fault_63 : decode cX0_fault 63 = .ok (.aload_n 0, 1) := dk_42 (dk_at dksX0_fault_2 16 rfl rfl)
theorem dX0_fault_64 : decode cX0_fault 64 = .ok (.getfield 102, 3) := dk_180 0 102 (dk_at dksX0_fault_2 17 rfl rfl)
theorem dX0_fault_67 : decode cX0_fault 67 = .ok (.if_icmp .ge 28, 3) := dk_162 0 28 (dk_at dksX0_fault_2 20 rfl rfl)
theorem dX0_fault_70 : decode cX0_fault 70 = .ok (.aload_n 0, 1) := dk_42 (dk_at dksX0_fault_2 23 rfl rfl)
theorem dX0_fault_71 : decode cX0_fault 71 = .ok (.getfield 41, 3) := dk_180 0 41 (dk_at dksX0_fault_3 0 rfl rfl)
theorem dX0_fault_74 : decode cX0_fault 74 = .ok (.iload_n 2, 1) := dk_28 (dk_at dksX0_fault_3 3 rfl rfl)
theorem dX0_fault_75 : decode cX0_fault 75 = .ok (.iaload, 1) := dk_46 (dk_at dksX0_fault_3 4 rfl rfl)
theorem dX0_fault_76 : decode cX0_fault 76 = .ok (.i2l, 1) := dk_133 (dk_at dksX0_fault_3 5 rfl rfl)
theorem dX0_fault_77 : decode cX0_fault 77 = .ok (.ldc2_w 119, 3) := dk_20 0 119 (dk_at dksX0_fault_3 6 rfl rfl)
theorem dX0_fault_80 : decode cX0_fault 80 = .ok (.ldc2_w 107, 3) := dk_20 0 107 (dk_at dksX0_fault_3 9 rfl rfl)
theorem dX0_fault_83 : decode cX0_fault 83 = .ok (.invokestatic 98, 3) := dk_184 0 98 (dk_at dksX0_fault_3 12 rfl rfl)
theorem dX0_fault_86 : decode cX0_fault 86 = .ok (.ifCond .eq 9, 3) := dk_153 0 9 (dk_at dksX0_fault_3 15 rfl rfl)
theorem dX0_fault_89 : decode cX0_fault 89 = .ok (.iload_n 2, 1) := dk_28 (dk_at dksX0_fault_3 18 rfl rfl)
theorem dX0_fault_90 : decode cX0_fault 90 = .ok (.iconst 1, 1) := dk_4 (dk_at dksX0_fault_3 19 rfl rfl)
theorem dX0_fault_91 : decode cX0_fault 91 = .ok (.iadd, 1) := dk_96 (dk_at dksX0_fault_3 20 rfl rfl)
theorem dX0_fault_92 : decode cX0_fault 92 = .ok (.goto 4, 3) := dk_167 0 4 (dk_at dksX0_fault_3 21 rfl rfl)
theorem dX0_fault_95 : decode cX0_fault 95 = .ok (.iload_n 2, 1) := dk_28 (dk_at dksX0_fault_4 0 rfl rfl)
theorem dX0_fault_96 : decode cX0_fault 96 = .ok (.ireturn, 1) := dk_172 (dk_at dksX0_fault_4 1 rfl rfl)
abbrev cX0_endOfLessons : ByteArray := prog_1_method_7_code
def yX0_endOfLessons : MethodName := ⟨RX0, "endOfLessons", "()I"⟩
def dkwX0_endOfLessons_1 : List UInt8 := [180, 0, 41, 28, 46, 16, 59, 160, 0, 7, 28, 167, 0, 4, 27, 60, 132, 2, 3, 167, 255, 217, 27, 172]
abbrev dktX0_endOfLessons_1 : List UInt8 := dkwX0_endOfLessons_1 ++ []
def dkwX0_endOfLessons_0 : List UInt8 := [2, 60, 5, 61, 28, 16, 15, 162, 0, 39, 28, 42, 180, 0, 102, 162, 0, 31, 27, 2, 160, 0, 18, 42]
abbrev dktX0_endOfLessons_0 : List UInt8 := dkwX0_endOfLessons_0 ++ dktX0_endOfLessons_1
theorem dksX0_endOfLessons_0 : cX0_endOfLessons.data.toList.drop 0 = dktX0_endOfLessons_0 := by decide +kernel
theorem dksX0_endOfLessons_1 : cX0_endOfLessons.data.toList.drop 24 = dktX0_endOfLessons_1 := dk_seg dksX0_endOfLessons_0 24 rfl rfl
theorem dX0_endOfLessons_0 : decode cX0_endOfLessons 0 = .ok (.iconst (-1), 1) := dk_2 (dk_at dksX0_endOfLessons_0 0 rfl rfl)
theorem dX0_endOfLessons_1 : decode cX0_endOfLessons 1 = .ok (.istore_n 1, 1) := dk_60 (dk_at dksX0_endOfLessons_0 1 rfl rfl)
theorem dX0_endOfLessons_2 : decode cX0_endOfLessons 2 = .ok (.iconst 2, 1) := dk_5 (dk_at dksX0_endOfLessons_0 2 rfl rfl)
theorem dX0_endOfLessons_3 : decode cX0_endOfLessons 3 = .ok (.istore_n 2, 1) := dk_61 (dk_at dksX0_endOfLessons_0 3 rfl rfl)
theorem dX0_endOfLessons_4 : decode cX0_endOfLessons 4 = .ok (.iload_n 2, 1) := dk_28 (dk_at dksX0_endOfLessons_0 4 rfl rfl)
theorem dX0_endOfLessons_5 : decode cX0_endOfLessons 5 = .ok (.bipush 15, 2) := dk_16 15 (dk_at dksX0_endOfLessons_0 5 rfl rfl)
theorem dX0_endOfLessons_7 : decode cX0_endOfLessons 7 = .ok (.if_icmp .ge 39, 3) := dk_162 0 39 (dk_at dksX0_endOfLessons_0 7 rfl rfl)
theorem dX0_endOfLessons_10 : decode cX0_endOfLessons 10 = .ok (.iload_n 2, 1) := dk_28 (dk_at dksX0_endOfLessons_0 10 rfl rfl)
theorem dX0_endOfLessons_11 : decode cX0_endOfLessons 11 = .ok (.aload_n 0, 1) := dk_42 (dk_at dksX0_endOfLessons_0 11 rfl rfl)
theorem dX0_endOfLessons_12 : decode cX0_endOfLessons 12 = .ok (.getfield 102, 3) := dk_180 0 102 (dk_at dksX0_endOfLessons_0 12 rfl rfl)
theorem dX0_endOfLessons_15 : decode cX0_endOfLessons 15 = .ok (.if_icmp .ge 31, 3) := dk_162 0 31 (dk_at dksX0_endOfLessons_0 15 rfl rfl)
theorem dX0_endOfLessons_18 : decode cX0_endOfLessons 18 = .ok (.iload_n 1, 1) := dk_27 (dk_at dksX0_endOfLessons_0 18 rfl rfl)
theorem dX0_endOfLessons_19 : decode cX0_endOfLessons 19 = .ok (.iconst (-1), 1) := dk_2 (dk_at dksX0_endOfLessons_0 19 rfl rfl)
theorem dX0_endOfLessons_20 : decode cX0_endOfLessons 20 = .ok (.if_icmp .ne 18, 3) := dk_160 0 18 (dk_at dksX0_endOfLessons_0 20 rfl rfl)
theorem dX0_endOfLessons_23 : decode cX0_endOfLessons 23 = .ok (.aload_n 0, 1) := dk_42 (dk_at dksX0_endOfLessons_0 23 rfl rfl)
theorem dX0_endOfLessons_24 : decode cX0_endOfLessons 24 = .ok (.getfield 41, 3) := dk_180 0 41 (dk_at dksX0_endOfLessons_1 0 rfl rfl)
theorem dX0_endOfLessons_27 : decode cX0_endOfLessons 27 = .ok (.iload_n 2, 1) := dk_28 (dk_at dksX0_endOfLessons_1 3 rfl rfl)
theorem dX0_endOfLessons_28 : decode cX0_endOfLessons 28 = .ok (.iaload, 1) := dk_46 (dk_at dksX0_endOfLessons_1 4 rfl rfl)
theorem dX0_endOfLessons_29 : decode cX0_endOfLessons 29 = .ok (.bipush 59, 2) := dk_16 59 (dk_at dksX0_endOfLessons_1 5 rfl rfl)
theorem dX0_endOfLessons_31 : decode cX0_endOfLessons 31 = .ok (.if_icmp .ne 7, 3) := dk_160 0 7 (dk_at dksX0_endOfLessons_1 7 rfl rfl)
theorem dX0_endOfLessons_34 : decode cX0_endOfLessons 34 = .ok (.iload_n 2, 1) := dk_28 (dk_at dksX0_endOfLessons_1 10 rfl rfl)
theorem dX0_endOfLessons_35 : decode cX0_endOfLessons 35 = .ok (.goto 4, 3) := dk_167 0 4 (dk_at dksX0_endOfLessons_1 11 rfl rfl)
theorem dX0_endOfLessons_38 : decode cX0_endOfLessons 38 = .ok (.iload_n 1, 1) := dk_27 (dk_at dksX0_endOfLessons_1 14 rfl rfl)
theorem dX0_endOfLessons_39 : decode cX0_endOfLessons 39 = .ok (.istore_n 1, 1) := dk_60 (dk_at dksX0_endOfLessons_1 15 rfl rfl)
theorem dX0_endOfLessons_40 : decode cX0_endOfLessons 40 = .ok (.iinc 2 3, 3) := dk_132 2 3 (dk_at dksX0_endOfLessons_1 16 rfl rfl)
theorem dX0_endOfLessons_43 : decode cX0_endOfLessons 43 = .ok (.goto (-39), 3) := dk_167 255 217 (dk_at dksX0_endOfLessons_1 19 rfl rfl)
theorem dX0_endOfLessons_46 : decode cX0_endOfLessons 46 = .ok (.iload_n 1, 1) := dk_27 (dk_at dksX0_endOfLessons_1 22 rfl rfl)
theorem dX0_endOfLessons_47 : decode cX0_endOfLessons 47 = .ok (.ireturn, 1) := dk_172 (dk_at dksX0_endOfLessons_1 23 rfl rfl)
abbrev cX0_isLessonLetter : ByteArray := prog_1_method_8_code
def yX0_isLessonLetter : MethodName := ⟨RX0, "isLessonLetter", "(II)Z"⟩
def dkwX0_isLessonLetter_3 : List UInt8 := [27, 16, 59, 159, 0, 15, 27, 16, 44, 160, 0, 13, 26, 16, 14, 162, 0, 7, 4, 167, 0, 4, 3, 172]
abbrev dktX0_isLessonLetter_3 : List UInt8 := dkwX0_isLessonLetter_3 ++ []
def dkwX0_isLessonLetter_2 : List UInt8 := [27, 133, 20, 0, 105, 20, 0, 107, 184, 0, 98, 172, 27, 133, 20, 0, 105, 20, 0, 109, 184, 0, 98, 172]
abbrev dktX0_isLessonLetter_2 : List UInt8 := dkwX0_isLessonLetter_2 ++ dktX0_isLessonLetter_3
def dkwX0_isLessonLetter_1 : List UInt8 := [171, 0, 0, 0, 49, 0, 0, 0, 2, 0, 0, 0, 0, 0, 0, 0, 25, 0, 0, 0, 1, 0, 0, 0, 37]
abbrev dktX0_isLessonLetter_1 : List UInt8 := dkwX0_isLessonLetter_1 ++ dktX0_isLessonLetter_2
def dkwX0_isLessonLetter_0 : List UInt8 := [26, 6, 112]
abbrev dktX0_isLessonLetter_0 : List UInt8 := dkwX0_isLessonLetter_0 ++ dktX0_isLessonLetter_1
theorem dksX0_isLessonLetter_0 : cX0_isLessonLetter.data.toList.drop 0 = dktX0_isLessonLetter_0 := by decide +kernel
theorem dksX0_isLessonLetter_1 : cX0_isLessonLetter.data.toList.drop 3 = dktX0_isLessonLetter_1 := dk_seg dksX0_isLessonLetter_0 3 rfl rfl
theorem dksX0_isLessonLetter_2 : cX0_isLessonLetter.data.toList.drop 28 = dktX0_isLessonLetter_2 := dk_seg dksX0_isLessonLetter_1 25 rfl rfl
theorem dksX0_isLessonLetter_3 : cX0_isLessonLetter.data.toList.drop 52 = dktX0_isLessonLetter_3 := dk_seg dksX0_isLessonLetter_2 24 rfl rfl
theorem dX0_isLessonLetter_0 : decode cX0_isLessonLetter 0 = .ok (.iload_n 0, 1) := dk_26 (dk_at dksX0_isLessonLetter_0 0 rfl rfl)
theorem dX0_isLessonLetter_1 : decode cX0_isLessonLetter 1 = .ok (.iconst 3, 1) := dk_6 (dk_at dksX0_isLessonLetter_0 1 rfl rfl)
theorem dX0_isLessonLetter_2 : decode cX0_isLessonLetter 2 = .ok (.irem, 1) := dk_112 (dk_at dksX0_isLessonLetter_0 2 rfl rfl)
theorem dX0_isLessonLetter_3 : decode cX0_isLessonLetter 3 = .ok (.lookupswitch 49 #[(0, 25), (1, 37)], 25) := by decide +kernel
theorem dX0_isLessonLetter_28 : decode cX0_isLessonLetter 28 = .ok (.iload_n 1, 1) := dk_27 (dk_at dksX0_isLessonLetter_2 0 rfl rfl)
theorem dX0_isLessonLetter_29 : decode cX0_isLessonLetter 29 = .ok (.i2l, 1) := dk_133 (dk_at dksX0_isLessonLetter_2 1 rfl rfl)
theorem dX0_isLessonLetter_30 : decode cX0_isLessonLetter 30 = .ok (.ldc2_w 105, 3) := dk_20 0 105 (dk_at dksX0_isLessonLetter_2 2 rfl rfl)
theorem dX0_isLessonLetter_33 : decode cX0_isLessonLetter 33 = .ok (.ldc2_w 107, 3) := dk_20 0 107 (dk_at dksX0_isLessonLetter_2 5 rfl rfl)
theorem dX0_isLessonLetter_36 : decode cX0_isLessonLetter 36 = .ok (.invokestatic 98, 3) := dk_184 0 98 (dk_at dksX0_isLessonLetter_2 8 rfl rfl)
theorem dX0_isLessonLetter_39 : decode cX0_isLessonLetter 39 = .ok (.ireturn, 1) := dk_172 (dk_at dksX0_isLessonLetter_2 11 rfl rfl)
theorem dX0_isLessonLetter_40 : decode cX0_isLessonLetter 40 = .ok (.iload_n 1, 1) := dk_27 (dk_at dksX0_isLessonLetter_2 12 rfl rfl)
theorem dX0_isLessonLetter_41 : decode cX0_isLessonLetter 41 = .ok (.i2l, 1) := dk_133 (dk_at dksX0_isLessonLetter_2 13 rfl rfl)
theorem dX0_isLessonLetter_42 : decode cX0_isLessonLetter 42 = .ok (.ldc2_w 105, 3) := dk_20 0 105 (dk_at dksX0_isLessonLetter_2 14 rfl rfl)
theorem dX0_isLessonLetter_45 : decode cX0_isLessonLetter 45 = .ok (.ldc2_w 109, 3) := dk_20 0 109 (dk_at dksX0_isLessonLetter_2 17 rfl rfl)
theorem dX0_isLessonLetter_48 : decode cX0_isLessonLetter 48 = .ok (.invokestatic 98, 3) := dk_184 0 98 (dk_at dksX0_isLessonLetter_2 20 rfl rfl)
theorem dX0_isLessonLetter_51 : decode cX0_isLessonLetter 51 = .ok (.ireturn, 1) := dk_172 (dk_at dksX0_isLessonLetter_2 23 rfl rfl)
theorem dX0_isLessonLetter_52 : decode cX0_isLessonLetter 52 = .ok (.iload_n 1, 1) := dk_27 (dk_at dksX0_isLessonLetter_3 0 rfl rfl)
theorem dX0_isLessonLetter_53 : decode cX0_isLessonLetter 53 = .ok (.bipush 59, 2) := dk_16 59 (dk_at dksX0_isLessonLetter_3 1 rfl rfl)
theorem dX0_isLessonLetter_55 : decode cX0_isLessonLetter 55 = .ok (.if_icmp .eq 15, 3) := dk_159 0 15 (dk_at dksX0_isLessonLetter_3 3 rfl rfl)
theorem dX0_isLessonLetter_58 : decode cX0_isLessonLetter 58 = .ok (.iload_n 1, 1) := dk_27 (dk_at dksX0_isLessonLetter_3 6 rfl rfl)
theorem dX0_isLessonLetter_59 : decode cX0_isLessonLetter 59 = .ok (.bipush 44, 2) := dk_16 44 (dk_at dksX0_isLessonLetter_3 7 rfl rfl)
theorem dX0_isLessonLetter_61 : decode cX0_isLessonLetter 61 = .ok (.if_icmp .ne 13, 3) := dk_160 0 13 (dk_at dksX0_isLessonLetter_3 9 rfl rfl)
theorem dX0_isLessonLetter_64 : decode cX0_isLessonLetter 64 = .ok (.iload_n 0, 1) := dk_26 (dk_at dksX0_isLessonLetter_3 12 rfl rfl)
theorem dX0_isLessonLetter_65 : decode cX0_isLessonLetter 65 = .ok (.bipush 14, 2) := dk_16 14 (dk_at dksX0_isLessonLetter_3 13 rfl rfl)
theorem dX0_isLessonLetter_67 : decode cX0_isLessonLetter 67 = .ok (.if_icmp .ge 7, 3) := dk_162 0 7 (dk_at dksX0_isLessonLetter_3 15 rfl rfl)
theorem dX0_isLessonLetter_70 : decode cX0_isLessonLetter 70 = .ok (.iconst 1, 1) := dk_4 (dk_at dksX0_isLessonLetter_3 18 rfl rfl)
theorem dX0_isLessonLetter_71 : decode cX0_isLessonLetter 71 = .ok (.goto 4, 3) := dk_167 0 4 (dk_at dksX0_isLessonLetter_3 19 rfl rfl)
theorem dX0_isLessonLetter_74 : decode cX0_isLessonLetter 74 = .ok (.iconst 0, 1) := dk_3 (dk_at dksX0_isLessonLetter_3 22 rfl rfl)
theorem dX0_isLessonLetter_75 : decode cX0_isLessonLetter 75 = .ok (.ireturn, 1) := dk_172 (dk_at dksX0_isLessonLetter_3 23 rfl rfl)
abbrev cX0_school : ByteArray := prog_1_method_10_code
def yX0_school : MethodName := ⟨RX0, "school", "()I"⟩
def dkwX0_school_6 : List UInt8 := [89, 180, 0, 136, 4, 96, 181, 0, 136, 42, 3, 181, 0, 102, 42, 180, 0, 124, 172]
abbrev dktX0_school_6 : List UInt8 := dkwX0_school_6 ++ []
def dkwX0_school_5 : List UInt8 := [180, 0, 41, 27, 4, 96, 46, 16, 48, 100, 181, 0, 127, 42, 3, 181, 0, 130, 42, 3, 181, 0, 133, 42]
abbrev dktX0_school_5 : List UInt8 := dkwX0_school_5 ++ dktX0_school_6
def dkwX0_school_4 : List UInt8 := [3, 61, 28, 6, 162, 0, 16, 42, 180, 0, 31, 28, 3, 79, 132, 2, 1, 167, 255, 241, 42, 42]
abbrev dktX0_school_4 : List UInt8 := dkwX0_school_4 ++ dktX0_school_5
def dkwX0_school_3 : List UInt8 := [180, 0, 28, 28, 42, 180, 0, 41, 6, 28, 104, 4, 96, 46, 16, 48, 100, 79, 132, 2, 1, 167, 255, 209]
abbrev dktX0_school_3 : List UInt8 := dkwX0_school_3 ++ dktX0_school_4
def dkwX0_school_2 : List UInt8 := [180, 0, 124, 162, 0, 45, 42, 180, 0, 24, 28, 42, 180, 0, 41, 6, 28, 104, 46, 16, 48, 100, 79, 42]
abbrev dktX0_school_2 : List UInt8 := dkwX0_school_2 ++ dktX0_school_3
def dkwX0_school_1 : List UInt8 := [42, 180, 0, 102, 162, 0, 6, 16, 153, 172, 42, 27, 4, 96, 6, 108, 181, 0, 124, 3, 61, 28, 42]
abbrev dktX0_school_1 : List UInt8 := dkwX0_school_1 ++ dktX0_school_2
def dkwX0_school_0 : List UInt8 := [42, 182, 0, 111, 60, 27, 2, 159, 0, 24, 42, 180, 0, 102, 27, 5, 96, 160, 0, 14, 42, 182, 0, 121]
abbrev dktX0_school_0 : List UInt8 := dkwX0_school_0 ++ dktX0_school_1
theorem dksX0_school_0 : cX0_school.data.toList.drop 0 = dktX0_school_0 := by decide +kernel
theorem dksX0_school_1 : cX0_school.data.toList.drop 24 = dktX0_school_1 := dk_seg dksX0_school_0 24 rfl rfl
theorem dksX0_school_2 : cX0_school.data.toList.drop 47 = dktX0_school_2 := dk_seg dksX0_school_1 23 rfl rfl
theorem dksX0_school_3 : cX0_school.data.toList.drop 71 = dktX0_school_3 := dk_seg dksX0_school_2 24 rfl rfl
theorem dksX0_school_4 : cX0_school.data.toList.drop 95 = dktX0_school_4 := dk_seg dksX0_school_3 24 rfl rfl
theorem dksX0_school_5 : cX0_school.data.toList.drop 117 = dktX0_school_5 := dk_seg dksX0_school_4 22 rfl rfl
theorem dksX0_school_6 : cX0_school.data.toList.drop 141 = dktX0_school_6 := dk_seg dksX0_school_5 24 rfl rfl
theorem dX0_school_0 : decode cX0_school 0 = .ok (.aload_n 0, 1) := dk_42 (dk_at dksX0_school_0 0 rfl rfl)
theorem dX0_school_1 : decode cX0_school 1 = .ok (.invokevirtual 111, 3) := dk_182 0 111 (dk_at dksX0_school_0 1 rfl rfl)
theorem dX0_school_4 : decode cX0_school 4 = .ok (.istore_n 1, 1) := dk_60 (dk_at dksX0_school_0 4 rfl rfl)
theorem dX0_school_5 : decode cX0_school 5 = .ok (.iload_n 1, 1) := dk_27 (dk_at dksX0_school_0 5 rfl rfl)
theorem dX0_school_6 : decode cX0_school 6 = .ok (.iconst (-1), 1) := dk_2 (dk_at dksX0_school_0 6 rfl rfl)
theorem dX0_school_7 : decode cX0_school 7 = .ok (.if_icmp .eq 24, 3) := dk_159 0 24 (dk_at dksX0_school_0 7 rfl rfl)
theorem dX0_school_10 : decode cX0_school 10 = .ok (.aload_n 0, 1) := dk_42 (dk_at dksX0_school_0 10 rfl rfl)
theorem dX0_school_11 : decode cX0_school 11 = .ok (.getfield 102, 3) := dk_180 0 102 (dk_at dksX0_school_0 11 rfl rfl)
theorem dX0_school_14 : decode cX0_school 14 = .ok (.iload_n 1, 1) := dk_27 (dk_at dksX0_school_0 14 rfl rfl)
theorem dX0_school_15 : decode cX0_school 15 = .ok (.iconst 2, 1) := dk_5 (dk_at dksX0_school_0 15 rfl rfl)
theorem dX0_school_16 : decode cX0_school 16 = .ok (.iadd, 1) := dk_96 (dk_at dksX0_school_0 16 rfl rfl)
theorem dX0_school_17 : decode cX0_school 17 = .ok (.if_icmp .ne 14, 3) := dk_160 0 14 (dk_at dksX0_school_0 17 rfl rfl)
theorem dX0_school_20 : decode cX0_school 20 = .ok (.aload_n 0, 1) := dk_42 (dk_at dksX0_school_0 20 rfl rfl)
theorem dX0_school_21 : decode cX0_school 21 = .ok (.invokevirtual 121, 3) := dk_182 0 121 (dk_at dksX0_school_0 21 rfl rfl)
theorem dX0_school_24 : decode cX0_school 24 = .ok (.aload_n 0, 1) := dk_42 (dk_at dksX0_school_1 0 rfl rfl)
theorem dX0_school_25 : decode cX0_school 25 = .ok (.getfield 102, 3) := dk_180 0 102 (dk_at dksX0_school_1 1 rfl rfl)
theorem dX0_school_28 : decode cX0_school 28 = .ok (.if_icmp .ge 6, 3) := dk_162 0 6 (dk_at dksX0_school_1 4 rfl rfl)
theorem dX0_school_31 : decode cX0_school 31 = .ok (.bipush (-103), 2) := dk_16 153 (dk_at dksX0_school_1 7 rfl rfl)
theorem dX0_school_33 : decode cX0_school 33 = .ok (.ireturn, 1) := dk_172 (dk_at dksX0_school_1 9 rfl rfl)
theorem dX0_school_34 : decode cX0_school 34 = .ok (.aload_n 0, 1) := dk_42 (dk_at dksX0_school_1 10 rfl rfl)
theorem dX0_school_35 : decode cX0_school 35 = .ok (.iload_n 1, 1) := dk_27 (dk_at dksX0_school_1 11 rfl rfl)
theorem dX0_school_36 : decode cX0_school 36 = .ok (.iconst 1, 1) := dk_4 (dk_at dksX0_school_1 12 rfl rfl)
theorem dX0_school_37 : decode cX0_school 37 = .ok (.iadd, 1) := dk_96 (dk_at dksX0_school_1 13 rfl rfl)
theorem dX0_school_38 : decode cX0_school 38 = .ok (.iconst 3, 1) := dk_6 (dk_at dksX0_school_1 14 rfl rfl)
theorem dX0_school_39 : decode cX0_school 39 = .ok (.idiv, 1) := dk_108 (dk_at dksX0_school_1 15 rfl rfl)
theorem dX0_school_40 : decode cX0_school 40 = .ok (.putfield 124, 3) := dk_181 0 124 (dk_at dksX0_school_1 16 rfl rfl)
theorem dX0_school_43 : decode cX0_school 43 = .ok (.iconst 0, 1) := dk_3 (dk_at dksX0_school_1 19 rfl rfl)
theorem dX0_school_44 : decode cX0_school 44 = .ok (.istore_n 2, 1) := dk_61 (dk_at dksX0_school_1 20 rfl rfl)
theorem dX0_school_45 : decode cX0_school 45 = .ok (.iload_n 2, 1) := dk_28 (dk_at dksX0_school_1 21 rfl rfl)
theorem dX0_school_46 : decode cX0_school 46 = .ok (.aload_n 0, 1) := dk_42 (dk_at dksX0_school_1 22 rfl rfl)
theorem dX0_school_47 : decode cX0_school 47 = .ok (.getfield 124, 3) := dk_180 0 124 (dk_at dksX0_school_2 0 rfl rfl)
theorem dX0_school_50 : decode cX0_school 50 = .ok (.if_icmp .ge 45, 3) := dk_162 0 45 (dk_at dksX0_school_2 3 rfl rfl)
theorem dX0_school_53 : decode cX0_school 53 = .ok (.aload_n 0, 1) := dk_42 (dk_at dksX0_school_2 6 rfl rfl)
theorem dX0_school_54 : decode cX0_school 54 = .ok (.getfield 24, 3) := dk_180 0 24 (dk_at dksX0_school_2 7 rfl rfl)
theorem dX0_school_57 : decode cX0_school 57 = .ok (.iload_n 2, 1) := dk_28 (dk_at dksX0_school_2 10 rfl rfl)
theorem dX0_school_58 : decode cX0_school 58 = .ok (.aload_n 0, 1) := dk_42 (dk_at dksX0_school_2 11 rfl rfl)
theorem dX0_school_59 : decode cX0_school 59 = .ok (.getfield 41, 3) := dk_180 0 41 (dk_at dksX0_school_2 12 rfl rfl)
theorem dX0_school_62 : decode cX0_school 62 = .ok (.iconst 3, 1) := dk_6 (dk_at dksX0_school_2 15 rfl rfl)
theorem dX0_school_63 : decode cX0_school 63 = .ok (.iload_n 2, 1) := dk_28 (dk_at dksX0_school_2 16 rfl rfl)
theorem dX0_school_64 : decode cX0_school 64 = .ok (.imul, 1) := dk_104 (dk_at dksX0_school_2 17 rfl rfl)
theorem dX0_school_65 : decode cX0_school 65 = .ok (.iaload, 1) := dk_46 (dk_at dksX0_school_2 18 rfl rfl)
theorem dX0_school_66 : decode cX0_school 66 = .ok (.bipush 48, 2) := dk_16 48 (dk_at dksX0_school_2 19 rfl rfl)
theorem dX0_school_68 : decode cX0_school 68 = .ok (.isub, 1) := dk_100 (dk_at dksX0_school_2 21 rfl rfl)
theorem dX0_school_69 : decode cX0_school 69 = .ok (.iastore, 1) := dk_79 (dk_at dksX0_school_2 22 rfl rfl)
theorem dX0_school_70 : decode cX0_school 70 = .ok (.aload_n 0, 1) := dk_42 (dk_at dksX0_school_2 23 rfl rfl)
theorem dX0_school_71 : decode cX0_school 71 = .ok (.getfield 28, 3) := dk_180 0 28 (dk_at dksX0_school_3 0 rfl rfl)
theorem dX0_school_74 : decode cX0_school 74 = .ok (.iload_n 2, 1) := dk_28 (dk_at dksX0_school_3 3 rfl rfl)
theorem dX0_school_75 : decode cX0_school 75 = .ok (.aload_n 0, 1) := dk_42 (dk_at dksX0_school_3 4 rfl rfl)
theorem dX0_school_76 : decode cX0_school 76 = .ok (.getfield 41, 3) := dk_180 0 41 (dk_at dksX0_school_3 5 rfl rfl)
theorem dX0_school_79 : decode cX0_school 79 = .ok (.iconst 3, 1) := dk_6 (dk_at dksX0_school_3 8 rfl rfl)
theorem dX0_school_80 : decode cX0_school 80 = .ok (.iload_n 2, 1) := dk_28 (dk_at dksX0_school_3 9 rfl rfl)
theorem dX0_school_81 : decode cX0_school 81 = .ok (.imul, 1) := dk_104 (dk_at dksX0_school_3 10 rfl rfl)
theorem dX0_school_82 : decode cX0_school 82 = .ok (.iconst 1, 1) := dk_4 (dk_at dksX0_school_3 11 rfl rfl)
theorem dX0_school_83 : decode cX0_school 83 = .ok (.iadd, 1) := dk_96 (dk_at dksX0_school_3 12 rfl rfl)
theorem dX0_school_84 : decode cX0_school 84 = .ok (.iaload, 1) := dk_46 (dk_at dksX0_school_3 13 rfl rfl)
theorem dX0_school_85 : decode cX0_school 85 = .ok (.bipush 48, 2) := dk_16 48 (dk_at dksX0_school_3 14 rfl rfl)
theorem dX0_school_87 : decode cX0_school 87 = .ok (.isub, 1) := dk_100 (dk_at dksX0_school_3 16 rfl rfl)
theorem dX0_school_88 : decode cX0_school 88 = .ok (.iastore, 1) := dk_79 (dk_at dksX0_school_3 17 rfl rfl)
theorem dX0_school_89 : decode cX0_school 89 = .ok (.iinc 2 1, 3) := dk_132 2 1 (dk_at dksX0_school_3 18 rfl rfl)
theorem dX0_school_92 : decode cX0_school 92 = .ok (.goto (-47), 3) := dk_167 255 209 (dk_at dksX0_school_3 21 rfl rfl)
theorem dX0_school_95 : decode cX0_school 95 = .ok (.iconst 0, 1) := dk_3 (dk_at dksX0_school_4 0 rfl rfl)
theorem dX0_school_96 : decode cX0_school 96 = .ok (.istore_n 2, 1) := dk_61 (dk_at dksX0_school_4 1 rfl rfl)
theorem dX0_school_97 : decode cX0_school 97 = .ok (.iload_n 2, 1) := dk_28 (dk_at dksX0_school_4 2 rfl rfl)
theorem dX0_school_98 : decode cX0_school 98 = .ok (.iconst 3, 1) := dk_6 (dk_at dksX0_school_4 3 rfl rfl)
theorem dX0_school_99 : decode cX0_school 99 = .ok (.if_icmp .ge 16, 3) := dk_162 0 16 (dk_at dksX0_school_4 4 rfl rfl)
theorem dX0_school_102 : decode cX0_school 102 = .ok (.aload_n 0, 1) := dk_42 (dk_at dksX0_school_4 7 rfl rfl)
theorem dX0_school_103 : decode cX0_school 103 = .ok (.getfield 31, 3) := dk_180 0 31 (dk_at dksX0_school_4 8 rfl rfl)
theorem dX0_school_106 : decode cX0_school 106 = .ok (.iload_n 2, 1) := dk_28 (dk_at dksX0_school_4 11 rfl rfl)
theorem dX0_school_107 : decode cX0_school 107 = .ok (.iconst 0, 1) := dk_3 (dk_at dksX0_school_4 12 rfl rfl)
theorem dX0_school_108 : decode cX0_school 108 = .ok (.iastore, 1) := dk_79 (dk_at dksX0_school_4 13 rfl rfl)
theorem dX0_school_109 : decode cX0_school 109 = .ok (.iinc 2 1, 3) := dk_132 2 1 (dk_at dksX0_school_4 14 rfl rfl)
theorem dX0_school_112 : decode cX0_school 112 = .ok (.goto (-15), 3) := dk_167 255 241 (dk_at dksX0_school_4 17 rfl rfl)
theorem dX0_school_115 : decode cX0_school 115 = .ok (.aload_n 0, 1) := dk_42 (dk_at dksX0_school_4 20 rfl rfl)
theorem dX0_school_116 : decode cX0_school 116 = .ok (.aload_n 0, 1) := dk_42 (dk_at dksX0_school_4 21 rfl rfl)
theorem dX0_school_117 : decode cX0_school 117 = .ok (.getfield 41, 3) := dk_180 0 41 (dk_at dksX0_school_5 0 rfl rfl)
theorem dX0_school_120 : decode cX0_school 120 = .ok (.iload_n 1, 1) := dk_27 (dk_at dksX0_school_5 3 rfl rfl)
theorem dX0_school_121 : decode cX0_school 121 = .ok (.iconst 1, 1) := dk_4 (dk_at dksX0_school_5 4 rfl rfl)
theorem dX0_school_122 : decode cX0_school 122 = .ok (.iadd, 1) := dk_96 (dk_at dksX0_school_5 5 rfl rfl)
theorem dX0_school_123 : decode cX0_school 123 = .ok (.iaload, 1) := dk_46 (dk_at dksX0_school_5 6 rfl rfl)
theorem dX0_school_124 : decode cX0_school 124 = .ok (.bipush 48, 2) := dk_16 48 (dk_at dksX0_school_5 7 rfl rfl)
theorem dX0_school_126 : decode cX0_school 126 = .ok (.isub, 1) := dk_100 (dk_at dksX0_school_5 9 rfl rfl)
theorem dX0_school_127 : decode cX0_school 127 = .ok (.putfield 127, 3) := dk_181 0 127 (dk_at dksX0_school_5 10 rfl rfl)
theorem dX0_school_130 : decode cX0_school 130 = .ok (.aload_n 0, 1) := dk_42 (dk_at dksX0_school_5 13 rfl rfl)
theorem dX0_school_131 : decode cX0_school 131 = .ok (.iconst 0, 1) := dk_3 (dk_at dksX0_school_5 14 rfl rfl)
theorem dX0_school_132 : decode cX0_school 132 = .ok (.putfield 130, 3) := dk_181 0 130 (dk_at dksX0_school_5 15 rfl rfl)
theorem dX0_school_135 : decode cX0_school 135 = .ok (.aload_n 0, 1) := dk_42 (dk_at dksX0_school_5 18 rfl rfl)
theorem dX0_school_136 : decode cX0_school 136 = .ok (.iconst 0, 1) := dk_3 (dk_at dksX0_school_5 19 rfl rfl)
theorem dX0_school_137 : decode cX0_school 137 = .ok (.putfield 133, 3) := dk_181 0 133 (dk_at dksX0_school_5 20 rfl rfl)
theorem dX0_school_140 : decode cX0_school 140 = .ok (.aload_n 0, 1) := dk_42 (dk_at dksX0_school_5 23 rfl rfl)
theorem dX0_school_141 : decode cX0_school 141 = .ok (.dup, 1) := dk_89 (dk_at dksX0_school_6 0 rfl rfl)
theorem dX0_school_142 : decode cX0_school 142 = .ok (.getfield 136, 3) := dk_180 0 136 (dk_at dksX0_school_6 1 rfl rfl)
theorem dX0_school_145 : decode cX0_school 145 = .ok (.iconst 1, 1) := dk_4 (dk_at dksX0_school_6 4 rfl rfl)
theorem dX0_school_146 : decode cX0_school 146 = .ok (.iadd, 1) := dk_96 (dk_at dksX0_school_6 5 rfl rfl)
theorem dX0_school_147 : decode cX0_school 147 = .ok (.putfield 136, 3) := dk_181 0 136 (dk_at dksX0_school_6 6 rfl rfl)
theorem dX0_school_150 : decode cX0_school 150 = .ok (.aload_n 0, 1) := dk_42 (dk_at dksX0_school_6 9 rfl rfl)
theorem dX0_school_151 : decode cX0_school 151 = .ok (.iconst 0, 1) := dk_3 (dk_at dksX0_school_6 10 rfl rfl)
theorem dX0_school_152 : decode cX0_school 152 = .ok (.putfield 102, 3) := dk_181 0 102 (dk_at dksX0_school_6 11 rfl rfl)
theorem dX0_school_155 : decode cX0_school 155 = .ok (.aload_n 0, 1) := dk_42 (dk_at dksX0_school_6 14 rfl rfl)
theorem dX0_school_156 : decode cX0_school 156 = .ok (.getfield 124, 3) := dk_180 0 124 (dk_at dksX0_school_6 15 rfl rfl)
theorem dX0_school_159 : decode cX0_school 159 = .ok (.ireturn, 1) := dk_172 (dk_at dksX0_school_6 18 rfl rfl)
abbrev cX0_lesson : ByteArray := prog_1_method_17_code
def yX0_lesson : MethodName := ⟨RX0, "lesson", "(II)I"⟩
def dkwX0_lesson_0 : List UInt8 := [42, 27, 182, 0, 151, 153, 0, 12, 42, 27, 28, 182, 0, 155, 167, 0, 5, 16, 155, 172]
abbrev dktX0_lesson_0 : List UInt8 := dkwX0_lesson_0 ++ []
theorem dksX0_lesson_0 : cX0_lesson.data.toList.drop 0 = dktX0_lesson_0 := by decide +kernel
theorem dX0_lesson_0 : decode cX0_lesson 0 = .ok (.aload_n 0, 1) := dk_42 (dk_at dksX0_lesson_0 0 rfl rfl)
theorem dX0_lesson_1 : decode cX0_lesson 1 = .ok (.iload_n 1, 1) := dk_27 (dk_at dksX0_lesson_0 1 rfl rfl)
theorem dX0_lesson_2 : decode cX0_lesson 2 = .ok (.invokevirtual 151, 3) := dk_182 0 151 (dk_at dksX0_lesson_0 2 rfl rfl)
theorem dX0_lesson_5 : decode cX0_lesson 5 = .ok (.ifCond .eq 12, 3) := dk_153 0 12 (dk_at dksX0_lesson_0 5 rfl rfl)
theorem dX0_lesson_8 : decode cX0_lesson 8 = .ok (.aload_n 0, 1) := dk_42 (dk_at dksX0_lesson_0 8 rfl rfl)
theorem dX0_lesson_9 : decode cX0_lesson 9 = .ok (.iload_n 1, 1) := dk_27 (dk_at dksX0_lesson_0 9 rfl rfl)
theorem dX0_lesson_10 : decode cX0_lesson 10 = .ok (.iload_n 2, 1) := dk_28 (dk_at dksX0_lesson_0 10 rfl rfl)
theorem dX0_lesson_11 : decode cX0_lesson 11 = .ok (.invokevirtual 155, 3) := dk_182 0 155 (dk_at dksX0_lesson_0 11 rfl rfl)
theorem dX0_lesson_14 : decode cX0_lesson 14 = .ok (.goto 5, 3) := dk_167 0 5 (dk_at dksX0_lesson_0 14 rfl rfl)
theorem dX0_lesson_17 : decode cX0_lesson 17 = .ok (.bipush (-101), 2) := dk_16 155 (dk_at dksX0_lesson_0 17 rfl rfl)
theorem dX0_lesson_19 : decode cX0_lesson 19 = .ok (.ireturn, 1) := dk_172 (dk_at dksX0_lesson_0 19 rfl rfl)
abbrev cX0_isLesson : ByteArray := prog_1_method_12_code
def yX0_isLesson : MethodName := ⟨RX0, "isLesson", "(I)Z"⟩
def dkwX0_isLesson_0 : List UInt8 := [27, 133, 9, 42, 180, 0, 124, 4, 100, 133, 184, 0, 98, 172]
abbrev dktX0_isLesson_0 : List UInt8 := dkwX0_isLesson_0 ++ []
theorem dksX0_isLesson_0 : cX0_isLesson.data.toList.drop 0 = dktX0_isLesson_0 := by decide +kernel
theorem dX0_isLesson_0 : decode cX0_isLesson 0 = .ok (.iload_n 1, 1) := dk_27 (dk_at dksX0_isLesson_0 0 rfl rfl)
theorem dX0_isLesson_1 : decode cX0_isLesson 1 = .ok (.i2l, 1) := dk_133 (dk_at dksX0_isLesson_0 1 rfl rfl)
theorem dX0_isLesson_2 : decode cX0_isLesson 2 = .ok (.lconst 0, 1) := dk_9 (dk_at dksX0_isLesson_0 2 rfl rfl)
theorem dX0_isLesson_3 : decode cX0_isLesson 3 = .ok (.aload_n 0, 1) := dk_42 (dk_at dksX0_isLesson_0 3 rfl rfl)
theorem dX0_isLesson_4 : decode cX0_isLesson 4 = .ok (.getfield 124, 3) := dk_180 0 124 (dk_at dksX0_isLesson_0 4 rfl rfl)
theorem dX0_isLesson_7 : decode cX0_isLesson 7 = .ok (.iconst 1, 1) := dk_4 (dk_at dksX0_isLesson_0 7 rfl rfl)
theorem dX0_isLesson_8 : decode cX0_isLesson 8 = .ok (.isub, 1) := dk_100 (dk_at dksX0_isLesson_0 8 rfl rfl)
theorem dX0_isLesson_9 : decode cX0_isLesson 9 = .ok (.i2l, 1) := dk_133 (dk_at dksX0_isLesson_0 9 rfl rfl)
theorem dX0_isLesson_10 : decode cX0_isLesson 10 = .ok (.invokestatic 98, 3) := dk_184 0 98 (dk_at dksX0_isLesson_0 10 rfl rfl)
theorem dX0_isLesson_13 : decode cX0_isLesson 13 = .ok (.ireturn, 1) := dk_172 (dk_at dksX0_isLesson_0 13 rfl rfl)
abbrev cX0_tellLesson : ByteArray := prog_1_method_16_code
def yX0_tellLesson : MethodName := ⟨RX0, "tellLesson", "(II)I"⟩
def dkwX0_tellLesson_1 : List UInt8 := [167, 0, 18, 28, 5, 160, 0, 11, 42, 27, 182, 0, 147, 167, 0, 5, 16, 154, 172]
abbrev dktX0_tellLesson_1 : List UInt8 := dkwX0_tellLesson_1 ++ []
def dkwX0_tellLesson_0 : List UInt8 := [28, 154, 0, 12, 42, 180, 0, 24, 27, 46, 167, 0, 32, 28, 4, 160, 0, 12, 42, 180, 0, 28, 27, 46]
abbrev dktX0_tellLesson_0 : List UInt8 := dkwX0_tellLesson_0 ++ dktX0_tellLesson_1
theorem dksX0_tellLesson_0 : cX0_tellLesson.data.toList.drop 0 = dktX0_tellLesson_0 := by decide +kernel
theorem dksX0_tellLesson_1 : cX0_tellLesson.data.toList.drop 24 = dktX0_tellLesson_1 := dk_seg dksX0_tellLesson_0 24 rfl rfl
theorem dX0_tellLesson_0 : decode cX0_tellLesson 0 = .ok (.iload_n 2, 1) := dk_28 (dk_at dksX0_tellLesson_0 0 rfl rfl)
theorem dX0_tellLesson_1 : decode cX0_tellLesson 1 = .ok (.ifCond .ne 12, 3) := dk_154 0 12 (dk_at dksX0_tellLesson_0 1 rfl rfl)
theorem dX0_tellLesson_4 : decode cX0_tellLesson 4 = .ok (.aload_n 0, 1) := dk_42 (dk_at dksX0_tellLesson_0 4 rfl rfl)
theorem dX0_tellLesson_5 : decode cX0_tellLesson 5 = .ok (.getfield 24, 3) := dk_180 0 24 (dk_at dksX0_tellLesson_0 5 rfl rfl)
theorem dX0_tellLesson_8 : decode cX0_tellLesson 8 = .ok (.iload_n 1, 1) := dk_27 (dk_at dksX0_tellLesson_0 8 rfl rfl)
theorem dX0_tellLesson_9 : decode cX0_tellLesson 9 = .ok (.iaload, 1) := dk_46 (dk_at dksX0_tellLesson_0 9 rfl rfl)
theorem dX0_tellLesson_10 : decode cX0_tellLesson 10 = .ok (.goto 32, 3) := dk_167 0 32 (dk_at dksX0_tellLesson_0 10 rfl rfl)
theorem dX0_tellLesson_13 : decode cX0_tellLesson 13 = .ok (.iload_n 2, 1) := dk_28 (dk_at dksX0_tellLesson_0 13 rfl rfl)
theorem dX0_tellLesson_14 : decode cX0_tellLesson 14 = .ok (.iconst 1, 1) := dk_4 (dk_at dksX0_tellLesson_0 14 rfl rfl)
theorem dX0_tellLesson_15 : decode cX0_tellLesson 15 = .ok (.if_icmp .ne 12, 3) := dk_160 0 12 (dk_at dksX0_tellLesson_0 15 rfl rfl)
theorem dX0_tellLesson_18 : decode cX0_tellLesson 18 = .ok (.aload_n 0, 1) := dk_42 (dk_at dksX0_tellLesson_0 18 rfl rfl)
theorem dX0_tellLesson_19 : decode cX0_tellLesson 19 = .ok (.getfield 28, 3) := dk_180 0 28 (dk_at dksX0_tellLesson_0 19 rfl rfl)
theorem dX0_tellLesson_22 : decode cX0_tellLesson 22 = .ok (.iload_n 1, 1) := dk_27 (dk_at dksX0_tellLesson_0 22 rfl rfl)
theorem dX0_tellLesson_23 : decode cX0_tellLesson 23 = .ok (.iaload, 1) := dk_46 (dk_at dksX0_tellLesson_0 23 rfl rfl)
theorem dX0_tellLesson_24 : decode cX0_tellLesson 24 = .ok (.goto 18, 3) := dk_167 0 18 (dk_at dksX0_tellLesson_1 0 rfl rfl)
theorem dX0_tellLesson_27 : decode cX0_tellLesson 27 = .ok (.iload_n 2, 1) := dk_28 (dk_at dksX0_tellLesson_1 3 rfl rfl)
theorem dX0_tellLesson_28 : decode cX0_tellLesson 28 = .ok (.iconst 2, 1) := dk_5 (dk_at dksX0_tellLesson_1 4 rfl rfl)
theorem dX0_tellLesson_29 : decode cX0_tellLesson 29 = .ok (.if_icmp .ne 11, 3) := dk_160 0 11 (dk_at dksX0_tellLesson_1 5 rfl rfl)
theorem dX0_tellLesson_32 : decode cX0_tellLesson 32 = .ok (.aload_n 0, 1) := dk_42 (dk_at dksX0_tellLesson_1 8 rfl rfl)
theorem dX0_tellLesson_33 : decode cX0_tellLesson 33 = .ok (.iload_n 1, 1) := dk_27 (dk_at dksX0_tellLesson_1 9 rfl rfl)
theorem dX0_tellLesson_34 : decode cX0_tellLesson 34 = .ok (.invokevirtual 147, 3) := dk_182 0 147 (dk_at dksX0_tellLesson_1 10 rfl rfl)
theorem dX0_tellLesson_37 : decode cX0_tellLesson 37 = .ok (.goto 5, 3) := dk_167 0 5 (dk_at dksX0_tellLesson_1 13 rfl rfl)
theorem dX0_tellLesson_40 : decode cX0_tellLesson 40 = .ok (.bipush (-102), 2) := dk_16 154 (dk_at dksX0_tellLesson_1 16 rfl rfl)
theorem dX0_tellLesson_42 : decode cX0_tellLesson 42 = .ok (.ireturn, 1) := dk_172 (dk_at dksX0_tellLesson_1 18 rfl rfl)
abbrev cX0_whoLearnt : ByteArray := prog_1_method_15_code
def yX0_whoLearnt : MethodName := ⟨RX0, "whoLearnt", "(I)I"⟩
def dkwX0_whoLearnt_1 : List UInt8 := [184, 0, 144, 153, 0, 9, 4, 29, 120, 167, 0, 4, 3, 128, 61, 132, 3, 1, 167, 255, 219, 28, 172]
abbrev dktX0_whoLearnt_1 : List UInt8 := dkwX0_whoLearnt_1 ++ []
def dkwX0_whoLearnt_0 : List UInt8 := [3, 61, 3, 62, 29, 42, 180, 0, 130, 162, 0, 35, 28, 42, 180, 0, 34, 29, 50, 180, 0, 141, 27]
abbrev dktX0_whoLearnt_0 : List UInt8 := dkwX0_whoLearnt_0 ++ dktX0_whoLearnt_1
theorem dksX0_whoLearnt_0 : cX0_whoLearnt.data.toList.drop 0 = dktX0_whoLearnt_0 := by decide +kernel
theorem dksX0_whoLearnt_1 : cX0_whoLearnt.data.toList.drop 23 = dktX0_whoLearnt_1 := dk_seg dksX0_whoLearnt_0 23 rfl rfl
theorem dX0_whoLearnt_0 : decode cX0_whoLearnt 0 = .ok (.iconst 0, 1) := dk_3 (dk_at dksX0_whoLearnt_0 0 rfl rfl)
theorem dX0_whoLearnt_1 : decode cX0_whoLearnt 1 = .ok (.istore_n 2, 1) := dk_61 (dk_at dksX0_whoLearnt_0 1 rfl rfl)
theorem dX0_whoLearnt_2 : decode cX0_whoLearnt 2 = .ok (.iconst 0, 1) := dk_3 (dk_at dksX0_whoLearnt_0 2 rfl rfl)
theorem dX0_whoLearnt_3 : decode cX0_whoLearnt 3 = .ok (.istore_n 3, 1) := dk_62 (dk_at dksX0_whoLearnt_0 3 rfl rfl)
theorem dX0_whoLearnt_4 : decode cX0_whoLearnt 4 = .ok (.iload_n 3, 1) := dk_29 (dk_at dksX0_whoLearnt_0 4 rfl rfl)
theorem dX0_whoLearnt_5 : decode cX0_whoLearnt 5 = .ok (.aload_n 0, 1) := dk_42 (dk_at dksX0_whoLearnt_0 5 rfl rfl)
theorem dX0_whoLearnt_6 : decode cX0_whoLearnt 6 = .ok (.getfield 130, 3) := dk_180 0 130 (dk_at dksX0_whoLearnt_0 6 rfl rfl)
theorem dX0_whoLearnt_9 : decode cX0_whoLearnt 9 = .ok (.if_icmp .ge 35, 3) := dk_162 0 35 (dk_at dksX0_whoLearnt_0 9 rfl rfl)
theorem dX0_whoLearnt_12 : decode cX0_whoLearnt 12 = .ok (.iload_n 2, 1) := dk_28 (dk_at dksX0_whoLearnt_0 12 rfl rfl)
theorem dX0_whoLearnt_13 : decode cX0_whoLearnt 13 = .ok (.aload_n 0, 1) := dk_42 (dk_at dksX0_whoLearnt_0 13 rfl rfl)
theorem dX0_whoLearnt_14 : decode cX0_whoLearnt 14 = .ok (.getfield 34, 3) := dk_180 0 34 (dk_at dksX0_whoLearnt_0 14 rfl rfl)
theorem dX0_whoLearnt_17 : decode cX0_whoLearnt 17 = .ok (.iload_n 3, 1) := dk_29 (dk_at dksX0_whoLearnt_0 17 rfl rfl)
theorem dX0_whoLearnt_18 : decode cX0_whoLearnt 18 = .ok (.aaload, 1) := dk_50 (dk_at dksX0_whoLearnt_0 18 rfl rfl)
theorem dX0_whoLearnt_19 : decode cX0_whoLearnt 19 = .ok (.getfield 141, 3) := dk_180 0 141 (dk_at dksX0_whoLearnt_0 19 rfl rfl)
theorem dX0_whoLearnt_22 : decode cX0_whoLearnt 22 = .ok (.iload_n 1, 1) := dk_27 (dk_at dksX0_whoLearnt_0 22 rfl rfl)
theorem dX0_whoLearnt_23 : decode cX0_whoLearnt 23 = .ok (.invokestatic 144, 3) := dk_184 0 144 (dk_at dksX0_whoLearnt_1 0 rfl rfl)
theorem dX0_whoLearnt_26 : decode cX0_whoLearnt 26 = .ok (.ifCond .eq 9, 3) := dk_153 0 9 (dk_at dksX0_whoLearnt_1 3 rfl rfl)
theorem dX0_whoLearnt_29 : decode cX0_whoLearnt 29 = .ok (.iconst 1, 1) := dk_4 (dk_at dksX0_whoLearnt_1 6 rfl rfl)
theorem dX0_whoLearnt_30 : decode cX0_whoLearnt 30 = .ok (.iload_n 3, 1) := dk_29 (dk_at dksX0_whoLearnt_1 7 rfl rfl)
theorem dX0_whoLearnt_31 : decode cX0_whoLearnt 31 = .ok (.ishl, 1) := dk_120 (dk_at dksX0_whoLearnt_1 8 rfl rfl)
theorem dX0_whoLearnt_32 : decode cX0_whoLearnt 32 = .ok (.goto 4, 3) := dk_167 0 4 (dk_at dksX0_whoLearnt_1 9 rfl rfl)
theorem dX0_whoLearnt_35 : decode cX0_whoLearnt 35 = .ok (.iconst 0, 1) := dk_3 (dk_at dksX0_whoLearnt_1 12 rfl rfl)
theorem dX0_whoLearnt_36 : decode cX0_whoLearnt 36 = .ok (.ior, 1) := dk_128 (dk_at dksX0_whoLearnt_1 13 rfl rfl)
theorem dX0_whoLearnt_37 : decode cX0_whoLearnt 37 = .ok (.istore_n 2, 1) := dk_61 (dk_at dksX0_whoLearnt_1 14 rfl rfl)
theorem dX0_whoLearnt_38 : decode cX0_whoLearnt 38 = .ok (.iinc 3 1, 3) := dk_132 3 1 (dk_at dksX0_whoLearnt_1 15 rfl rfl)
theorem dX0_whoLearnt_41 : decode cX0_whoLearnt 41 = .ok (.goto (-37), 3) := dk_167 255 219 (dk_at dksX0_whoLearnt_1 18 rfl rfl)
theorem dX0_whoLearnt_44 : decode cX0_whoLearnt 44 = .ok (.iload_n 2, 1) := dk_28 (dk_at dksX0_whoLearnt_1 21 rfl rfl)
theorem dX0_whoLearnt_45 : decode cX0_whoLearnt 45 = .ok (.ireturn, 1) := dk_172 (dk_at dksX0_whoLearnt_1 22 rfl rfl)
abbrev cX0_has : ByteArray := prog_1_method_2_code
def yX0_has : MethodName := ⟨RX0, "has", "(II)Z"⟩
def dkwX0_has_0 : List UInt8 := [26, 27, 122, 4, 126, 4, 160, 0, 7, 4, 167, 0, 4, 3, 172]
abbrev dktX0_has_0 : List UInt8 := dkwX0_has_0 ++ []
theorem dksX0_has_0 : cX0_has.data.toList.drop 0 = dktX0_has_0 := by decide +kernel
theorem dX0_has_0 : decode cX0_has 0 = .ok (.iload_n 0, 1) := dk_26 (dk_at dksX0_has_0 0 rfl rfl)
theorem dX0_has_1 : decode cX0_has 1 = .ok (.iload_n 1, 1) := dk_27 (dk_at dksX0_has_0 1 rfl rfl)
theorem dX0_has_2 : decode cX0_has 2 = .ok (.ishr, 1) := dk_122 (dk_at dksX0_has_0 2 rfl rfl)
theorem dX0_has_3 : decode cX0_has 3 = .ok (.iconst 1, 1) := dk_4 (dk_at dksX0_has_0 3 rfl rfl)
theorem dX0_has_4 : decode cX0_has 4 = .ok (.iand, 1) := dk_126 (dk_at dksX0_has_0 4 rfl rfl)
theorem dX0_has_5 : decode cX0_has 5 = .ok (.iconst 1, 1) := dk_4 (dk_at dksX0_has_0 5 rfl rfl)
theorem dX0_has_6 : decode cX0_has 6 = .ok (.if_icmp .ne 7, 3) := dk_160 0 7 (dk_at dksX0_has_0 6 rfl rfl)
theorem dX0_has_9 : decode cX0_has 9 = .ok (.iconst 1, 1) := dk_4 (dk_at dksX0_has_0 9 rfl rfl)
theorem dX0_has_10 : decode cX0_has 10 = .ok (.goto 4, 3) := dk_167 0 4 (dk_at dksX0_has_0 10 rfl rfl)
theorem dX0_has_13 : decode cX0_has 13 = .ok (.iconst 0, 1) := dk_3 (dk_at dksX0_has_0 13 rfl rfl)
theorem dX0_has_14 : decode cX0_has 14 = .ok (.ireturn, 1) := dk_172 (dk_at dksX0_has_0 14 rfl rfl)
abbrev cX0_stripes : ByteArray := prog_1_method_18_code
def yX0_stripes : MethodName := ⟨RX0, "stripes", "(I)I"⟩
def dkwX0_stripes_1 : List UInt8 := [16, 155, 172]
abbrev dktX0_stripes_1 : List UInt8 := dkwX0_stripes_1 ++ []
def dkwX0_stripes_0 : List UInt8 := [42, 182, 0, 159, 153, 0, 19, 27, 184, 0, 163, 153, 0, 12, 42, 180, 0, 31, 27, 46, 167, 0, 5]
abbrev dktX0_stripes_0 : List UInt8 := dkwX0_stripes_0 ++ dktX0_stripes_1
theorem dksX0_stripes_0 : cX0_stripes.data.toList.drop 0 = dktX0_stripes_0 := by decide +kernel
theorem dksX0_stripes_1 : cX0_stripes.data.toList.drop 23 = dktX0_stripes_1 := dk_seg dksX0_stripes_0 23 rfl rfl
theorem dX0_stripes_0 : decode cX0_stripes 0 = .ok (.aload_n 0, 1) := dk_42 (dk_at dksX0_stripes_0 0 rfl rfl)
theorem dX0_stripes_1 : decode cX0_stripes 1 = .ok (.invokevirtual 159, 3) := dk_182 0 159 (dk_at dksX0_stripes_0 1 rfl rfl)
theorem dX0_stripes_4 : decode cX0_stripes 4 = .ok (.ifCond .eq 19, 3) := dk_153 0 19 (dk_at dksX0_stripes_0 4 rfl rfl)
theorem dX0_stripes_7 : decode cX0_stripes 7 = .ok (.iload_n 1, 1) := dk_27 (dk_at dksX0_stripes_0 7 rfl rfl)
theorem dX0_stripes_8 : decode cX0_stripes 8 = .ok (.invokestatic 163, 3) := dk_184 0 163 (dk_at dksX0_stripes_0 8 rfl rfl)
theorem dX0_stripes_11 : decode cX0_stripes 11 = .ok (.ifCond .eq 12, 3) := dk_153 0 12 (dk_at dksX0_stripes_0 11 rfl rfl)
theorem dX0_stripes_14 : decode cX0_stripes 14 = .ok (.aload_n 0, 1) := dk_42 (dk_at dksX0_stripes_0 14 rfl rfl)
theorem dX0_stripes_15 : decode cX0_stripes 15 = .ok (.getfield 31, 3) := dk_180 0 31 (dk_at dksX0_stripes_0 15 rfl rfl)
theorem dX0_stripes_18 : decode cX0_stripes 18 = .ok (.iload_n 1, 1) := dk_27 (dk_at dksX0_stripes_0 18 rfl rfl)
theorem dX0_stripes_19 : decode cX0_stripes 19 = .ok (.iaload, 1) := dk_46 (dk_at dksX0_stripes_0 19 rfl rfl)
theorem dX0_stripes_20 : decode cX0_stripes 20 = .ok (.goto 5, 3) := dk_167 0 5 (dk_at dksX0_stripes_0 20 rfl rfl)
theorem dX0_stripes_23 : decode cX0_stripes 23 = .ok (.bipush (-101), 2) := dk_16 155 (dk_at dksX0_stripes_1 0 rfl rfl)
theorem dX0_stripes_25 : decode cX0_stripes 25 = .ok (.ireturn, 1) := dk_172 (dk_at dksX0_stripes_1 2 rfl rfl)
abbrev cX0_isThere : ByteArray := prog_1_method_11_code
def yX0_isThere : MethodName := ⟨RX0, "isThere", "()Z"⟩
def dkwX0_isThere_0 : List UInt8 := [42, 180, 0, 124, 158, 0, 7, 4, 167, 0, 4, 3, 172]
abbrev dktX0_isThere_0 : List UInt8 := dkwX0_isThere_0 ++ []
theorem dksX0_isThere_0 : cX0_isThere.data.toList.drop 0 = dktX0_isThere_0 := by decide +kernel
theorem dX0_isThere_0 : decode cX0_isThere 0 = .ok (.aload_n 0, 1) := dk_42 (dk_at dksX0_isThere_0 0 rfl rfl)
theorem dX0_isThere_1 : decode cX0_isThere 1 = .ok (.getfield 124, 3) := dk_180 0 124 (dk_at dksX0_isThere_0 1 rfl rfl)
theorem dX0_isThere_4 : decode cX0_isThere 4 = .ok (.ifCond .le 7, 3) := dk_158 0 7 (dk_at dksX0_isThere_0 4 rfl rfl)
theorem dX0_isThere_7 : decode cX0_isThere 7 = .ok (.iconst 1, 1) := dk_4 (dk_at dksX0_isThere_0 7 rfl rfl)
theorem dX0_isThere_8 : decode cX0_isThere 8 = .ok (.goto 4, 3) := dk_167 0 4 (dk_at dksX0_isThere_0 8 rfl rfl)
theorem dX0_isThere_11 : decode cX0_isThere 11 = .ok (.iconst 0, 1) := dk_3 (dk_at dksX0_isThere_0 11 rfl rfl)
theorem dX0_isThere_12 : decode cX0_isThere 12 = .ok (.ireturn, 1) := dk_172 (dk_at dksX0_isThere_0 12 rfl rfl)
abbrev cX0_isBoy : ByteArray := prog_1_method_14_code
def yX0_isBoy : MethodName := ⟨RX0, "isBoy", "(I)Z"⟩
def dkwX0_isBoy_0 : List UInt8 := [26, 133, 9, 20, 0, 139, 184, 0, 98, 172]
abbrev dktX0_isBoy_0 : List UInt8 := dkwX0_isBoy_0 ++ []
theorem dksX0_isBoy_0 : cX0_isBoy.data.toList.drop 0 = dktX0_isBoy_0 := by decide +kernel
theorem dX0_isBoy_0 : decode cX0_isBoy 0 = .ok (.iload_n 0, 1) := dk_26 (dk_at dksX0_isBoy_0 0 rfl rfl)
theorem dX0_isBoy_1 : decode cX0_isBoy 1 = .ok (.i2l, 1) := dk_133 (dk_at dksX0_isBoy_0 1 rfl rfl)
theorem dX0_isBoy_2 : decode cX0_isBoy 2 = .ok (.lconst 0, 1) := dk_9 (dk_at dksX0_isBoy_0 2 rfl rfl)
theorem dX0_isBoy_3 : decode cX0_isBoy 3 = .ok (.ldc2_w 139, 3) := dk_20 0 139 (dk_at dksX0_isBoy_0 3 rfl rfl)
theorem dX0_isBoy_6 : decode cX0_isBoy 6 = .ok (.invokestatic 98, 3) := dk_184 0 98 (dk_at dksX0_isBoy_0 6 rfl rfl)
theorem dX0_isBoy_9 : decode cX0_isBoy 9 = .ok (.ireturn, 1) := dk_172 (dk_at dksX0_isBoy_0 9 rfl rfl)
abbrev cX0_prince : ByteArray := prog_1_method_19_code
def yX0_prince : MethodName := ⟨RX0, "prince", "(II)I"⟩
def dkwX0_prince_5 : List UInt8 := [180, 0, 130, 4, 96, 181, 0, 130, 45, 180, 0, 174, 172]
abbrev dktX0_prince_5 : List UInt8 := dkwX0_prince_5 ++ []
def dkwX0_prince_4 : List UInt8 := [180, 0, 38, 6, 42, 180, 0, 130, 104, 21, 4, 96, 8, 79, 132, 4, 1, 167, 255, 232, 42, 89]
abbrev dktX0_prince_4 : List UInt8 := dkwX0_prince_4 ++ dktX0_prince_5
def dkwX0_prince_3 : List UInt8 := [181, 0, 180, 42, 180, 0, 34, 42, 180, 0, 130, 45, 83, 3, 54, 4, 21, 4, 6, 162, 0, 24, 42]
abbrev dktX0_prince_3 : List UInt8 := dkwX0_prince_3 ++ dktX0_prince_4
def dkwX0_prince_2 : List UInt8 := [27, 184, 0, 170, 78, 45, 42, 180, 0, 130, 181, 0, 174, 45, 28, 181, 0, 177, 45, 42, 180, 0, 130]
abbrev dktX0_prince_2 : List UInt8 := dkwX0_prince_2 ++ dktX0_prince_3
def dkwX0_prince_1 : List UInt8 := [16, 154, 172, 42, 182, 0, 159, 154, 0, 6, 16, 153, 172, 42, 180, 0, 130, 6, 160, 0, 6, 16, 152, 172]
abbrev dktX0_prince_1 : List UInt8 := dkwX0_prince_1 ++ dktX0_prince_2
def dkwX0_prince_0 : List UInt8 := [27, 133, 9, 20, 0, 166, 184, 0, 98, 153, 0, 15, 28, 133, 9, 20, 0, 168, 184, 0, 98, 154, 0, 6]
abbrev dktX0_prince_0 : List UInt8 := dkwX0_prince_0 ++ dktX0_prince_1
theorem dksX0_prince_0 : cX0_prince.data.toList.drop 0 = dktX0_prince_0 := by decide +kernel
theorem dksX0_prince_1 : cX0_prince.data.toList.drop 24 = dktX0_prince_1 := dk_seg dksX0_prince_0 24 rfl rfl
theorem dksX0_prince_2 : cX0_prince.data.toList.drop 48 = dktX0_prince_2 := dk_seg dksX0_prince_1 24 rfl rfl
theorem dksX0_prince_3 : cX0_prince.data.toList.drop 71 = dktX0_prince_3 := dk_seg dksX0_prince_2 23 rfl rfl
theorem dksX0_prince_4 : cX0_prince.data.toList.drop 94 = dktX0_prince_4 := dk_seg dksX0_prince_3 23 rfl rfl
theorem dksX0_prince_5 : cX0_prince.data.toList.drop 116 = dktX0_prince_5 := dk_seg dksX0_prince_4 22 rfl rfl
theorem dX0_prince_0 : decode cX0_prince 0 = .ok (.iload_n 1, 1) := dk_27 (dk_at dksX0_prince_0 0 rfl rfl)
theorem dX0_prince_1 : decode cX0_prince 1 = .ok (.i2l, 1) := dk_133 (dk_at dksX0_prince_0 1 rfl rfl)
theorem dX0_prince_2 : decode cX0_prince 2 = .ok (.lconst 0, 1) := dk_9 (dk_at dksX0_prince_0 2 rfl rfl)
theorem dX0_prince_3 : decode cX0_prince 3 = .ok (.ldc2_w 166, 3) := dk_20 0 166 (dk_at dksX0_prince_0 3 rfl rfl)
theorem dX0_prince_6 : decode cX0_prince 6 = .ok (.invokestatic 98, 3) := dk_184 0 98 (dk_at dksX0_prince_0 6 rfl rfl)
theorem dX0_prince_9 : decode cX0_prince 9 = .ok (.ifCond .eq 15, 3) := dk_153 0 15 (dk_at dksX0_prince_0 9 rfl rfl)
theorem dX0_prince_12 : decode cX0_prince 12 = .ok (.iload_n 2, 1) := dk_28 (dk_at dksX0_prince_0 12 rfl rfl)
theorem dX0_prince_13 : decode cX0_prince 13 = .ok (.i2l, 1) := dk_133 (dk_at dksX0_prince_0 13 rfl rfl)
theorem dX0_prince_14 : decode cX0_prince 14 = .ok (.lconst 0, 1) := dk_9 (dk_at dksX0_prince_0 14 rfl rfl)
theorem dX0_prince_15 : decode cX0_prince 15 = .ok (.ldc2_w 168, 3) := dk_20 0 168 (dk_at dksX0_prince_0 15 rfl rfl)
theorem dX0_prince_18 : decode cX0_prince 18 = .ok (.invokestatic 98, 3) := dk_184 0 98 (dk_at dksX0_prince_0 18 rfl rfl)
theorem dX0_prince_21 : decode cX0_prince 21 = .ok (.ifCond .ne 6, 3) := dk_154 0 6 (dk_at dksX0_prince_0 21 rfl rfl)
theorem dX0_prince_24 : decode cX0_prince 24 = .ok (.bipush (-102), 2) := dk_16 154 (dk_at dksX0_prince_1 0 rfl rfl)
theorem dX0_prince_26 : decode cX0_prince 26 = .ok (.ireturn, 1) := dk_172 (dk_at dksX0_prince_1 2 rfl rfl)
theorem dX0_prince_27 : decode cX0_prince 27 = .ok (.aload_n 0, 1) := dk_42 (dk_at dksX0_prince_1 3 rfl rfl)
theorem dX0_prince_28 : decode cX0_prince 28 = .ok (.invokevirtual 159, 3) := dk_182 0 159 (dk_at dksX0_prince_1 4 rfl rfl)
theorem dX0_prince_31 : decode cX0_prince 31 = .ok (.ifCond .ne 6, 3) := dk_154 0 6 (dk_at dksX0_prince_1 7 rfl rfl)
theorem dX0_prince_34 : decode cX0_prince 34 = .ok (.bipush (-103), 2) := dk_16 153 (dk_at dksX0_prince_1 10 rfl rfl)
theorem dX0_prince_36 : decode cX0_prince 36 = .ok (.ireturn, 1) := dk_172 (dk_at dksX0_prince_1 12 rfl rfl)
theorem dX0_prince_37 : decode cX0_prince 37 = .ok (.aload_n 0, 1) := dk_42 (dk_at dksX0_prince_1 13 rfl rfl)
theorem dX0_prince_38 : decode cX0_prince 38 = .ok (.getfield 130, 3) := dk_180 0 130 (dk_at dksX0_prince_1 14 rfl rfl)
theorem dX0_prince_41 : decode cX0_prince 41 = .ok (.iconst 3, 1) := dk_6 (dk_at dksX0_prince_1 17 rfl rfl)
theorem dX0_prince_42 : decode cX0_prince 42 = .ok (.if_icmp .ne 6, 3) := dk_160 0 6 (dk_at dksX0_prince_1 18 rfl rfl)
theorem dX0_prince_45 : decode cX0_prince 45 = .ok (.bipush (-104), 2) := dk_16 152 (dk_at dksX0_prince_1 21 rfl rfl)
theorem dX0_prince_47 : decode cX0_prince 47 = .ok (.ireturn, 1) := dk_172 (dk_at dksX0_prince_1 23 rfl rfl)
theorem dX0_prince_48 : decode cX0_prince 48 = .ok (.iload_n 1, 1) := dk_27 (dk_at dksX0_prince_2 0 rfl rfl)
theorem dX0_prince_49 : decode cX0_prince 49 = .ok (.invokestatic 170, 3) := dk_184 0 170 (dk_at dksX0_prince_2 1 rfl rfl)
theorem dX0_prince_52 : decode cX0_prince 52 = .ok (.astore_n 3, 1) := dk_78 (dk_at dksX0_prince_2 4 rfl rfl)
theorem dX0_prince_53 : decode cX0_prince 53 = .ok (.aload_n 3, 1) := dk_45 (dk_at dksX0_prince_2 5 rfl rfl)
theorem dX0_prince_54 : decode cX0_prince 54 = .ok (.aload_n 0, 1) := dk_42 (dk_at dksX0_prince_2 6 rfl rfl)
theorem dX0_prince_55 : decode cX0_prince 55 = .ok (.getfield 130, 3) := dk_180 0 130 (dk_at dksX0_prince_2 7 rfl rfl)
theorem dX0_prince_58 : decode cX0_prince 58 = .ok (.putfield 174, 3) := dk_181 0 174 (dk_at dksX0_prince_2 10 rfl rfl)
theorem dX0_prince_61 : decode cX0_prince 61 = .ok (.aload_n 3, 1) := dk_45 (dk_at dksX0_prince_2 13 rfl rfl)
theorem dX0_prince_62 : decode cX0_prince 62 = .ok (.iload_n 2, 1) := dk_28 (dk_at dksX0_prince_2 14 rfl rfl)
theorem dX0_prince_63 : decode cX0_prince 63 = .ok (.putfield 177, 3) := dk_181 0 177 (dk_at dksX0_prince_2 15 rfl rfl)
theorem dX0_prince_66 : decode cX0_prince 66 = .ok (.aload_n 3, 1) := dk_45 (dk_at dksX0_prince_2 18 rfl rfl)
theorem dX0_prince_67 : decode cX0_prince 67 = .ok (.aload_n 0, 1) := dk_42 (dk_at dksX0_prince_2 19 rfl rfl)
theorem dX0_prince_68 : decode cX0_prince 68 = .ok (.getfield 130, 3) := dk_180 0 130 (dk_at dksX0_prince_2 20 rfl rfl)
theorem dX0_prince_71 : decode cX0_prince 71 = .ok (.putfield 180, 3) := dk_181 0 180 (dk_at dksX0_prince_3 0 rfl rfl)
theorem dX0_prince_74 : decode cX0_prince 74 = .ok (.aload_n 0, 1) := dk_42 (dk_at dksX0_prince_3 3 rfl rfl)
theorem dX0_prince_75 : decode cX0_prince 75 = .ok (.getfield 34, 3) := dk_180 0 34 (dk_at dksX0_prince_3 4 rfl rfl)
theorem dX0_prince_78 : decode cX0_prince 78 = .ok (.aload_n 0, 1) := dk_42 (dk_at dksX0_prince_3 7 rfl rfl)
theorem dX0_prince_79 : decode cX0_prince 79 = .ok (.getfield 130, 3) := dk_180 0 130 (dk_at dksX0_prince_3 8 rfl rfl)
theorem dX0_prince_82 : decode cX0_prince 82 = .ok (.aload_n 3, 1) := dk_45 (dk_at dksX0_prince_3 11 rfl rfl)
theorem dX0_prince_83 : decode cX0_prince 83 = .ok (.aastore, 1) := dk_83 (dk_at dksX0_prince_3 12 rfl rfl)
theorem dX0_prince_84 : decode cX0_prince 84 = .ok (.iconst 0, 1) := dk_3 (dk_at dksX0_prince_3 13 rfl rfl)
theorem dX0_prince_85 : decode cX0_prince 85 = .ok (.istore 4, 2) := dk_54 4 (dk_at dksX0_prince_3 14 rfl rfl)
theorem dX0_prince_87 : decode cX0_prince 87 = .ok (.iload 4, 2) := dk_21 4 (dk_at dksX0_prince_3 16 rfl rfl)
theorem dX0_prince_89 : decode cX0_prince 89 = .ok (.iconst 3, 1) := dk_6 (dk_at dksX0_prince_3 18 rfl rfl)
theorem dX0_prince_90 : decode cX0_prince 90 = .ok (.if_icmp .ge 24, 3) := dk_162 0 24 (dk_at dksX0_prince_3 19 rfl rfl)
theorem dX0_prince_93 : decode cX0_prince 93 = .ok (.aload_n 0, 1) := dk_42 (dk_at dksX0_prince_3 22 rfl rfl)
theorem dX0_prince_94 : decode cX0_prince 94 = .ok (.getfield 38, 3) := dk_180 0 38 (dk_at dksX0_prince_4 0 rfl rfl)
theorem dX0_prince_97 : decode cX0_prince 97 = .ok (.iconst 3, 1) := dk_6 (dk_at dksX0_prince_4 3 rfl rfl)
theorem dX0_prince_98 : decode cX0_prince 98 = .ok (.aload_n 0, 1) := dk_42 (dk_at dksX0_prince_4 4 rfl rfl)
theorem dX0_prince_99 : decode cX0_prince 99 = .ok (.getfield 130, 3) := dk_180 0 130 (dk_at dksX0_prince_4 5 rfl rfl)
theorem dX0_prince_102 : decode cX0_prince 102 = .ok (.imul, 1) := dk_104 (dk_at dksX0_prince_4 8 rfl rfl)
theorem dX0_prince_103 : decode cX0_prince 103 = .ok (.iload 4, 2) := dk_21 4 (dk_at dksX0_prince_4 9 rfl rfl)
theorem dX0_prince_105 : decode cX0_prince 105 = .ok (.iadd, 1) := dk_96 (dk_at dksX0_prince_4 11 rfl rfl)
theorem dX0_prince_106 : decode cX0_prince 106 = .ok (.iconst 5, 1) := dk_8 (dk_at dksX0_prince_4 12 rfl rfl)
theorem dX0_prince_107 : decode cX0_prince 107 = .ok (.iastore, 1) := dk_79 (dk_at dksX0_prince_4 13 rfl rfl)
theorem dX0_prince_108 : decode cX0_prince 108 = .ok (.iinc 4 1, 3) := dk_132 4 1 (dk_at dksX0_prince_4 14 rfl rfl)
theorem dX0_prince_111 : decode cX0_prince 111 = .ok (.goto (-24), 3) := dk_167 255 232 (dk_at dksX0_prince_4 17 rfl rfl)
theorem dX0_prince_114 : decode cX0_prince 114 = .ok (.aload_n 0, 1) := dk_42 (dk_at dksX0_prince_4 20 rfl rfl)
theorem dX0_prince_115 : decode cX0_prince 115 = .ok (.dup, 1) := dk_89 (dk_at dksX0_prince_4 21 rfl rfl)
theorem dX0_prince_116 : decode cX0_prince 116 = .ok (.getfield 130, 3) := dk_180 0 130 (dk_at dksX0_prince_5 0 rfl rfl)
theorem dX0_prince_119 : decode cX0_prince 119 = .ok (.iconst 1, 1) := dk_4 (dk_at dksX0_prince_5 3 rfl rfl)
theorem dX0_prince_120 : decode cX0_prince 120 = .ok (.iadd, 1) := dk_96 (dk_at dksX0_prince_5 4 rfl rfl)
theorem dX0_prince_121 : decode cX0_prince 121 = .ok (.putfield 130, 3) := dk_181 0 130 (dk_at dksX0_prince_5 5 rfl rfl)
theorem dX0_prince_124 : decode cX0_prince 124 = .ok (.aload_n 3, 1) := dk_45 (dk_at dksX0_prince_5 8 rfl rfl)
theorem dX0_prince_125 : decode cX0_prince 125 = .ok (.getfield 174, 3) := dk_180 0 174 (dk_at dksX0_prince_5 9 rfl rfl)
theorem dX0_prince_128 : decode cX0_prince 128 = .ok (.ireturn, 1) := dk_172 (dk_at dksX0_prince_5 12 rfl rfl)
abbrev cX0_made : ByteArray := prog_1_method_3_code
def yX0_made : MethodName := ⟨RX0, "made", "(I)LBeatenInstead$Prince;"⟩
def dkwX0_made_3 : List UInt8 := [187, 0, 13, 89, 183, 0, 15, 176, 187, 0, 16, 89, 183, 0, 18, 176]
abbrev dktX0_made_3 : List UInt8 := dkwX0_made_3 ++ []
def dkwX0_made_2 : List UInt8 := [187, 0, 1, 89, 183, 0, 3, 176, 187, 0, 7, 89, 183, 0, 9, 176, 187, 0, 10, 89, 183, 0, 12, 176]
abbrev dktX0_made_2 : List UInt8 := dkwX0_made_2 ++ dktX0_made_3
def dkwX0_made_1 : List UInt8 := [170, 0, 0, 0, 0, 0, 63, 0, 0, 0, 0, 0, 0, 0, 3, 0, 0, 0, 31, 0, 0, 0, 39, 0, 0, 0, 47, 0, 0, 0, 55]
abbrev dktX0_made_1 : List UInt8 := dkwX0_made_1 ++ dktX0_made_2
def dkwX0_made_0 : List UInt8 := [26]
abbrev dktX0_made_0 : List UInt8 := dkwX0_made_0 ++ dktX0_made_1
theorem dksX0_made_0 : cX0_made.data.toList.drop 0 = dktX0_made_0 := by decide +kernel
theorem dksX0_made_1 : cX0_made.data.toList.drop 1 = dktX0_made_1 := dk_seg dksX0_made_0 1 rfl rfl
theorem dksX0_made_2 : cX0_made.data.toList.drop 32 = dktX0_made_2 := dk_seg dksX0_made_1 31 rfl rfl
theorem dksX0_made_3 : cX0_made.data.toList.drop 56 = dktX0_made_3 := dk_seg dksX0_made_2 24 rfl rfl
theorem dX0_made_0 : decode cX0_made 0 = .ok (.iload_n 0, 1) := dk_26 (dk_at dksX0_made_0 0 rfl rfl)
theorem dX0_made_1 : decode cX0_made 1 = .ok (.tableswitch 63 0 3 #[31, 39, 47, 55], 31) := by decide +kernel
theorem dX0_made_32 : decode cX0_made 32 = .ok (.new 1, 3) := dk_187 0 1 (dk_at dksX0_made_2 0 rfl rfl)
theorem dX0_made_35 : decode cX0_made 35 = .ok (.dup, 1) := dk_89 (dk_at dksX0_made_2 3 rfl rfl)
theorem dX0_made_36 : decode cX0_made 36 = .ok (.invokespecial 3, 3) := dk_183 0 3 (dk_at dksX0_made_2 4 rfl rfl)
theorem dX0_made_39 : decode cX0_made 39 = .ok (.areturn, 1) := dk_176 (dk_at dksX0_made_2 7 rfl rfl)
theorem dX0_made_40 : decode cX0_made 40 = .ok (.new 7, 3) := dk_187 0 7 (dk_at dksX0_made_2 8 rfl rfl)
theorem dX0_made_43 : decode cX0_made 43 = .ok (.dup, 1) := dk_89 (dk_at dksX0_made_2 11 rfl rfl)
theorem dX0_made_44 : decode cX0_made 44 = .ok (.invokespecial 9, 3) := dk_183 0 9 (dk_at dksX0_made_2 12 rfl rfl)
theorem dX0_made_47 : decode cX0_made 47 = .ok (.areturn, 1) := dk_176 (dk_at dksX0_made_2 15 rfl rfl)
theorem dX0_made_48 : decode cX0_made 48 = .ok (.new 10, 3) := dk_187 0 10 (dk_at dksX0_made_2 16 rfl rfl)
theorem dX0_made_51 : decode cX0_made 51 = .ok (.dup, 1) := dk_89 (dk_at dksX0_made_2 19 rfl rfl)
theorem dX0_made_52 : decode cX0_made 52 = .ok (.invokespecial 12, 3) := dk_183 0 12 (dk_at dksX0_made_2 20 rfl rfl)
theorem dX0_made_55 : decode cX0_made 55 = .ok (.areturn, 1) := dk_176 (dk_at dksX0_made_2 23 rfl rfl)
theorem dX0_made_56 : decode cX0_made 56 = .ok (.new 13, 3) := dk_187 0 13 (dk_at dksX0_made_3 0 rfl rfl)
theorem dX0_made_59 : decode cX0_made 59 = .ok (.dup, 1) := dk_89 (dk_at dksX0_made_3 3 rfl rfl)
theorem dX0_made_60 : decode cX0_made 60 = .ok (.invokespecial 15, 3) := dk_183 0 15 (dk_at dksX0_made_3 4 rfl rfl)
theorem dX0_made_63 : decode cX0_made 63 = .ok (.areturn, 1) := dk_176 (dk_at dksX0_made_3 7 rfl rfl)
theorem dX0_made_64 : decode cX0_made 64 = .ok (.new 16, 3) := dk_187 0 16 (dk_at dksX0_made_3 8 rfl rfl)
theorem dX0_made_67 : decode cX0_made 67 = .ok (.dup, 1) := dk_89 (dk_at dksX0_made_3 11 rfl rfl)
theorem dX0_made_68 : decode cX0_made 68 = .ok (.invokespecial 18, 3) := dk_183 0 18 (dk_at dksX0_made_3 12 rfl rfl)
theorem dX0_made_71 : decode cX0_made 71 = .ok (.areturn, 1) := dk_176 (dk_at dksX0_made_3 15 rfl rfl)
abbrev cX0_about : ByteArray := prog_1_method_22_code
def yX0_about : MethodName := ⟨RX0, "about", "(II)I"⟩
def dkwX0_about_1 : List UInt8 := [172]
abbrev dktX0_about_1 : List UInt8 := dkwX0_about_1 ++ []
def dkwX0_about_0 : List UInt8 := [42, 27, 182, 0, 197, 153, 0, 17, 42, 42, 180, 0, 34, 27, 50, 28, 182, 0, 200, 167, 0, 5, 16, 155]
abbrev dktX0_about_0 : List UInt8 := dkwX0_about_0 ++ dktX0_about_1
theorem dksX0_about_0 : cX0_about.data.toList.drop 0 = dktX0_about_0 := by decide +kernel
theorem dksX0_about_1 : cX0_about.data.toList.drop 24 = dktX0_about_1 := dk_seg dksX0_about_0 24 rfl rfl
theorem dX0_about_0 : decode cX0_about 0 = .ok (.aload_n 0, 1) := dk_42 (dk_at dksX0_about_0 0 rfl rfl)
theorem dX0_about_1 : decode cX0_about 1 = .ok (.iload_n 1, 1) := dk_27 (dk_at dksX0_about_0 1 rfl rfl)
theorem dX0_about_2 : decode cX0_about 2 = .ok (.invokevirtual 197, 3) := dk_182 0 197 (dk_at dksX0_about_0 2 rfl rfl)
theorem dX0_about_5 : decode cX0_about 5 = .ok (.ifCond .eq 17, 3) := dk_153 0 17 (dk_at dksX0_about_0 5 rfl rfl)
theorem dX0_about_8 : decode cX0_about 8 = .ok (.aload_n 0, 1) := dk_42 (dk_at dksX0_about_0 8 rfl rfl)
theorem dX0_about_9 : decode cX0_about 9 = .ok (.aload_n 0, 1) := dk_42 (dk_at dksX0_about_0 9 rfl rfl)
theorem dX0_about_10 : decode cX0_about 10 = .ok (.getfield 34, 3) := dk_180 0 34 (dk_at dksX0_about_0 10 rfl rfl)
theorem dX0_about_13 : decode cX0_about 13 = .ok (.iload_n 1, 1) := dk_27 (dk_at dksX0_about_0 13 rfl rfl)
theorem dX0_about_14 : decode cX0_about 14 = .ok (.aaload, 1) := dk_50 (dk_at dksX0_about_0 14 rfl rfl)
theorem dX0_about_15 : decode cX0_about 15 = .ok (.iload_n 2, 1) := dk_28 (dk_at dksX0_about_0 15 rfl rfl)
theorem dX0_about_16 : decode cX0_about 16 = .ok (.invokevirtual 200, 3) := dk_182 0 200 (dk_at dksX0_about_0 16 rfl rfl)
theorem dX0_about_19 : decode cX0_about 19 = .ok (.goto 5, 3) := dk_167 0 5 (dk_at dksX0_about_0 19 rfl rfl)
theorem dX0_about_22 : decode cX0_about 22 = .ok (.bipush (-101), 2) := dk_16 155 (dk_at dksX0_about_0 22 rfl rfl)
theorem dX0_about_24 : decode cX0_about 24 = .ok (.ireturn, 1) := dk_172 (dk_at dksX0_about_1 0 rfl rfl)
abbrev cX0_isPrince : ByteArray := prog_1_method_13_code
def yX0_isPrince : MethodName := ⟨RX0, "isPrince", "(I)Z"⟩
def dkwX0_isPrince_0 : List UInt8 := [27, 133, 9, 42, 180, 0, 130, 4, 100, 133, 184, 0, 98, 172]
abbrev dktX0_isPrince_0 : List UInt8 := dkwX0_isPrince_0 ++ []
theorem dksX0_isPrince_0 : cX0_isPrince.data.toList.drop 0 = dktX0_isPrince_0 := by decide +kernel
theorem dX0_isPrince_0 : decode cX0_isPrince 0 = .ok (.iload_n 1, 1) := dk_27 (dk_at dksX0_isPrince_0 0 rfl rfl)
theorem dX0_isPrince_1 : decode cX0_isPrince 1 = .ok (.i2l, 1) := dk_133 (dk_at dksX0_isPrince_0 1 rfl rfl)
theorem dX0_isPrince_2 : decode cX0_isPrince 2 = .ok (.lconst 0, 1) := dk_9 (dk_at dksX0_isPrince_0 2 rfl rfl)
theorem dX0_isPrince_3 : decode cX0_isPrince 3 = .ok (.aload_n 0, 1) := dk_42 (dk_at dksX0_isPrince_0 3 rfl rfl)
theorem dX0_isPrince_4 : decode cX0_isPrince 4 = .ok (.getfield 130, 3) := dk_180 0 130 (dk_at dksX0_isPrince_0 4 rfl rfl)
theorem dX0_isPrince_7 : decode cX0_isPrince 7 = .ok (.iconst 1, 1) := dk_4 (dk_at dksX0_isPrince_0 7 rfl rfl)
theorem dX0_isPrince_8 : decode cX0_isPrince 8 = .ok (.isub, 1) := dk_100 (dk_at dksX0_isPrince_0 8 rfl rfl)
theorem dX0_isPrince_9 : decode cX0_isPrince 9 = .ok (.i2l, 1) := dk_133 (dk_at dksX0_isPrince_0 9 rfl rfl)
theorem dX0_isPrince_10 : decode cX0_isPrince 10 = .ok (.invokestatic 98, 3) := dk_184 0 98 (dk_at dksX0_isPrince_0 10 rfl rfl)
theorem dX0_isPrince_13 : decode cX0_isPrince 13 = .ok (.ireturn, 1) := dk_172 (dk_at dksX0_isPrince_0 13 rfl rfl)
abbrev cX0_tellPrince : ByteArray := prog_1_method_21_code
def yX0_tellPrince : MethodName := ⟨RX0, "tellPrince", "(LBeatenInstead$Prince;I)I"⟩
def dkwX0_tellPrince_4 : List UInt8 := [172, 43, 180, 0, 141, 172, 16, 154, 172]
abbrev dktX0_tellPrince_4 : List UInt8 := dkwX0_tellPrince_4 ++ []
def dkwX0_tellPrince_3 : List UInt8 := [43, 182, 0, 187, 172, 43, 180, 0, 177, 172, 43, 180, 0, 180, 172, 43, 42, 43, 182, 0, 190, 182, 0, 194]
abbrev dktX0_tellPrince_3 : List UInt8 := dkwX0_tellPrince_3 ++ dktX0_tellPrince_4
def dkwX0_tellPrince_2 : List UInt8 := [170, 0, 0, 0, 0, 0, 0, 66, 0, 0, 0, 0, 0, 0, 0, 4, 0, 0, 0, 36, 0, 0, 0, 41, 0, 0, 0, 46, 0, 0, 0, 51, 0, 0, 0, 61]
abbrev dktX0_tellPrince_2 : List UInt8 := dkwX0_tellPrince_2 ++ dktX0_tellPrince_3
def dkwX0_tellPrince_1 : List UInt8 := [28, 96, 16, 10, 100, 46, 172, 28]
abbrev dktX0_tellPrince_1 : List UInt8 := dkwX0_tellPrince_1 ++ dktX0_tellPrince_2
def dkwX0_tellPrince_0 : List UInt8 := [28, 133, 20, 0, 183, 20, 0, 185, 184, 0, 98, 153, 0, 20, 42, 180, 0, 38, 6, 43, 180, 0, 174, 104]
abbrev dktX0_tellPrince_0 : List UInt8 := dkwX0_tellPrince_0 ++ dktX0_tellPrince_1
theorem dksX0_tellPrince_0 : cX0_tellPrince.data.toList.drop 0 = dktX0_tellPrince_0 := by decide +kernel
theorem dksX0_tellPrince_1 : cX0_tellPrince.data.toList.drop 24 = dktX0_tellPrince_1 := dk_seg dksX0_tellPrince_0 24 rfl rfl
theorem dksX0_tellPrince_2 : cX0_tellPrince.data.toList.drop 32 = dktX0_tellPrince_2 := dk_seg dksX0_tellPrince_1 8 rfl rfl
theorem dksX0_tellPrince_3 : cX0_tellPrince.data.toList.drop 68 = dktX0_tellPrince_3 := dk_seg dksX0_tellPrince_2 36 rfl rfl
theorem dksX0_tellPrince_4 : cX0_tellPrince.data.toList.drop 92 = dktX0_tellPrince_4 := dk_seg dksX0_tellPrince_3 24 rfl rfl
theorem dX0_tellPrince_0 : decode cX0_tellPrince 0 = .ok (.iload_n 2, 1) := dk_28 (dk_at dksX0_tellPrince_0 0 rfl rfl)
theorem dX0_tellPrince_1 : decode cX0_tellPrince 1 = .ok (.i2l, 1) := dk_133 (dk_at dksX0_tellPrince_0 1 rfl rfl)
theorem dX0_tellPrince_2 : decode cX0_tellPrince 2 = .ok (.ldc2_w 183, 3) := dk_20 0 183 (dk_at dksX0_tellPrince_0 2 rfl rfl)
theorem dX0_tellPrince_5 : decode cX0_tellPrince 5 = .ok (.ldc2_w 185, 3) := dk_20 0 185 (dk_at dksX0_tellPrince_0 5 rfl rfl)
theorem dX0_tellPrince_8 : decode cX0_tellPrince 8 = .ok (.invokestatic 98, 3) := dk_184 0 98 (dk_at dksX0_tellPrince_0 8 rfl rfl)
theorem dX0_tellPrince_11 : decode cX0_tellPrince 11 = .ok (.ifCond .eq 20, 3) := dk_153 0 20 (dk_at dksX0_tellPrince_0 11 rfl rfl)
theorem dX0_tellPrince_14 : decode cX0_tellPrince 14 = .ok (.aload_n 0, 1) := dk_42 (dk_at dksX0_tellPrince_0 14 rfl rfl)
theorem dX0_tellPrince_15 : decode cX0_tellPrince 15 = .ok (.getfield 38, 3) := dk_180 0 38 (dk_at dksX0_tellPrince_0 15 rfl rfl)
theorem dX0_tellPrince_18 : decode cX0_tellPrince 18 = .ok (.iconst 3, 1) := dk_6 (dk_at dksX0_tellPrince_0 18 rfl rfl)
theorem dX0_tellPrince_19 : decode cX0_tellPrince 19 = .ok (.aload_n 1, 1) := dk_43 (dk_at dksX0_tellPrince_0 19 rfl rfl)
theorem dX0_tellPrince_20 : decode cX0_tellPrince 20 = .ok (.getfield 174, 3) := dk_180 0 174 (dk_at dksX0_tellPrince_0 20 rfl rfl)
theorem dX0_tellPrince_23 : decode cX0_tellPrince 23 = .ok (.imul, 1) := dk_104 (dk_at dksX0_tellPrince_0 23 rfl rfl)
theorem dX0_tellPrince_24 : decode cX0_tellPrince 24 = .ok (.iload_n 2, 1) := dk_28 (dk_at dksX0_tellPrince_1 0 rfl rfl)
theorem dX0_tellPrince_25 : decode cX0_tellPrince 25 = .ok (.iadd, 1) := dk_96 (dk_at dksX0_tellPrince_1 1 rfl rfl)
theorem dX0_tellPrince_26 : decode cX0_tellPrince 26 = .ok (.bipush 10, 2) := dk_16 10 (dk_at dksX0_tellPrince_1 2 rfl rfl)
theorem dX0_tellPrince_28 : decode cX0_tellPrince 28 = .ok (.isub, 1) := dk_100 (dk_at dksX0_tellPrince_1 4 rfl rfl)
theorem dX0_tellPrince_29 : decode cX0_tellPrince 29 = .ok (.iaload, 1) := dk_46 (dk_at dksX0_tellPrince_1 5 rfl rfl)
theorem dX0_tellPrince_30 : decode cX0_tellPrince 30 = .ok (.ireturn, 1) := dk_172 (dk_at dksX0_tellPrince_1 6 rfl rfl)
theorem dX0_tellPrince_31 : decode cX0_tellPrince 31 = .ok (.iload_n 2, 1) := dk_28 (dk_at dksX0_tellPrince_1 7 rfl rfl)
theorem dX0_tellPrince_32 : decode cX0_tellPrince 32 = .ok (.tableswitch 66 0 4 #[36, 41, 46, 51, 61], 36) := by decide +kernel
theorem dX0_tellPrince_68 : decode cX0_tellPrince 68 = .ok (.aload_n 1, 1) := dk_43 (dk_at dksX0_tellPrince_3 0 rfl rfl)
theorem dX0_tellPrince_69 : decode cX0_tellPrince 69 = .ok (.invokevirtual 187, 3) := dk_182 0 187 (dk_at dksX0_tellPrince_3 1 rfl rfl)
theorem dX0_tellPrince_72 : decode cX0_tellPrince 72 = .ok (.ireturn, 1) := dk_172 (dk_at dksX0_tellPrince_3 4 rfl rfl)
theorem dX0_tellPrince_73 : decode cX0_tellPrince 73 = .ok (.aload_n 1, 1) := dk_43 (dk_at dksX0_tellPrince_3 5 rfl rfl)
theorem dX0_tellPrince_74 : decode cX0_tellPrince 74 = .ok (.getfield 177, 3) := dk_180 0 177 (dk_at dksX0_tellPrince_3 6 rfl rfl)
theorem dX0_tellPrince_77 : decode cX0_tellPrince 77 = .ok (.ireturn, 1) := dk_172 (dk_at dksX0_tellPrince_3 9 rfl rfl)
theorem dX0_tellPrince_78 : decode cX0_tellPrince 78 = .ok (.aload_n 1, 1) := dk_43 (dk_at dksX0_tellPrince_3 10 rfl rfl)
theorem dX0_tellPrince_79 : decode cX0_tellPrince 79 = .ok (.getfield 180, 3) := dk_180 0 180 (dk_at dksX0_tellPrince_3 11 rfl rfl)
theorem dX0_tellPrince_82 : decode cX0_tellPrince 82 = .ok (.ireturn, 1) := dk_172 (dk_at dksX0_tellPrince_3 14 rfl rfl)
theorem dX0_tellPrince_83 : decode cX0_tellPrince 83 = .ok (.aload_n 1, 1) := dk_43 (dk_at dksX0_tellPrince_3 15 rfl rfl)
theorem dX0_tellPrince_84 : decode cX0_tellPrince 84 = .ok (.aload_n 0, 1) := dk_42 (dk_at dksX0_tellPrince_3 16 rfl rfl)
theorem dX0_tellPrince_85 : decode cX0_tellPrince 85 = .ok (.aload_n 1, 1) := dk_43 (dk_at dksX0_tellPrince_3 17 rfl rfl)
theorem dX0_tellPrince_86 : decode cX0_tellPrince 86 = .ok (.invokevirtual 190, 3) := dk_182 0 190 (dk_at dksX0_tellPrince_3 18 rfl rfl)
theorem dX0_tellPrince_89 : decode cX0_tellPrince 89 = .ok (.invokevirtual 194, 3) := dk_182 0 194 (dk_at dksX0_tellPrince_3 21 rfl rfl)
theorem dX0_tellPrince_92 : decode cX0_tellPrince 92 = .ok (.ireturn, 1) := dk_172 (dk_at dksX0_tellPrince_4 0 rfl rfl)
theorem dX0_tellPrince_93 : decode cX0_tellPrince 93 = .ok (.aload_n 1, 1) := dk_43 (dk_at dksX0_tellPrince_4 1 rfl rfl)
theorem dX0_tellPrince_94 : decode cX0_tellPrince 94 = .ok (.getfield 141, 3) := dk_180 0 141 (dk_at dksX0_tellPrince_4 2 rfl rfl)
theorem dX0_tellPrince_97 : decode cX0_tellPrince 97 = .ok (.ireturn, 1) := dk_172 (dk_at dksX0_tellPrince_4 5 rfl rfl)
theorem dX0_tellPrince_98 : decode cX0_tellPrince 98 = .ok (.bipush (-102), 2) := dk_16 154 (dk_at dksX0_tellPrince_4 6 rfl rfl)
theorem dX0_tellPrince_100 : decode cX0_tellPrince 100 = .ok (.ireturn, 1) := dk_172 (dk_at dksX0_tellPrince_4 8 rfl rfl)
abbrev cX0_fondOf : ByteArray := prog_1_method_20_code
def yX0_fondOf : MethodName := ⟨RX0, "fondOf", "(LBeatenInstead$Prince;)I"⟩
def dkwX0_fondOf_0 : List UInt8 := [42, 180, 0, 38, 6, 43, 180, 0, 174, 104, 43, 180, 0, 180, 96, 46, 172]
abbrev dktX0_fondOf_0 : List UInt8 := dkwX0_fondOf_0 ++ []
theorem dksX0_fondOf_0 : cX0_fondOf.data.toList.drop 0 = dktX0_fondOf_0 := by decide +kernel
theorem dX0_fondOf_0 : decode cX0_fondOf 0 = .ok (.aload_n 0, 1) := dk_42 (dk_at dksX0_fondOf_0 0 rfl rfl)
theorem dX0_fondOf_1 : decode cX0_fondOf 1 = .ok (.getfield 38, 3) := dk_180 0 38 (dk_at dksX0_fondOf_0 1 rfl rfl)
theorem dX0_fondOf_4 : decode cX0_fondOf 4 = .ok (.iconst 3, 1) := dk_6 (dk_at dksX0_fondOf_0 4 rfl rfl)
theorem dX0_fondOf_5 : decode cX0_fondOf 5 = .ok (.aload_n 1, 1) := dk_43 (dk_at dksX0_fondOf_0 5 rfl rfl)
theorem dX0_fondOf_6 : decode cX0_fondOf 6 = .ok (.getfield 174, 3) := dk_180 0 174 (dk_at dksX0_fondOf_0 6 rfl rfl)
theorem dX0_fondOf_9 : decode cX0_fondOf 9 = .ok (.imul, 1) := dk_104 (dk_at dksX0_fondOf_0 9 rfl rfl)
theorem dX0_fondOf_10 : decode cX0_fondOf 10 = .ok (.aload_n 1, 1) := dk_43 (dk_at dksX0_fondOf_0 10 rfl rfl)
theorem dX0_fondOf_11 : decode cX0_fondOf 11 = .ok (.getfield 180, 3) := dk_180 0 180 (dk_at dksX0_fondOf_0 11 rfl rfl)
theorem dX0_fondOf_14 : decode cX0_fondOf 14 = .ok (.iadd, 1) := dk_96 (dk_at dksX0_fondOf_0 14 rfl rfl)
theorem dX0_fondOf_15 : decode cX0_fondOf 15 = .ok (.iaload, 1) := dk_46 (dk_at dksX0_fondOf_0 15 rfl rfl)
theorem dX0_fondOf_16 : decode cX0_fondOf 16 = .ok (.ireturn, 1) := dk_172 (dk_at dksX0_fondOf_0 16 rfl rfl)
abbrev cX0_as : ByteArray := prog_1_method_24_code
def yX0_as : MethodName := ⟨RX0, "as", "(II)I"⟩
def dkwX0_as_1 : List UInt8 := [16, 154, 172, 42, 180, 0, 34, 27, 50, 28, 184, 0, 208, 172, 78, 2, 172]
abbrev dktX0_as_1 : List UInt8 := dkwX0_as_1 ++ []
def dkwX0_as_0 : List UInt8 := [42, 27, 182, 0, 197, 154, 0, 6, 16, 155, 172, 28, 133, 9, 20, 0, 166, 184, 0, 98, 154, 0, 6]
abbrev dktX0_as_0 : List UInt8 := dkwX0_as_0 ++ dktX0_as_1
theorem dksX0_as_0 : cX0_as.data.toList.drop 0 = dktX0_as_0 := by decide +kernel
theorem dksX0_as_1 : cX0_as.data.toList.drop 23 = dktX0_as_1 := dk_seg dksX0_as_0 23 rfl rfl
theorem dX0_as_0 : decode cX0_as 0 = .ok (.aload_n 0, 1) := dk_42 (dk_at dksX0_as_0 0 rfl rfl)
theorem dX0_as_1 : decode cX0_as 1 = .ok (.iload_n 1, 1) := dk_27 (dk_at dksX0_as_0 1 rfl rfl)
theorem dX0_as_2 : decode cX0_as 2 = .ok (.invokevirtual 197, 3) := dk_182 0 197 (dk_at dksX0_as_0 2 rfl rfl)
theorem dX0_as_5 : decode cX0_as 5 = .ok (.ifCond .ne 6, 3) := dk_154 0 6 (dk_at dksX0_as_0 5 rfl rfl)
theorem dX0_as_8 : decode cX0_as 8 = .ok (.bipush (-101), 2) := dk_16 155 (dk_at dksX0_as_0 8 rfl rfl)
theorem dX0_as_10 : decode cX0_as 10 = .ok (.ireturn, 1) := dk_172 (dk_at dksX0_as_0 10 rfl rfl)
theorem dX0_as_11 : decode cX0_as 11 = .ok (.iload_n 2, 1) := dk_28 (dk_at dksX0_as_0 11 rfl rfl)
theorem dX0_as_12 : decode cX0_as 12 = .ok (.i2l, 1) := dk_133 (dk_at dksX0_as_0 12 rfl rfl)
theorem dX0_as_13 : decode cX0_as 13 = .ok (.lconst 0, 1) := dk_9 (dk_at dksX0_as_0 13 rfl rfl)
theorem dX0_as_14 : decode cX0_as 14 = .ok (.ldc2_w 166, 3) := dk_20 0 166 (dk_at dksX0_as_0 14 rfl rfl)
theorem dX0_as_17 : decode cX0_as 17 = .ok (.invokestatic 98, 3) := dk_184 0 98 (dk_at dksX0_as_0 17 rfl rfl)
theorem dX0_as_20 : decode cX0_as 20 = .ok (.ifCond .ne 6, 3) := dk_154 0 6 (dk_at dksX0_as_0 20 rfl rfl)
theorem dX0_as_23 : decode cX0_as 23 = .ok (.bipush (-102), 2) := dk_16 154 (dk_at dksX0_as_1 0 rfl rfl)
theorem dX0_as_25 : decode cX0_as 25 = .ok (.ireturn, 1) := dk_172 (dk_at dksX0_as_1 2 rfl rfl)
theorem dX0_as_26 : decode cX0_as 26 = .ok (.aload_n 0, 1) := dk_42 (dk_at dksX0_as_1 3 rfl rfl)
theorem dX0_as_27 : decode cX0_as 27 = .ok (.getfield 34, 3) := dk_180 0 34 (dk_at dksX0_as_1 4 rfl rfl)
theorem dX0_as_30 : decode cX0_as 30 = .ok (.iload_n 1, 1) := dk_27 (dk_at dksX0_as_1 7 rfl rfl)
theorem dX0_as_31 : decode cX0_as 31 = .ok (.aaload, 1) := dk_50 (dk_at dksX0_as_1 8 rfl rfl)
theorem dX0_as_32 : decode cX0_as 32 = .ok (.iload_n 2, 1) := dk_28 (dk_at dksX0_as_1 9 rfl rfl)
theorem dX0_as_33 : decode cX0_as 33 = .ok (.invokestatic 208, 3) := dk_184 0 208 (dk_at dksX0_as_1 10 rfl rfl)
theorem dX0_as_36 : decode cX0_as 36 = .ok (.ireturn, 1) := dk_172 (dk_at dksX0_as_1 13 rfl rfl)
theorem dX0_as_37 : decode cX0_as 37 = .ok (.astore_n 3, 1) := dk_78 (dk_at dksX0_as_1 14 rfl rfl)
theorem dX0_as_38 : decode cX0_as 38 = .ok (.iconst (-1), 1) := dk_2 (dk_at dksX0_as_1 15 rfl rfl)
theorem dX0_as_39 : decode cX0_as 39 = .ok (.ireturn, 1) := dk_172 (dk_at dksX0_as_1 16 rfl rfl)
abbrev cX0_castTo : ByteArray := prog_1_method_23_code
def yX0_castTo : MethodName := ⟨RX0, "castTo", "(Ljava/lang/Object;I)I"⟩
def dkwX0_castTo_3 : List UInt8 := [42, 192, 0, 13, 180, 0, 206, 172, 42, 192, 0, 16, 180, 0, 207, 172]
abbrev dktX0_castTo_3 : List UInt8 := dkwX0_castTo_3 ++ []
def dkwX0_castTo_2 : List UInt8 := [42, 192, 0, 1, 180, 0, 174, 172, 42, 192, 0, 7, 180, 0, 204, 172, 42, 192, 0, 10, 180, 0, 205, 172]
abbrev dktX0_castTo_2 : List UInt8 := dkwX0_castTo_2 ++ dktX0_castTo_3
def dkwX0_castTo_1 : List UInt8 := [170, 0, 0, 0, 0, 0, 63, 0, 0, 0, 0, 0, 0, 0, 3, 0, 0, 0, 31, 0, 0, 0, 39, 0, 0, 0, 47, 0, 0, 0, 55]
abbrev dktX0_castTo_1 : List UInt8 := dkwX0_castTo_1 ++ dktX0_castTo_2
def dkwX0_castTo_0 : List UInt8 := [27]
abbrev dktX0_castTo_0 : List UInt8 := dkwX0_castTo_0 ++ dktX0_castTo_1
theorem dksX0_castTo_0 : cX0_castTo.data.toList.drop 0 = dktX0_castTo_0 := by decide +kernel
theorem dksX0_castTo_1 : cX0_castTo.data.toList.drop 1 = dktX0_castTo_1 := dk_seg dksX0_castTo_0 1 rfl rfl
theorem dksX0_castTo_2 : cX0_castTo.data.toList.drop 32 = dktX0_castTo_2 := dk_seg dksX0_castTo_1 31 rfl rfl
theorem dksX0_castTo_3 : cX0_castTo.data.toList.drop 56 = dktX0_castTo_3 := dk_seg dksX0_castTo_2 24 rfl rfl
theorem dX0_castTo_0 : decode cX0_castTo 0 = .ok (.iload_n 1, 1) := dk_27 (dk_at dksX0_castTo_0 0 rfl rfl)
theorem dX0_castTo_1 : decode cX0_castTo 1 = .ok (.tableswitch 63 0 3 #[31, 39, 47, 55], 31) := by decide +kernel
theorem dX0_castTo_32 : decode cX0_castTo 32 = .ok (.aload_n 0, 1) := dk_42 (dk_at dksX0_castTo_2 0 rfl rfl)
theorem dX0_castTo_33 : decode cX0_castTo 33 = .ok (.checkcast 1, 3) := dk_192 0 1 (dk_at dksX0_castTo_2 1 rfl rfl)
theorem dX0_castTo_36 : decode cX0_castTo 36 = .ok (.getfield 174, 3) := dk_180 0 174 (dk_at dksX0_castTo_2 4 rfl rfl)
theorem dX0_castTo_39 : decode cX0_castTo 39 = .ok (.ireturn, 1) := dk_172 (dk_at dksX0_castTo_2 7 rfl rfl)
theorem dX0_castTo_40 : decode cX0_castTo 40 = .ok (.aload_n 0, 1) := dk_42 (dk_at dksX0_castTo_2 8 rfl rfl)
theorem dX0_castTo_41 : decode cX0_castTo 41 = .ok (.checkcast 7, 3) := dk_192 0 7 (dk_at dksX0_castTo_2 9 rfl rfl)
theorem dX0_castTo_44 : decode cX0_castTo 44 = .ok (.getfield 204, 3) := dk_180 0 204 (dk_at dksX0_castTo_2 12 rfl rfl)
theorem dX0_castTo_47 : decode cX0_castTo 47 = .ok (.ireturn, 1) := dk_172 (dk_at dksX0_castTo_2 15 rfl rfl)
theorem dX0_castTo_48 : decode cX0_castTo 48 = .ok (.aload_n 0, 1) := dk_42 (dk_at dksX0_castTo_2 16 rfl rfl)
theorem dX0_castTo_49 : decode cX0_castTo 49 = .ok (.checkcast 10, 3) := dk_192 0 10 (dk_at dksX0_castTo_2 17 rfl rfl)
theorem dX0_castTo_52 : decode cX0_castTo 52 = .ok (.getfield 205, 3) := dk_180 0 205 (dk_at dksX0_castTo_2 20 rfl rfl)
theorem dX0_castTo_55 : decode cX0_castTo 55 = .ok (.ireturn, 1) := dk_172 (dk_at dksX0_castTo_2 23 rfl rfl)
theorem dX0_castTo_56 : decode cX0_castTo 56 = .ok (.aload_n 0, 1) := dk_42 (dk_at dksX0_castTo_3 0 rfl rfl)
theorem dX0_castTo_57 : decode cX0_castTo 57 = .ok (.checkcast 13, 3) := dk_192 0 13 (dk_at dksX0_castTo_3 1 rfl rfl)
theorem dX0_castTo_60 : decode cX0_castTo 60 = .ok (.getfield 206, 3) := dk_180 0 206 (dk_at dksX0_castTo_3 4 rfl rfl)
theorem dX0_castTo_63 : decode cX0_castTo 63 = .ok (.ireturn, 1) := dk_172 (dk_at dksX0_castTo_3 7 rfl rfl)
theorem dX0_castTo_64 : decode cX0_castTo 64 = .ok (.aload_n 0, 1) := dk_42 (dk_at dksX0_castTo_3 8 rfl rfl)
theorem dX0_castTo_65 : decode cX0_castTo 65 = .ok (.checkcast 16, 3) := dk_192 0 16 (dk_at dksX0_castTo_3 9 rfl rfl)
theorem dX0_castTo_68 : decode cX0_castTo 68 = .ok (.getfield 207, 3) := dk_180 0 207 (dk_at dksX0_castTo_3 12 rfl rfl)
theorem dX0_castTo_71 : decode cX0_castTo 71 = .ok (.ireturn, 1) := dk_172 (dk_at dksX0_castTo_3 15 rfl rfl)
abbrev cX0_give : ByteArray := prog_1_method_25_code
def yX0_give : MethodName := ⟨RX0, "give", "(II)I"⟩
def dkwX0_give_1 : List UInt8 := [180, 0, 180, 62, 42, 180, 0, 34, 27, 50, 28, 181, 0, 180, 29, 172]
abbrev dktX0_give_1 : List UInt8 := dkwX0_give_1 ++ []
def dkwX0_give_0 : List UInt8 := [42, 27, 182, 0, 197, 153, 0, 10, 28, 184, 0, 163, 154, 0, 6, 16, 155, 172, 42, 180, 0, 34, 27, 50]
abbrev dktX0_give_0 : List UInt8 := dkwX0_give_0 ++ dktX0_give_1
theorem dksX0_give_0 : cX0_give.data.toList.drop 0 = dktX0_give_0 := by decide +kernel
theorem dksX0_give_1 : cX0_give.data.toList.drop 24 = dktX0_give_1 := dk_seg dksX0_give_0 24 rfl rfl
theorem dX0_give_0 : decode cX0_give 0 = .ok (.aload_n 0, 1) := dk_42 (dk_at dksX0_give_0 0 rfl rfl)
theorem dX0_give_1 : decode cX0_give 1 = .ok (.iload_n 1, 1) := dk_27 (dk_at dksX0_give_0 1 rfl rfl)
theorem dX0_give_2 : decode cX0_give 2 = .ok (.invokevirtual 197, 3) := dk_182 0 197 (dk_at dksX0_give_0 2 rfl rfl)
theorem dX0_give_5 : decode cX0_give 5 = .ok (.ifCond .eq 10, 3) := dk_153 0 10 (dk_at dksX0_give_0 5 rfl rfl)
theorem dX0_give_8 : decode cX0_give 8 = .ok (.iload_n 2, 1) := dk_28 (dk_at dksX0_give_0 8 rfl rfl)
theorem dX0_give_9 : decode cX0_give 9 = .ok (.invokestatic 163, 3) := dk_184 0 163 (dk_at dksX0_give_0 9 rfl rfl)
theorem dX0_give_12 : decode cX0_give 12 = .ok (.ifCond .ne 6, 3) := dk_154 0 6 (dk_at dksX0_give_0 12 rfl rfl)
theorem dX0_give_15 : decode cX0_give 15 = .ok (.bipush (-101), 2) := dk_16 155 (dk_at dksX0_give_0 15 rfl rfl)
theorem dX0_give_17 : decode cX0_give 17 = .ok (.ireturn, 1) := dk_172 (dk_at dksX0_give_0 17 rfl rfl)
theorem dX0_give_18 : decode cX0_give 18 = .ok (.aload_n 0, 1) := dk_42 (dk_at dksX0_give_0 18 rfl rfl)
theorem dX0_give_19 : decode cX0_give 19 = .ok (.getfield 34, 3) := dk_180 0 34 (dk_at dksX0_give_0 19 rfl rfl)
theorem dX0_give_22 : decode cX0_give 22 = .ok (.iload_n 1, 1) := dk_27 (dk_at dksX0_give_0 22 rfl rfl)
theorem dX0_give_23 : decode cX0_give 23 = .ok (.aaload, 1) := dk_50 (dk_at dksX0_give_0 23 rfl rfl)
theorem dX0_give_24 : decode cX0_give 24 = .ok (.getfield 180, 3) := dk_180 0 180 (dk_at dksX0_give_1 0 rfl rfl)
theorem dX0_give_27 : decode cX0_give 27 = .ok (.istore_n 3, 1) := dk_62 (dk_at dksX0_give_1 3 rfl rfl)
theorem dX0_give_28 : decode cX0_give 28 = .ok (.aload_n 0, 1) := dk_42 (dk_at dksX0_give_1 4 rfl rfl)
theorem dX0_give_29 : decode cX0_give 29 = .ok (.getfield 34, 3) := dk_180 0 34 (dk_at dksX0_give_1 5 rfl rfl)
theorem dX0_give_32 : decode cX0_give 32 = .ok (.iload_n 1, 1) := dk_27 (dk_at dksX0_give_1 8 rfl rfl)
theorem dX0_give_33 : decode cX0_give 33 = .ok (.aaload, 1) := dk_50 (dk_at dksX0_give_1 9 rfl rfl)
theorem dX0_give_34 : decode cX0_give 34 = .ok (.iload_n 2, 1) := dk_28 (dk_at dksX0_give_1 10 rfl rfl)
theorem dX0_give_35 : decode cX0_give 35 = .ok (.putfield 180, 3) := dk_181 0 180 (dk_at dksX0_give_1 11 rfl rfl)
theorem dX0_give_38 : decode cX0_give 38 = .ok (.iload_n 3, 1) := dk_29 (dk_at dksX0_give_1 14 rfl rfl)
theorem dX0_give_39 : decode cX0_give 39 = .ok (.ireturn, 1) := dk_172 (dk_at dksX0_give_1 15 rfl rfl)
abbrev cX0_fond : ByteArray := prog_1_method_26_code
def yX0_fond : MethodName := ⟨RX0, "fond", "(III)I"⟩
def dkwX0_fond_2 : List UInt8 := [180, 0, 38, 6, 27, 104, 28, 96, 29, 79, 21, 4, 172]
abbrev dktX0_fond_2 : List UInt8 := dkwX0_fond_2 ++ []
def dkwX0_fond_1 : List UInt8 := [184, 0, 98, 154, 0, 6, 16, 154, 172, 42, 180, 0, 38, 6, 27, 104, 28, 96, 46, 54, 4, 42]
abbrev dktX0_fond_1 : List UInt8 := dkwX0_fond_1 ++ dktX0_fond_2
def dkwX0_fond_0 : List UInt8 := [42, 27, 182, 0, 197, 153, 0, 10, 28, 184, 0, 163, 154, 0, 6, 16, 155, 172, 29, 133, 9, 20, 0, 168]
abbrev dktX0_fond_0 : List UInt8 := dkwX0_fond_0 ++ dktX0_fond_1
theorem dksX0_fond_0 : cX0_fond.data.toList.drop 0 = dktX0_fond_0 := by decide +kernel
theorem dksX0_fond_1 : cX0_fond.data.toList.drop 24 = dktX0_fond_1 := dk_seg dksX0_fond_0 24 rfl rfl
theorem dksX0_fond_2 : cX0_fond.data.toList.drop 46 = dktX0_fond_2 := dk_seg dksX0_fond_1 22 rfl rfl
theorem dX0_fond_0 : decode cX0_fond 0 = .ok (.aload_n 0, 1) := dk_42 (dk_at dksX0_fond_0 0 rfl rfl)
theorem dX0_fond_1 : decode cX0_fond 1 = .ok (.iload_n 1, 1) := dk_27 (dk_at dksX0_fond_0 1 rfl rfl)
theorem dX0_fond_2 : decode cX0_fond 2 = .ok (.invokevirtual 197, 3) := dk_182 0 197 (dk_at dksX0_fond_0 2 rfl rfl)
theorem dX0_fond_5 : decode cX0_fond 5 = .ok (.ifCond .eq 10, 3) := dk_153 0 10 (dk_at dksX0_fond_0 5 rfl rfl)
theorem dX0_fond_8 : decode cX0_fond 8 = .ok (.iload_n 2, 1) := dk_28 (dk_at dksX0_fond_0 8 rfl rfl)
theorem dX0_fond_9 : decode cX0_fond 9 = .ok (.invokestatic 163, 3) := dk_184 0 163 (dk_at dksX0_fond_0 9 rfl rfl)
theorem dX0_fond_12 : decode cX0_fond 12 = .ok (.ifCond .ne 6, 3) := dk_154 0 6 (dk_at dksX0_fond_0 12 rfl rfl)
theorem dX0_fond_15 : decode cX0_fond 15 = .ok (.bipush (-101), 2) := dk_16 155 (dk_at dksX0_fond_0 15 rfl rfl)
theorem dX0_fond_17 : decode cX0_fond 17 = .ok (.ireturn, 1) := dk_172 (dk_at dksX0_fond_0 17 rfl rfl)
theorem dX0_fond_18 : decode cX0_fond 18 = .ok (.iload_n 3, 1) := dk_29 (dk_at dksX0_fond_0 18 rfl rfl)
theorem dX0_fond_19 : decode cX0_fond 19 = .ok (.i2l, 1) := dk_133 (dk_at dksX0_fond_0 19 rfl rfl)
theorem dX0_fond_20 : decode cX0_fond 20 = .ok (.lconst 0, 1) := dk_9 (dk_at dksX0_fond_0 20 rfl rfl)
theorem dX0_fond_21 : decode cX0_fond 21 = .ok (.ldc2_w 168, 3) := dk_20 0 168 (dk_at dksX0_fond_0 21 rfl rfl)
theorem dX0_fond_24 : decode cX0_fond 24 = .ok (.invokestatic 98, 3) := dk_184 0 98 (dk_at dksX0_fond_1 0 rfl rfl)
theorem dX0_fond_27 : decode cX0_fond 27 = .ok (.ifCond .ne 6, 3) := dk_154 0 6 (dk_at dksX0_fond_1 3 rfl rfl)
theorem dX0_fond_30 : decode cX0_fond 30 = .ok (.bipush (-102), 2) := dk_16 154 (dk_at dksX0_fond_1 6 rfl rfl)
theorem dX0_fond_32 : decode cX0_fond 32 = .ok (.ireturn, 1) := dk_172 (dk_at dksX0_fond_1 8 rfl rfl)
theorem dX0_fond_33 : decode cX0_fond 33 = .ok (.aload_n 0, 1) := dk_42 (dk_at dksX0_fond_1 9 rfl rfl)
theorem dX0_fond_34 : decode cX0_fond 34 = .ok (.getfield 38, 3) := dk_180 0 38 (dk_at dksX0_fond_1 10 rfl rfl)
theorem dX0_fond_37 : decode cX0_fond 37 = .ok (.iconst 3, 1) := dk_6 (dk_at dksX0_fond_1 13 rfl rfl)
theorem dX0_fond_38 : decode cX0_fond 38 = .ok (.iload_n 1, 1) := dk_27 (dk_at dksX0_fond_1 14 rfl rfl)
theorem dX0_fond_39 : decode cX0_fond 39 = .ok (.imul, 1) := dk_104 (dk_at dksX0_fond_1 15 rfl rfl)
theorem dX0_fond_40 : decode cX0_fond 40 = .ok (.iload_n 2, 1) := dk_28 (dk_at dksX0_fond_1 16 rfl rfl)
theorem dX0_fond_41 : decode cX0_fond 41 = .ok (.iadd, 1) := dk_96 (dk_at dksX0_fond_1 17 rfl rfl)
theorem dX0_fond_42 : decode cX0_fond 42 = .ok (.iaload, 1) := dk_46 (dk_at dksX0_fond_1 18 rfl rfl)
theorem dX0_fond_43 : decode cX0_fond 43 = .ok (.istore 4, 2) := dk_54 4 (dk_at dksX0_fond_1 19 rfl rfl)
theorem dX0_fond_45 : decode cX0_fond 45 = .ok (.aload_n 0, 1) := dk_42 (dk_at dksX0_fond_1 21 rfl rfl)
theorem dX0_fond_46 : decode cX0_fond 46 = .ok (.getfield 38, 3) := dk_180 0 38 (dk_at dksX0_fond_2 0 rfl rfl)
theorem dX0_fond_49 : decode cX0_fond 49 = .ok (.iconst 3, 1) := dk_6 (dk_at dksX0_fond_2 3 rfl rfl)
theorem dX0_fond_50 : decode cX0_fond 50 = .ok (.iload_n 1, 1) := dk_27 (dk_at dksX0_fond_2 4 rfl rfl)
theorem dX0_fond_51 : decode cX0_fond 51 = .ok (.imul, 1) := dk_104 (dk_at dksX0_fond_2 5 rfl rfl)
theorem dX0_fond_52 : decode cX0_fond 52 = .ok (.iload_n 2, 1) := dk_28 (dk_at dksX0_fond_2 6 rfl rfl)
theorem dX0_fond_53 : decode cX0_fond 53 = .ok (.iadd, 1) := dk_96 (dk_at dksX0_fond_2 7 rfl rfl)
theorem dX0_fond_54 : decode cX0_fond 54 = .ok (.iload_n 3, 1) := dk_29 (dk_at dksX0_fond_2 8 rfl rfl)
theorem dX0_fond_55 : decode cX0_fond 55 = .ok (.iastore, 1) := dk_79 (dk_at dksX0_fond_2 9 rfl rfl)
theorem dX0_fond_56 : decode cX0_fond 56 = .ok (.iload 4, 2) := dk_21 4 (dk_at dksX0_fond_2 10 rfl rfl)
theorem dX0_fond_58 : decode cX0_fond 58 = .ok (.ireturn, 1) := dk_172 (dk_at dksX0_fond_2 12 rfl rfl)
abbrev cX0_tenths : ByteArray := prog_1_method_29_code
def yX0_tenths : MethodName := ⟨RX0, "tenths", "(II)I"⟩
def dkwX0_tenths_1 : List UInt8 := [182, 0, 226, 167, 0, 5, 16, 155, 172]
abbrev dktX0_tenths_1 : List UInt8 := dkwX0_tenths_1 ++ []
def dkwX0_tenths_0 : List UInt8 := [42, 27, 182, 0, 197, 153, 0, 25, 42, 28, 182, 0, 151, 153, 0, 17, 42, 42, 180, 0, 34, 27, 50, 28]
abbrev dktX0_tenths_0 : List UInt8 := dkwX0_tenths_0 ++ dktX0_tenths_1
theorem dksX0_tenths_0 : cX0_tenths.data.toList.drop 0 = dktX0_tenths_0 := by decide +kernel
theorem dksX0_tenths_1 : cX0_tenths.data.toList.drop 24 = dktX0_tenths_1 := dk_seg dksX0_tenths_0 24 rfl rfl
theorem dX0_tenths_0 : decode cX0_tenths 0 = .ok (.aload_n 0, 1) := dk_42 (dk_at dksX0_tenths_0 0 rfl rfl)
theorem dX0_tenths_1 : decode cX0_tenths 1 = .ok (.iload_n 1, 1) := dk_27 (dk_at dksX0_tenths_0 1 rfl rfl)
theorem dX0_tenths_2 : decode cX0_tenths 2 = .ok (.invokevirtual 197, 3) := dk_182 0 197 (dk_at dksX0_tenths_0 2 rfl rfl)
theorem dX0_tenths_5 : decode cX0_tenths 5 = .ok (.ifCond .eq 25, 3) := dk_153 0 25 (dk_at dksX0_tenths_0 5 rfl rfl)
theorem dX0_tenths_8 : decode cX0_tenths 8 = .ok (.aload_n 0, 1) := dk_42 (dk_at dksX0_tenths_0 8 rfl rfl)
theorem dX0_tenths_9 : decode cX0_tenths 9 = .ok (.iload_n 2, 1) := dk_28 (dk_at dksX0_tenths_0 9 rfl rfl)
theorem dX0_tenths_10 : decode cX0_tenths 10 = .ok (.invokevirtual 151, 3) := dk_182 0 151 (dk_at dksX0_tenths_0 10 rfl rfl)
theorem dX0_tenths_13 : decode cX0_tenths 13 = .ok (.ifCond .eq 17, 3) := dk_153 0 17 (dk_at dksX0_tenths_0 13 rfl rfl)
theorem dX0_tenths_16 : decode cX0_tenths 16 = .ok (.aload_n 0, 1) := dk_42 (dk_at dksX0_tenths_0 16 rfl rfl)
theorem dX0_tenths_17 : decode cX0_tenths 17 = .ok (.aload_n 0, 1) := dk_42 (dk_at dksX0_tenths_0 17 rfl rfl)
theorem dX0_tenths_18 : decode cX0_tenths 18 = .ok (.getfield 34, 3) := dk_180 0 34 (dk_at dksX0_tenths_0 18 rfl rfl)
theorem dX0_tenths_21 : decode cX0_tenths 21 = .ok (.iload_n 1, 1) := dk_27 (dk_at dksX0_tenths_0 21 rfl rfl)
theorem dX0_tenths_22 : decode cX0_tenths 22 = .ok (.aaload, 1) := dk_50 (dk_at dksX0_tenths_0 22 rfl rfl)
theorem dX0_tenths_23 : decode cX0_tenths 23 = .ok (.iload_n 2, 1) := dk_28 (dk_at dksX0_tenths_0 23 rfl rfl)
theorem dX0_tenths_24 : decode cX0_tenths 24 = .ok (.invokevirtual 226, 3) := dk_182 0 226 (dk_at dksX0_tenths_1 0 rfl rfl)
theorem dX0_tenths_27 : decode cX0_tenths 27 = .ok (.goto 5, 3) := dk_167 0 5 (dk_at dksX0_tenths_1 3 rfl rfl)
theorem dX0_tenths_30 : decode cX0_tenths 30 = .ok (.bipush (-101), 2) := dk_16 155 (dk_at dksX0_tenths_1 6 rfl rfl)
theorem dX0_tenths_32 : decode cX0_tenths 32 = .ok (.ireturn, 1) := dk_172 (dk_at dksX0_tenths_1 8 rfl rfl)
abbrev cX0_tenthsOf : ByteArray := prog_1_method_28_code
def yX0_tenthsOf : MethodName := ⟨RX0, "tenthsOf", "(LBeatenInstead$Prince;I)I"⟩
def dkwX0_tenthsOf_0 : List UInt8 := [42, 43, 28, 42, 43, 182, 0, 190, 182, 0, 222, 172]
abbrev dktX0_tenthsOf_0 : List UInt8 := dkwX0_tenthsOf_0 ++ []
theorem dksX0_tenthsOf_0 : cX0_tenthsOf.data.toList.drop 0 = dktX0_tenthsOf_0 := by decide +kernel
theorem dX0_tenthsOf_0 : decode cX0_tenthsOf 0 = .ok (.aload_n 0, 1) := dk_42 (dk_at dksX0_tenthsOf_0 0 rfl rfl)
theorem dX0_tenthsOf_1 : decode cX0_tenthsOf 1 = .ok (.aload_n 1, 1) := dk_43 (dk_at dksX0_tenthsOf_0 1 rfl rfl)
theorem dX0_tenthsOf_2 : decode cX0_tenthsOf 2 = .ok (.iload_n 2, 1) := dk_28 (dk_at dksX0_tenthsOf_0 2 rfl rfl)
theorem dX0_tenthsOf_3 : decode cX0_tenthsOf 3 = .ok (.aload_n 0, 1) := dk_42 (dk_at dksX0_tenthsOf_0 3 rfl rfl)
theorem dX0_tenthsOf_4 : decode cX0_tenthsOf 4 = .ok (.aload_n 1, 1) := dk_43 (dk_at dksX0_tenthsOf_0 4 rfl rfl)
theorem dX0_tenthsOf_5 : decode cX0_tenthsOf 5 = .ok (.invokevirtual 190, 3) := dk_182 0 190 (dk_at dksX0_tenthsOf_0 5 rfl rfl)
theorem dX0_tenthsOf_8 : decode cX0_tenthsOf 8 = .ok (.invokevirtual 222, 3) := dk_182 0 222 (dk_at dksX0_tenthsOf_0 8 rfl rfl)
theorem dX0_tenthsOf_11 : decode cX0_tenthsOf 11 = .ok (.ireturn, 1) := dk_172 (dk_at dksX0_tenthsOf_0 11 rfl rfl)
abbrev cX0_tenthsBy : ByteArray := prog_1_method_27_code
def yX0_tenthsBy : MethodName := ⟨RX0, "tenthsBy", "(LBeatenInstead$Prince;II)I"⟩
def dkwX0_tenthsBy_1 : List UInt8 := [184, 0, 219, 172]
abbrev dktX0_tenthsBy_1 : List UInt8 := dkwX0_tenthsBy_1 ++ []
def dkwX0_tenthsBy_0 : List UInt8 := [3, 16, 10, 43, 180, 0, 177, 43, 29, 182, 0, 194, 96, 42, 180, 0, 24, 28, 46, 100, 184, 0, 214]
abbrev dktX0_tenthsBy_0 : List UInt8 := dkwX0_tenthsBy_0 ++ dktX0_tenthsBy_1
theorem dksX0_tenthsBy_0 : cX0_tenthsBy.data.toList.drop 0 = dktX0_tenthsBy_0 := by decide +kernel
theorem dksX0_tenthsBy_1 : cX0_tenthsBy.data.toList.drop 23 = dktX0_tenthsBy_1 := dk_seg dksX0_tenthsBy_0 23 rfl rfl
theorem dX0_tenthsBy_0 : decode cX0_tenthsBy 0 = .ok (.iconst 0, 1) := dk_3 (dk_at dksX0_tenthsBy_0 0 rfl rfl)
theorem dX0_tenthsBy_1 : decode cX0_tenthsBy 1 = .ok (.bipush 10, 2) := dk_16 10 (dk_at dksX0_tenthsBy_0 1 rfl rfl)
theorem dX0_tenthsBy_3 : decode cX0_tenthsBy 3 = .ok (.aload_n 1, 1) := dk_43 (dk_at dksX0_tenthsBy_0 3 rfl rfl)
theorem dX0_tenthsBy_4 : decode cX0_tenthsBy 4 = .ok (.getfield 177, 3) := dk_180 0 177 (dk_at dksX0_tenthsBy_0 4 rfl rfl)
theorem dX0_tenthsBy_7 : decode cX0_tenthsBy 7 = .ok (.aload_n 1, 1) := dk_43 (dk_at dksX0_tenthsBy_0 7 rfl rfl)
theorem dX0_tenthsBy_8 : decode cX0_tenthsBy 8 = .ok (.iload_n 3, 1) := dk_29 (dk_at dksX0_tenthsBy_0 8 rfl rfl)
theorem dX0_tenthsBy_9 : decode cX0_tenthsBy 9 = .ok (.invokevirtual 194, 3) := dk_182 0 194 (dk_at dksX0_tenthsBy_0 9 rfl rfl)
theorem dX0_tenthsBy_12 : decode cX0_tenthsBy 12 = .ok (.iadd, 1) := dk_96 (dk_at dksX0_tenthsBy_0 12 rfl rfl)
theorem dX0_tenthsBy_13 : decode cX0_tenthsBy 13 = .ok (.aload_n 0, 1) := dk_42 (dk_at dksX0_tenthsBy_0 13 rfl rfl)
theorem dX0_tenthsBy_14 : decode cX0_tenthsBy 14 = .ok (.getfield 24, 3) := dk_180 0 24 (dk_at dksX0_tenthsBy_0 14 rfl rfl)
theorem dX0_tenthsBy_17 : decode cX0_tenthsBy 17 = .ok (.iload_n 2, 1) := dk_28 (dk_at dksX0_tenthsBy_0 17 rfl rfl)
theorem dX0_tenthsBy_18 : decode cX0_tenthsBy 18 = .ok (.iaload, 1) := dk_46 (dk_at dksX0_tenthsBy_0 18 rfl rfl)
theorem dX0_tenthsBy_19 : decode cX0_tenthsBy 19 = .ok (.isub, 1) := dk_100 (dk_at dksX0_tenthsBy_0 19 rfl rfl)
theorem dX0_tenthsBy_20 : decode cX0_tenthsBy 20 = .ok (.invokestatic 214, 3) := dk_184 0 214 (dk_at dksX0_tenthsBy_0 20 rfl rfl)
theorem dX0_tenthsBy_23 : decode cX0_tenthsBy 23 = .ok (.invokestatic 219, 3) := dk_184 0 219 (dk_at dksX0_tenthsBy_1 0 rfl rfl)
theorem dX0_tenthsBy_26 : decode cX0_tenthsBy 26 = .ok (.ireturn, 1) := dk_172 (dk_at dksX0_tenthsBy_1 3 rfl rfl)
abbrev cX0_teach : ByteArray := prog_1_method_32_code
def yX0_teach : MethodName := ⟨RX0, "teach", "(IIZ)I"⟩
def dkwX0_teach_3 : List UInt8 := [180, 0, 31, 25, 4, 180, 0, 180, 46, 172]
abbrev dktX0_teach_3 : List UInt8 := dkwX0_teach_3 ++ []
def dkwX0_teach_2 : List UInt8 := [153, 0, 7, 3, 167, 0, 5, 16, 10, 160, 0, 6, 16, 153, 172, 42, 25, 4, 28, 29, 182, 0, 232, 42]
abbrev dktX0_teach_2 : List UInt8 := dkwX0_teach_2 ++ dktX0_teach_3
def dkwX0_teach_1 : List UInt8 := [50, 58, 4, 25, 4, 180, 0, 141, 28, 184, 0, 144, 154, 0, 23, 42, 25, 4, 28, 182, 0, 226, 29]
abbrev dktX0_teach_1 : List UInt8 := dkwX0_teach_1 ++ dktX0_teach_2
def dkwX0_teach_0 : List UInt8 := [42, 27, 182, 0, 197, 153, 0, 11, 42, 28, 182, 0, 151, 154, 0, 6, 16, 155, 172, 42, 180, 0, 34, 27]
abbrev dktX0_teach_0 : List UInt8 := dkwX0_teach_0 ++ dktX0_teach_1
theorem dksX0_teach_0 : cX0_teach.data.toList.drop 0 = dktX0_teach_0 := by decide +kernel
theorem dksX0_teach_1 : cX0_teach.data.toList.drop 24 = dktX0_teach_1 := dk_seg dksX0_teach_0 24 rfl rfl
theorem dksX0_teach_2 : cX0_teach.data.toList.drop 47 = dktX0_teach_2 := dk_seg dksX0_teach_1 23 rfl rfl
theorem dksX0_teach_3 : cX0_teach.data.toList.drop 71 = dktX0_teach_3 := dk_seg dksX0_teach_2 24 rfl rfl
theorem dX0_teach_0 : decode cX0_teach 0 = .ok (.aload_n 0, 1) := dk_42 (dk_at dksX0_teach_0 0 rfl rfl)
theorem dX0_teach_1 : decode cX0_teach 1 = .ok (.iload_n 1, 1) := dk_27 (dk_at dksX0_teach_0 1 rfl rfl)
theorem dX0_teach_2 : decode cX0_teach 2 = .ok (.invokevirtual 197, 3) := dk_182 0 197 (dk_at dksX0_teach_0 2 rfl rfl)
theorem dX0_teach_5 : decode cX0_teach 5 = .ok (.ifCond .eq 11, 3) := dk_153 0 11 (dk_at dksX0_teach_0 5 rfl rfl)
theorem dX0_teach_8 : decode cX0_teach 8 = .ok (.aload_n 0, 1) := dk_42 (dk_at dksX0_teach_0 8 rfl rfl)
theorem dX0_teach_9 : decode cX0_teach 9 = .ok (.iload_n 2, 1) := dk_28 (dk_at dksX0_teach_0 9 rfl rfl)
theorem dX0_teach_10 : decode cX0_teach 10 = .ok (.invokevirtual 151, 3) := dk_182 0 151 (dk_at dksX0_teach_0 10 rfl rfl)
theorem dX0_teach_13 : decode cX0_teach 13 = .ok (.ifCond .ne 6, 3) := dk_154 0 6 (dk_at dksX0_teach_0 13 rfl rfl)
theorem dX0_teach_16 : decode cX0_teach 16 = .ok (.bipush (-101), 2) := dk_16 155 (dk_at dksX0_teach_0 16 rfl rfl)
theorem dX0_teach_18 : decode cX0_teach 18 = .ok (.ireturn, 1) := dk_172 (dk_at dksX0_teach_0 18 rfl rfl)
theorem dX0_teach_19 : decode cX0_teach 19 = .ok (.aload_n 0, 1) := dk_42 (dk_at dksX0_teach_0 19 rfl rfl)
theorem dX0_teach_20 : decode cX0_teach 20 = .ok (.getfield 34, 3) := dk_180 0 34 (dk_at dksX0_teach_0 20 rfl rfl)
theorem dX0_teach_23 : decode cX0_teach 23 = .ok (.iload_n 1, 1) := dk_27 (dk_at dksX0_teach_0 23 rfl rfl)
theorem dX0_teach_24 : decode cX0_teach 24 = .ok (.aaload, 1) := dk_50 (dk_at dksX0_teach_1 0 rfl rfl)
theorem dX0_teach_25 : decode cX0_teach 25 = .ok (.astore 4, 2) := dk_58 4 (dk_at dksX0_teach_1 1 rfl rfl)
theorem dX0_teach_27 : decode cX0_teach 27 = .ok (.aload 4, 2) := dk_25 4 (dk_at dksX0_teach_1 3 rfl rfl)
theorem dX0_teach_29 : decode cX0_teach 29 = .ok (.getfield 141, 3) := dk_180 0 141 (dk_at dksX0_teach_1 5 rfl rfl)
theorem dX0_teach_32 : decode cX0_teach 32 = .ok (.iload_n 2, 1) := dk_28 (dk_at dksX0_teach_1 8 rfl rfl)
theorem dX0_teach_33 : decode cX0_teach 33 = .ok (.invokestatic 144, 3) := dk_184 0 144 (dk_at dksX0_teach_1 9 rfl rfl)
theorem dX0_teach_36 : decode cX0_teach 36 = .ok (.ifCond .ne 23, 3) := dk_154 0 23 (dk_at dksX0_teach_1 12 rfl rfl)
theorem dX0_teach_39 : decode cX0_teach 39 = .ok (.aload_n 0, 1) := dk_42 (dk_at dksX0_teach_1 15 rfl rfl)
theorem dX0_teach_40 : decode cX0_teach 40 = .ok (.aload 4, 2) := dk_25 4 (dk_at dksX0_teach_1 16 rfl rfl)
theorem dX0_teach_42 : decode cX0_teach 42 = .ok (.iload_n 2, 1) := dk_28 (dk_at dksX0_teach_1 18 rfl rfl)
theorem dX0_teach_43 : decode cX0_teach 43 = .ok (.invokevirtual 226, 3) := dk_182 0 226 (dk_at dksX0_teach_1 19 rfl rfl)
theorem dX0_teach_46 : decode cX0_teach 46 = .ok (.iload_n 3, 1) := dk_29 (dk_at dksX0_teach_1 22 rfl rfl)
theorem dX0_teach_47 : decode cX0_teach 47 = .ok (.ifCond .eq 7, 3) := dk_153 0 7 (dk_at dksX0_teach_2 0 rfl rfl)
theorem dX0_teach_50 : decode cX0_teach 50 = .ok (.iconst 0, 1) := dk_3 (dk_at dksX0_teach_2 3 rfl rfl)
theorem dX0_teach_51 : decode cX0_teach 51 = .ok (.goto 5, 3) := dk_167 0 5 (dk_at dksX0_teach_2 4 rfl rfl)
theorem dX0_teach_54 : decode cX0_teach 54 = .ok (.bipush 10, 2) := dk_16 10 (dk_at dksX0_teach_2 7 rfl rfl)
theorem dX0_teach_56 : decode cX0_teach 56 = .ok (.if_icmp .ne 6, 3) := dk_160 0 6 (dk_at dksX0_teach_2 9 rfl rfl)
theorem dX0_teach_59 : decode cX0_teach 59 = .ok (.bipush (-103), 2) := dk_16 153 (dk_at dksX0_teach_2 12 rfl rfl)
theorem dX0_teach_61 : decode cX0_teach 61 = .ok (.ireturn, 1) := dk_172 (dk_at dksX0_teach_2 14 rfl rfl)
theorem dX0_teach_62 : decode cX0_teach 62 = .ok (.aload_n 0, 1) := dk_42 (dk_at dksX0_teach_2 15 rfl rfl)
theorem dX0_teach_63 : decode cX0_teach 63 = .ok (.aload 4, 2) := dk_25 4 (dk_at dksX0_teach_2 16 rfl rfl)
theorem dX0_teach_65 : decode cX0_teach 65 = .ok (.iload_n 2, 1) := dk_28 (dk_at dksX0_teach_2 18 rfl rfl)
theorem dX0_teach_66 : decode cX0_teach 66 = .ok (.iload_n 3, 1) := dk_29 (dk_at dksX0_teach_2 19 rfl rfl)
theorem dX0_teach_67 : decode cX0_teach 67 = .ok (.invokevirtual 232, 3) := dk_182 0 232 (dk_at dksX0_teach_2 20 rfl rfl)
theorem dX0_teach_70 : decode cX0_teach 70 = .ok (.aload_n 0, 1) := dk_42 (dk_at dksX0_teach_2 23 rfl rfl)
theorem dX0_teach_71 : decode cX0_teach 71 = .ok (.getfield 31, 3) := dk_180 0 31 (dk_at dksX0_teach_3 0 rfl rfl)
theorem dX0_teach_74 : decode cX0_teach 74 = .ok (.aload 4, 2) := dk_25 4 (dk_at dksX0_teach_3 3 rfl rfl)
theorem dX0_teach_76 : decode cX0_teach 76 = .ok (.getfield 180, 3) := dk_180 0 180 (dk_at dksX0_teach_3 5 rfl rfl)
theorem dX0_teach_79 : decode cX0_teach 79 = .ok (.iaload, 1) := dk_46 (dk_at dksX0_teach_3 8 rfl rfl)
theorem dX0_teach_80 : decode cX0_teach 80 = .ok (.ireturn, 1) := dk_172 (dk_at dksX0_teach_3 9 rfl rfl)
abbrev cX0_taught : ByteArray := prog_1_method_31_code
def yX0_taught : MethodName := ⟨RX0, "taught", "(LBeatenInstead$Prince;IZ)V"⟩
def dkwX0_taught_2 : List UInt8 := [180, 0, 180, 96, 42, 42, 43, 182, 0, 190, 42, 180, 0, 31, 43, 180, 0, 180, 46, 182, 0, 229, 79, 177]
abbrev dktX0_taught_2 : List UInt8 := dkwX0_taught_2 ++ []
def dkwX0_taught_1 : List UInt8 := [180, 0, 180, 92, 46, 42, 180, 0, 28, 28, 46, 96, 79, 42, 180, 0, 38, 6, 43, 180, 0, 174, 104, 43]
abbrev dktX0_taught_1 : List UInt8 := dkwX0_taught_1 ++ dktX0_taught_2
def dkwX0_taught_0 : List UInt8 := [29, 153, 0, 16, 43, 89, 180, 0, 141, 4, 28, 120, 128, 181, 0, 141, 177, 42, 180, 0, 31, 43]
abbrev dktX0_taught_0 : List UInt8 := dkwX0_taught_0 ++ dktX0_taught_1
theorem dksX0_taught_0 : cX0_taught.data.toList.drop 0 = dktX0_taught_0 := by decide +kernel
theorem dksX0_taught_1 : cX0_taught.data.toList.drop 22 = dktX0_taught_1 := dk_seg dksX0_taught_0 22 rfl rfl
theorem dksX0_taught_2 : cX0_taught.data.toList.drop 46 = dktX0_taught_2 := dk_seg dksX0_taught_1 24 rfl rfl
theorem dX0_taught_0 : decode cX0_taught 0 = .ok (.iload_n 3, 1) := dk_29 (dk_at dksX0_taught_0 0 rfl rfl)
theorem dX0_taught_1 : decode cX0_taught 1 = .ok (.ifCond .eq 16, 3) := dk_153 0 16 (dk_at dksX0_taught_0 1 rfl rfl)
theorem dX0_taught_4 : decode cX0_taught 4 = .ok (.aload_n 1, 1) := dk_43 (dk_at dksX0_taught_0 4 rfl rfl)
theorem dX0_taught_5 : decode cX0_taught 5 = .ok (.dup, 1) := dk_89 (dk_at dksX0_taught_0 5 rfl rfl)
theorem dX0_taught_6 : decode cX0_taught 6 = .ok (.getfield 141, 3) := dk_180 0 141 (dk_at dksX0_taught_0 6 rfl rfl)
theorem dX0_taught_9 : decode cX0_taught 9 = .ok (.iconst 1, 1) := dk_4 (dk_at dksX0_taught_0 9 rfl rfl)
theorem dX0_taught_10 : decode cX0_taught 10 = .ok (.iload_n 2, 1) := dk_28 (dk_at dksX0_taught_0 10 rfl rfl)
theorem dX0_taught_11 : decode cX0_taught 11 = .ok (.ishl, 1) := dk_120 (dk_at dksX0_taught_0 11 rfl rfl)
theorem dX0_taught_12 : decode cX0_taught 12 = .ok (.ior, 1) := dk_128 (dk_at dksX0_taught_0 12 rfl rfl)
theorem dX0_taught_13 : decode cX0_taught 13 = .ok (.putfield 141, 3) := dk_181 0 141 (dk_at dksX0_taught_0 13 rfl rfl)
theorem dX0_taught_16 : decode cX0_taught 16 = .ok (.return_, 1) := dk_177 (dk_at dksX0_taught_0 16 rfl rfl)
theorem dX0_taught_17 : decode cX0_taught 17 = .ok (.aload_n 0, 1) := dk_42 (dk_at dksX0_taught_0 17 rfl rfl)
theorem dX0_taught_18 : decode cX0_taught 18 = .ok (.getfield 31, 3) := dk_180 0 31 (dk_at dksX0_taught_0 18 rfl rfl)
theorem dX0_taught_21 : decode cX0_taught 21 = .ok (.aload_n 1, 1) := dk_43 (dk_at dksX0_taught_0 21 rfl rfl)
theorem dX0_taught_22 : decode cX0_taught 22 = .ok (.getfield 180, 3) := dk_180 0 180 (dk_at dksX0_taught_1 0 rfl rfl)
theorem dX0_taught_25 : decode cX0_taught 25 = .ok (.dup2, 1) := dk_92 (dk_at dksX0_taught_1 3 rfl rfl)
theorem dX0_taught_26 : decode cX0_taught 26 = .ok (.iaload, 1) := dk_46 (dk_at dksX0_taught_1 4 rfl rfl)
theorem dX0_taught_27 : decode cX0_taught 27 = .ok (.aload_n 0, 1) := dk_42 (dk_at dksX0_taught_1 5 rfl rfl)
theorem dX0_taught_28 : decode cX0_taught 28 = .ok (.getfield 28, 3) := dk_180 0 28 (dk_at dksX0_taught_1 6 rfl rfl)
theorem dX0_taught_31 : decode cX0_taught 31 = .ok (.iload_n 2, 1) := dk_28 (dk_at dksX0_taught_1 9 rfl rfl)
theorem dX0_taught_32 : decode cX0_taught 32 = .ok (.iaload, 1) := dk_46 (dk_at dksX0_taught_1 10 rfl rfl)
theorem dX0_taught_33 : decode cX0_taught 33 = .ok (.iadd, 1) := dk_96 (dk_at dksX0_taught_1 11 rfl rfl)
theorem dX0_taught_34 : decode cX0_taught 34 = .ok (.iastore, 1) := dk_79 (dk_at dksX0_taught_1 12 rfl rfl)
theorem dX0_taught_35 : decode cX0_taught 35 = .ok (.aload_n 0, 1) := dk_42 (dk_at dksX0_taught_1 13 rfl rfl)
theorem dX0_taught_36 : decode cX0_taught 36 = .ok (.getfield 38, 3) := dk_180 0 38 (dk_at dksX0_taught_1 14 rfl rfl)
theorem dX0_taught_39 : decode cX0_taught 39 = .ok (.iconst 3, 1) := dk_6 (dk_at dksX0_taught_1 17 rfl rfl)
theorem dX0_taught_40 : decode cX0_taught 40 = .ok (.aload_n 1, 1) := dk_43 (dk_at dksX0_taught_1 18 rfl rfl)
theorem dX0_taught_41 : decode cX0_taught 41 = .ok (.getfield 174, 3) := dk_180 0 174 (dk_at dksX0_taught_1 19 rfl rfl)
theorem dX0_taught_44 : decode cX0_taught 44 = .ok (.imul, 1) := dk_104 (dk_at dksX0_taught_1 22 rfl rfl)
theorem dX0_taught_45 : decode cX0_taught 45 = .ok (.aload_n 1, 1) := dk_43 (dk_at dksX0_taught_1 23 rfl rfl)
theorem dX0_taught_46 : decode cX0_taught 46 = .ok (.getfield 180, 3) := dk_180 0 180 (dk_at dksX0_taught_2 0 rfl rfl)
theorem dX0_taught_49 : decode cX0_taught 49 = .ok (.iadd, 1) := dk_96 (dk_at dksX0_taught_2 3 rfl rfl)
theorem dX0_taught_50 : decode cX0_taught 50 = .ok (.aload_n 0, 1) := dk_42 (dk_at dksX0_taught_2 4 rfl rfl)
theorem dX0_taught_51 : decode cX0_taught 51 = .ok (.aload_n 0, 1) := dk_42 (dk_at dksX0_taught_2 5 rfl rfl)
theorem dX0_taught_52 : decode cX0_taught 52 = .ok (.aload_n 1, 1) := dk_43 (dk_at dksX0_taught_2 6 rfl rfl)
theorem dX0_taught_53 : decode cX0_taught 53 = .ok (.invokevirtual 190, 3) := dk_182 0 190 (dk_at dksX0_taught_2 7 rfl rfl)
theorem dX0_taught_56 : decode cX0_taught 56 = .ok (.aload_n 0, 1) := dk_42 (dk_at dksX0_taught_2 10 rfl rfl)
theorem dX0_taught_57 : decode cX0_taught 57 = .ok (.getfield 31, 3) := dk_180 0 31 (dk_at dksX0_taught_2 11 rfl rfl)
theorem dX0_taught_60 : decode cX0_taught 60 = .ok (.aload_n 1, 1) := dk_43 (dk_at dksX0_taught_2 14 rfl rfl)
theorem dX0_taught_61 : decode cX0_taught 61 = .ok (.getfield 180, 3) := dk_180 0 180 (dk_at dksX0_taught_2 15 rfl rfl)
theorem dX0_taught_64 : decode cX0_taught 64 = .ok (.iaload, 1) := dk_46 (dk_at dksX0_taught_2 18 rfl rfl)
theorem dX0_taught_65 : decode cX0_taught 65 = .ok (.invokevirtual 229, 3) := dk_182 0 229 (dk_at dksX0_taught_2 19 rfl rfl)
theorem dX0_taught_68 : decode cX0_taught 68 = .ok (.iastore, 1) := dk_79 (dk_at dksX0_taught_2 22 rfl rfl)
theorem dX0_taught_69 : decode cX0_taught 69 = .ok (.return_, 1) := dk_177 (dk_at dksX0_taught_2 23 rfl rfl)
abbrev cX0_fondThen : ByteArray := prog_1_method_30_code
def yX0_fondThen : MethodName := ⟨RX0, "fondThen", "(II)I"⟩
def dkwX0_fondThen_1 : List UInt8 := [184, 0, 219, 172]
abbrev dktX0_fondThen_1 : List UInt8 := dkwX0_fondThen_1 ++ []
def dkwX0_fondThen_0 : List UInt8 := [3, 16, 9, 28, 42, 180, 0, 127, 164, 0, 9, 27, 5, 100, 167, 0, 6, 27, 4, 96, 184, 0, 214]
abbrev dktX0_fondThen_0 : List UInt8 := dkwX0_fondThen_0 ++ dktX0_fondThen_1
theorem dksX0_fondThen_0 : cX0_fondThen.data.toList.drop 0 = dktX0_fondThen_0 := by decide +kernel
theorem dksX0_fondThen_1 : cX0_fondThen.data.toList.drop 23 = dktX0_fondThen_1 := dk_seg dksX0_fondThen_0 23 rfl rfl
theorem dX0_fondThen_0 : decode cX0_fondThen 0 = .ok (.iconst 0, 1) := dk_3 (dk_at dksX0_fondThen_0 0 rfl rfl)
theorem dX0_fondThen_1 : decode cX0_fondThen 1 = .ok (.bipush 9, 2) := dk_16 9 (dk_at dksX0_fondThen_0 1 rfl rfl)
theorem dX0_fondThen_3 : decode cX0_fondThen 3 = .ok (.iload_n 2, 1) := dk_28 (dk_at dksX0_fondThen_0 3 rfl rfl)
theorem dX0_fondThen_4 : decode cX0_fondThen 4 = .ok (.aload_n 0, 1) := dk_42 (dk_at dksX0_fondThen_0 4 rfl rfl)
theorem dX0_fondThen_5 : decode cX0_fondThen 5 = .ok (.getfield 127, 3) := dk_180 0 127 (dk_at dksX0_fondThen_0 5 rfl rfl)
theorem dX0_fondThen_8 : decode cX0_fondThen 8 = .ok (.if_icmp .le 9, 3) := dk_164 0 9 (dk_at dksX0_fondThen_0 8 rfl rfl)
theorem dX0_fondThen_11 : decode cX0_fondThen 11 = .ok (.iload_n 1, 1) := dk_27 (dk_at dksX0_fondThen_0 11 rfl rfl)
theorem dX0_fondThen_12 : decode cX0_fondThen 12 = .ok (.iconst 2, 1) := dk_5 (dk_at dksX0_fondThen_0 12 rfl rfl)
theorem dX0_fondThen_13 : decode cX0_fondThen 13 = .ok (.isub, 1) := dk_100 (dk_at dksX0_fondThen_0 13 rfl rfl)
theorem dX0_fondThen_14 : decode cX0_fondThen 14 = .ok (.goto 6, 3) := dk_167 0 6 (dk_at dksX0_fondThen_0 14 rfl rfl)
theorem dX0_fondThen_17 : decode cX0_fondThen 17 = .ok (.iload_n 1, 1) := dk_27 (dk_at dksX0_fondThen_0 17 rfl rfl)
theorem dX0_fondThen_18 : decode cX0_fondThen 18 = .ok (.iconst 1, 1) := dk_4 (dk_at dksX0_fondThen_0 18 rfl rfl)
theorem dX0_fondThen_19 : decode cX0_fondThen 19 = .ok (.iadd, 1) := dk_96 (dk_at dksX0_fondThen_0 19 rfl rfl)
theorem dX0_fondThen_20 : decode cX0_fondThen 20 = .ok (.invokestatic 214, 3) := dk_184 0 214 (dk_at dksX0_fondThen_0 20 rfl rfl)
theorem dX0_fondThen_23 : decode cX0_fondThen 23 = .ok (.invokestatic 219, 3) := dk_184 0 219 (dk_at dksX0_fondThen_1 0 rfl rfl)
theorem dX0_fondThen_26 : decode cX0_fondThen 26 = .ok (.ireturn, 1) := dk_172 (dk_at dksX0_fondThen_1 3 rfl rfl)
abbrev cX0_order : ByteArray := prog_1_method_38_code
def yX0_order : MethodName := ⟨RX0, "order", "(II)J"⟩
def dkwX0_order_3 : List UInt8 := [28, 182, 1, 26, 173]
abbrev dktX0_order_3 : List UInt8 := dkwX0_order_3 ++ []
def dkwX0_order_2 : List UInt8 := [160, 0, 7, 20, 1, 24, 173, 42, 89, 180, 1, 21, 4, 96, 181, 1, 21, 42, 42, 180, 0, 34, 27, 50]
abbrev dktX0_order_2 : List UInt8 := dkwX0_order_2 ++ dktX0_order_3
def dkwX0_order_1 : List UInt8 := [20, 0, 183, 20, 1, 17, 184, 0, 98, 154, 0, 7, 20, 1, 19, 173, 42, 180, 1, 21, 16, 20]
abbrev dktX0_order_1 : List UInt8 := dkwX0_order_1 ++ dktX0_order_2
def dkwX0_order_0 : List UInt8 := [42, 27, 182, 0, 197, 154, 0, 7, 20, 1, 15, 173, 28, 133, 9, 10, 184, 0, 98, 154, 0, 21, 28, 133]
abbrev dktX0_order_0 : List UInt8 := dkwX0_order_0 ++ dktX0_order_1
theorem dksX0_order_0 : cX0_order.data.toList.drop 0 = dktX0_order_0 := by decide +kernel
theorem dksX0_order_1 : cX0_order.data.toList.drop 24 = dktX0_order_1 := dk_seg dksX0_order_0 24 rfl rfl
theorem dksX0_order_2 : cX0_order.data.toList.drop 46 = dktX0_order_2 := dk_seg dksX0_order_1 22 rfl rfl
theorem dksX0_order_3 : cX0_order.data.toList.drop 70 = dktX0_order_3 := dk_seg dksX0_order_2 24 rfl rfl
theorem dX0_order_0 : decode cX0_order 0 = .ok (.aload_n 0, 1) := dk_42 (dk_at dksX0_order_0 0 rfl rfl)
theorem dX0_order_1 : decode cX0_order 1 = .ok (.iload_n 1, 1) := dk_27 (dk_at dksX0_order_0 1 rfl rfl)
theorem dX0_order_2 : decode cX0_order 2 = .ok (.invokevirtual 197, 3) := dk_182 0 197 (dk_at dksX0_order_0 2 rfl rfl)
theorem dX0_order_5 : decode cX0_order 5 = .ok (.ifCond .ne 7, 3) := dk_154 0 7 (dk_at dksX0_order_0 5 rfl rfl)
theorem dX0_order_8 : decode cX0_order 8 = .ok (.ldc2_w 271, 3) := dk_20 1 15 (dk_at dksX0_order_0 8 rfl rfl)
theorem dX0_order_11 : decode cX0_order 11 = .ok (.lreturn, 1) := dk_173 (dk_at dksX0_order_0 11 rfl rfl)
theorem dX0_order_12 : decode cX0_order 12 = .ok (.iload_n 2, 1) := dk_28 (dk_at dksX0_order_0 12 rfl rfl)
theorem dX0_order_13 : decode cX0_order 13 = .ok (.i2l, 1) := dk_133 (dk_at dksX0_order_0 13 rfl rfl)
theorem dX0_order_14 : decode cX0_order 14 = .ok (.lconst 0, 1) := dk_9 (dk_at dksX0_order_0 14 rfl rfl)
theorem dX0_order_15 : decode cX0_order 15 = .ok (.lconst 1, 1) := dk_10 (dk_at dksX0_order_0 15 rfl rfl)
theorem dX0_order_16 : decode cX0_order 16 = .ok (.invokestatic 98, 3) := dk_184 0 98 (dk_at dksX0_order_0 16 rfl rfl)
theorem dX0_order_19 : decode cX0_order 19 = .ok (.ifCond .ne 21, 3) := dk_154 0 21 (dk_at dksX0_order_0 19 rfl rfl)
theorem dX0_order_22 : decode cX0_order 22 = .ok (.iload_n 2, 1) := dk_28 (dk_at dksX0_order_0 22 rfl rfl)
theorem dX0_order_23 : decode cX0_order 23 = .ok (.i2l, 1) := dk_133 (dk_at dksX0_order_0 23 rfl rfl)
theorem dX0_order_24 : decode cX0_order 24 = .ok (.ldc2_w 183, 3) := dk_20 0 183 (dk_at dksX0_order_1 0 rfl rfl)
theorem dX0_order_27 : decode cX0_order 27 = .ok (.ldc2_w 273, 3) := dk_20 1 17 (dk_at dksX0_order_1 3 rfl rfl)
theorem dX0_order_30 : decode cX0_order 30 = .ok (.invokestatic 98, 3) := dk_184 0 98 (dk_at dksX0_order_1 6 rfl rfl)
theorem dX0_order_33 : decode cX0_order 33 = .ok (.ifCond .ne 7, 3) := dk_154 0 7 (dk_at dksX0_order_1 9 rfl rfl)
theorem dX0_order_36 : decode cX0_order 36 = .ok (.ldc2_w 275, 3) := dk_20 1 19 (dk_at dksX0_order_1 12 rfl rfl)
theorem dX0_order_39 : decode cX0_order 39 = .ok (.lreturn, 1) := dk_173 (dk_at dksX0_order_1 15 rfl rfl)
theorem dX0_order_40 : decode cX0_order 40 = .ok (.aload_n 0, 1) := dk_42 (dk_at dksX0_order_1 16 rfl rfl)
theorem dX0_order_41 : decode cX0_order 41 = .ok (.getfield 277, 3) := dk_180 1 21 (dk_at dksX0_order_1 17 rfl rfl)
theorem dX0_order_44 : decode cX0_order 44 = .ok (.bipush 20, 2) := dk_16 20 (dk_at dksX0_order_1 20 rfl rfl)
theorem dX0_order_46 : decode cX0_order 46 = .ok (.if_icmp .ne 7, 3) := dk_160 0 7 (dk_at dksX0_order_2 0 rfl rfl)
theorem dX0_order_49 : decode cX0_order 49 = .ok (.ldc2_w 280, 3) := dk_20 1 24 (dk_at dksX0_order_2 3 rfl rfl)
theorem dX0_order_52 : decode cX0_order 52 = .ok (.lreturn, 1) := dk_173 (dk_at dksX0_order_2 6 rfl rfl)
theorem dX0_order_53 : decode cX0_order 53 = .ok (.aload_n 0, 1) := dk_42 (dk_at dksX0_order_2 7 rfl rfl)
theorem dX0_order_54 : decode cX0_order 54 = .ok (.dup, 1) := dk_89 (dk_at dksX0_order_2 8 rfl rfl)
theorem dX0_order_55 : decode cX0_order 55 = .ok (.getfield 277, 3) := dk_180 1 21 (dk_at dksX0_order_2 9 rfl rfl)
theorem dX0_order_58 : decode cX0_order 58 = .ok (.iconst 1, 1) := dk_4 (dk_at dksX0_order_2 12 rfl rfl)
theorem dX0_order_59 : decode cX0_order 59 = .ok (.iadd, 1) := dk_96 (dk_at dksX0_order_2 13 rfl rfl)
theorem dX0_order_60 : decode cX0_order 60 = .ok (.putfield 277, 3) := dk_181 1 21 (dk_at dksX0_order_2 14 rfl rfl)
theorem dX0_order_63 : decode cX0_order 63 = .ok (.aload_n 0, 1) := dk_42 (dk_at dksX0_order_2 17 rfl rfl)
theorem dX0_order_64 : decode cX0_order 64 = .ok (.aload_n 0, 1) := dk_42 (dk_at dksX0_order_2 18 rfl rfl)
theorem dX0_order_65 : decode cX0_order 65 = .ok (.getfield 34, 3) := dk_180 0 34 (dk_at dksX0_order_2 19 rfl rfl)
theorem dX0_order_68 : decode cX0_order 68 = .ok (.iload_n 1, 1) := dk_27 (dk_at dksX0_order_2 22 rfl rfl)
theorem dX0_order_69 : decode cX0_order 69 = .ok (.aaload, 1) := dk_50 (dk_at dksX0_order_2 23 rfl rfl)
theorem dX0_order_70 : decode cX0_order 70 = .ok (.iload_n 2, 1) := dk_28 (dk_at dksX0_order_3 0 rfl rfl)
theorem dX0_order_71 : decode cX0_order 71 = .ok (.invokevirtual 282, 3) := dk_182 1 26 (dk_at dksX0_order_3 1 rfl rfl)
theorem dX0_order_74 : decode cX0_order 74 = .ok (.lreturn, 1) := dk_173 (dk_at dksX0_order_3 4 rfl rfl)
abbrev cX0_tellOrder : ByteArray := prog_1_method_37_code
def yX0_tellOrder : MethodName := ⟨RX0, "tellOrder", "(LBeatenInstead$Prince;I)J"⟩
def dkwX0_tellOrder_4 : List UInt8 := [180, 0, 243, 22, 4, 28, 184, 1, 11, 173]
abbrev dktX0_tellOrder_4 : List UInt8 := dkwX0_tellOrder_4 ++ []
def dkwX0_tellOrder_3 : List UInt8 := [42, 180, 0, 236, 162, 0, 17, 22, 4, 20, 0, 183, 105, 55, 4, 132, 6, 1, 167, 255, 236, 42]
abbrev dktX0_tellOrder_3 : List UInt8 := dkwX0_tellOrder_3 ++ dktX0_tellOrder_4
def dkwX0_tellOrder_2 : List UInt8 := [180, 0, 47, 28, 16, 10, 100, 46, 133, 167, 0, 6, 20, 0, 247, 173, 10, 55, 4, 3, 54, 6, 21, 6]
abbrev dktX0_tellOrder_2 : List UInt8 := dkwX0_tellOrder_2 ++ dktX0_tellOrder_3
def dkwX0_tellOrder_1 : List UInt8 := [29, 182, 0, 255, 28, 16, 9, 164, 0, 31, 28, 16, 10, 100, 42, 180, 0, 236, 162, 0, 16, 42]
abbrev dktX0_tellOrder_1 : List UInt8 := dkwX0_tellOrder_1 ++ dktX0_tellOrder_2
def dkwX0_tellOrder_0 : List UInt8 := [42, 43, 182, 1, 3, 62, 42, 29, 184, 1, 6, 181, 0, 236, 42, 20, 0, 247, 181, 0, 243, 42, 43, 3]
abbrev dktX0_tellOrder_0 : List UInt8 := dkwX0_tellOrder_0 ++ dktX0_tellOrder_1
theorem dksX0_tellOrder_0 : cX0_tellOrder.data.toList.drop 0 = dktX0_tellOrder_0 := by decide +kernel
theorem dksX0_tellOrder_1 : cX0_tellOrder.data.toList.drop 24 = dktX0_tellOrder_1 := dk_seg dksX0_tellOrder_0 24 rfl rfl
theorem dksX0_tellOrder_2 : cX0_tellOrder.data.toList.drop 46 = dktX0_tellOrder_2 := dk_seg dksX0_tellOrder_1 22 rfl rfl
theorem dksX0_tellOrder_3 : cX0_tellOrder.data.toList.drop 70 = dktX0_tellOrder_3 := dk_seg dksX0_tellOrder_2 24 rfl rfl
theorem dksX0_tellOrder_4 : cX0_tellOrder.data.toList.drop 92 = dktX0_tellOrder_4 := dk_seg dksX0_tellOrder_3 22 rfl rfl
theorem dX0_tellOrder_0 : decode cX0_tellOrder 0 = .ok (.aload_n 0, 1) := dk_42 (dk_at dksX0_tellOrder_0 0 rfl rfl)
theorem dX0_tellOrder_1 : decode cX0_tellOrder 1 = .ok (.aload_n 1, 1) := dk_43 (dk_at dksX0_tellOrder_0 1 rfl rfl)
theorem dX0_tellOrder_2 : decode cX0_tellOrder 2 = .ok (.invokevirtual 259, 3) := dk_182 1 3 (dk_at dksX0_tellOrder_0 2 rfl rfl)
theorem dX0_tellOrder_5 : decode cX0_tellOrder 5 = .ok (.istore_n 3, 1) := dk_62 (dk_at dksX0_tellOrder_0 5 rfl rfl)
theorem dX0_tellOrder_6 : decode cX0_tellOrder 6 = .ok (.aload_n 0, 1) := dk_42 (dk_at dksX0_tellOrder_0 6 rfl rfl)
theorem dX0_tellOrder_7 : decode cX0_tellOrder 7 = .ok (.iload_n 3, 1) := dk_29 (dk_at dksX0_tellOrder_0 7 rfl rfl)
theorem dX0_tellOrder_8 : decode cX0_tellOrder 8 = .ok (.invokestatic 262, 3) := dk_184 1 6 (dk_at dksX0_tellOrder_0 8 rfl rfl)
theorem dX0_tellOrder_11 : decode cX0_tellOrder 11 = .ok (.putfield 236, 3) := dk_181 0 236 (dk_at dksX0_tellOrder_0 11 rfl rfl)
theorem dX0_tellOrder_14 : decode cX0_tellOrder 14 = .ok (.aload_n 0, 1) := dk_42 (dk_at dksX0_tellOrder_0 14 rfl rfl)
theorem dX0_tellOrder_15 : decode cX0_tellOrder 15 = .ok (.ldc2_w 247, 3) := dk_20 0 247 (dk_at dksX0_tellOrder_0 15 rfl rfl)
theorem dX0_tellOrder_18 : decode cX0_tellOrder 18 = .ok (.putfield 243, 3) := dk_181 0 243 (dk_at dksX0_tellOrder_0 18 rfl rfl)
theorem dX0_tellOrder_21 : decode cX0_tellOrder 21 = .ok (.aload_n 0, 1) := dk_42 (dk_at dksX0_tellOrder_0 21 rfl rfl)
theorem dX0_tellOrder_22 : decode cX0_tellOrder 22 = .ok (.aload_n 1, 1) := dk_43 (dk_at dksX0_tellOrder_0 22 rfl rfl)
theorem dX0_tellOrder_23 : decode cX0_tellOrder 23 = .ok (.iconst 0, 1) := dk_3 (dk_at dksX0_tellOrder_0 23 rfl rfl)
theorem dX0_tellOrder_24 : decode cX0_tellOrder 24 = .ok (.iload_n 3, 1) := dk_29 (dk_at dksX0_tellOrder_1 0 rfl rfl)
theorem dX0_tellOrder_25 : decode cX0_tellOrder 25 = .ok (.invokevirtual 255, 3) := dk_182 0 255 (dk_at dksX0_tellOrder_1 1 rfl rfl)
theorem dX0_tellOrder_28 : decode cX0_tellOrder 28 = .ok (.iload_n 2, 1) := dk_28 (dk_at dksX0_tellOrder_1 4 rfl rfl)
theorem dX0_tellOrder_29 : decode cX0_tellOrder 29 = .ok (.bipush 9, 2) := dk_16 9 (dk_at dksX0_tellOrder_1 5 rfl rfl)
theorem dX0_tellOrder_31 : decode cX0_tellOrder 31 = .ok (.if_icmp .le 31, 3) := dk_164 0 31 (dk_at dksX0_tellOrder_1 7 rfl rfl)
theorem dX0_tellOrder_34 : decode cX0_tellOrder 34 = .ok (.iload_n 2, 1) := dk_28 (dk_at dksX0_tellOrder_1 10 rfl rfl)
theorem dX0_tellOrder_35 : decode cX0_tellOrder 35 = .ok (.bipush 10, 2) := dk_16 10 (dk_at dksX0_tellOrder_1 11 rfl rfl)
theorem dX0_tellOrder_37 : decode cX0_tellOrder 37 = .ok (.isub, 1) := dk_100 (dk_at dksX0_tellOrder_1 13 rfl rfl)
theorem dX0_tellOrder_38 : decode cX0_tellOrder 38 = .ok (.aload_n 0, 1) := dk_42 (dk_at dksX0_tellOrder_1 14 rfl rfl)
theorem dX0_tellOrder_39 : decode cX0_tellOrder 39 = .ok (.getfield 236, 3) := dk_180 0 236 (dk_at dksX0_tellOrder_1 15 rfl rfl)
theorem dX0_tellOrder_42 : decode cX0_tellOrder 42 = .ok (.if_icmp .ge 16, 3) := dk_162 0 16 (dk_at dksX0_tellOrder_1 18 rfl rfl)
theorem dX0_tellOrder_45 : decode cX0_tellOrder 45 = .ok (.aload_n 0, 1) := dk_42 (dk_at dksX0_tellOrder_1 21 rfl rfl)
theorem dX0_tellOrder_46 : decode cX0_tellOrder 46 = .ok (.getfield 47, 3) := dk_180 0 47 (dk_at dksX0_tellOrder_2 0 rfl rfl)
theorem dX0_tellOrder_49 : decode cX0_tellOrder 49 = .ok (.iload_n 2, 1) := dk_28 (dk_at dksX0_tellOrder_2 3 rfl rfl)
theorem dX0_tellOrder_50 : decode cX0_tellOrder 50 = .ok (.bipush 10, 2) := dk_16 10 (dk_at dksX0_tellOrder_2 4 rfl rfl)
theorem dX0_tellOrder_52 : decode cX0_tellOrder 52 = .ok (.isub, 1) := dk_100 (dk_at dksX0_tellOrder_2 6 rfl rfl)
theorem dX0_tellOrder_53 : decode cX0_tellOrder 53 = .ok (.iaload, 1) := dk_46 (dk_at dksX0_tellOrder_2 7 rfl rfl)
theorem dX0_tellOrder_54 : decode cX0_tellOrder 54 = .ok (.i2l, 1) := dk_133 (dk_at dksX0_tellOrder_2 8 rfl rfl)
theorem dX0_tellOrder_55 : decode cX0_tellOrder 55 = .ok (.goto 6, 3) := dk_167 0 6 (dk_at dksX0_tellOrder_2 9 rfl rfl)
theorem dX0_tellOrder_58 : decode cX0_tellOrder 58 = .ok (.ldc2_w 247, 3) := dk_20 0 247 (dk_at dksX0_tellOrder_2 12 rfl rfl)
theorem dX0_tellOrder_61 : decode cX0_tellOrder 61 = .ok (.lreturn, 1) := dk_173 (dk_at dksX0_tellOrder_2 15 rfl rfl)
theorem dX0_tellOrder_62 : decode cX0_tellOrder 62 = .ok (.lconst 1, 1) := dk_10 (dk_at dksX0_tellOrder_2 16 rfl rfl)
theorem dX0_tellOrder_63 : decode cX0_tellOrder 63 = .ok (.lstore 4, 2) := dk_55 4 (dk_at dksX0_tellOrder_2 17 rfl rfl)
theorem dX0_tellOrder_65 : decode cX0_tellOrder 65 = .ok (.iconst 0, 1) := dk_3 (dk_at dksX0_tellOrder_2 19 rfl rfl)
theorem dX0_tellOrder_66 : decode cX0_tellOrder 66 = .ok (.istore 6, 2) := dk_54 6 (dk_at dksX0_tellOrder_2 20 rfl rfl)
theorem dX0_tellOrder_68 : decode cX0_tellOrder 68 = .ok (.iload 6, 2) := dk_21 6 (dk_at dksX0_tellOrder_2 22 rfl rfl)
theorem dX0_tellOrder_70 : decode cX0_tellOrder 70 = .ok (.aload_n 0, 1) := dk_42 (dk_at dksX0_tellOrder_3 0 rfl rfl)
theorem dX0_tellOrder_71 : decode cX0_tellOrder 71 = .ok (.getfield 236, 3) := dk_180 0 236 (dk_at dksX0_tellOrder_3 1 rfl rfl)
theorem dX0_tellOrder_74 : decode cX0_tellOrder 74 = .ok (.if_icmp .ge 17, 3) := dk_162 0 17 (dk_at dksX0_tellOrder_3 4 rfl rfl)
theorem dX0_tellOrder_77 : decode cX0_tellOrder 77 = .ok (.lload 4, 2) := dk_22 4 (dk_at dksX0_tellOrder_3 7 rfl rfl)
theorem dX0_tellOrder_79 : decode cX0_tellOrder 79 = .ok (.ldc2_w 183, 3) := dk_20 0 183 (dk_at dksX0_tellOrder_3 9 rfl rfl)
theorem dX0_tellOrder_82 : decode cX0_tellOrder 82 = .ok (.lmul, 1) := dk_105 (dk_at dksX0_tellOrder_3 12 rfl rfl)
theorem dX0_tellOrder_83 : decode cX0_tellOrder 83 = .ok (.lstore 4, 2) := dk_55 4 (dk_at dksX0_tellOrder_3 13 rfl rfl)
theorem dX0_tellOrder_85 : decode cX0_tellOrder 85 = .ok (.iinc 6 1, 3) := dk_132 6 1 (dk_at dksX0_tellOrder_3 15 rfl rfl)
theorem dX0_tellOrder_88 : decode cX0_tellOrder 88 = .ok (.goto (-20), 3) := dk_167 255 236 (dk_at dksX0_tellOrder_3 18 rfl rfl)
theorem dX0_tellOrder_91 : decode cX0_tellOrder 91 = .ok (.aload_n 0, 1) := dk_42 (dk_at dksX0_tellOrder_3 21 rfl rfl)
theorem dX0_tellOrder_92 : decode cX0_tellOrder 92 = .ok (.getfield 243, 3) := dk_180 0 243 (dk_at dksX0_tellOrder_4 0 rfl rfl)
theorem dX0_tellOrder_95 : decode cX0_tellOrder 95 = .ok (.lload 4, 2) := dk_22 4 (dk_at dksX0_tellOrder_4 3 rfl rfl)
theorem dX0_tellOrder_97 : decode cX0_tellOrder 97 = .ok (.iload_n 2, 1) := dk_28 (dk_at dksX0_tellOrder_4 5 rfl rfl)
theorem dX0_tellOrder_98 : decode cX0_tellOrder 98 = .ok (.invokestatic 267, 3) := dk_184 1 11 (dk_at dksX0_tellOrder_4 6 rfl rfl)
theorem dX0_tellOrder_101 : decode cX0_tellOrder 101 = .ok (.lreturn, 1) := dk_173 (dk_at dksX0_tellOrder_4 9 rfl rfl)
abbrev cX0_leftOf : ByteArray := prog_1_method_36_code
def yX0_leftOf : MethodName := ⟨RX0, "leftOf", "(LBeatenInstead$Prince;)I"⟩
def dkwX0_leftOf_0 : List UInt8 := [43, 180, 0, 141, 2, 130, 4, 42, 180, 0, 124, 120, 4, 100, 126, 172]
abbrev dktX0_leftOf_0 : List UInt8 := dkwX0_leftOf_0 ++ []
theorem dksX0_leftOf_0 : cX0_leftOf.data.toList.drop 0 = dktX0_leftOf_0 := by decide +kernel
theorem dX0_leftOf_0 : decode cX0_leftOf 0 = .ok (.aload_n 1, 1) := dk_43 (dk_at dksX0_leftOf_0 0 rfl rfl)
theorem dX0_leftOf_1 : decode cX0_leftOf 1 = .ok (.getfield 141, 3) := dk_180 0 141 (dk_at dksX0_leftOf_0 1 rfl rfl)
theorem dX0_leftOf_4 : decode cX0_leftOf 4 = .ok (.iconst (-1), 1) := dk_2 (dk_at dksX0_leftOf_0 4 rfl rfl)
theorem dX0_leftOf_5 : decode cX0_leftOf 5 = .ok (.ixor, 1) := dk_130 (dk_at dksX0_leftOf_0 5 rfl rfl)
theorem dX0_leftOf_6 : decode cX0_leftOf 6 = .ok (.iconst 1, 1) := dk_4 (dk_at dksX0_leftOf_0 6 rfl rfl)
theorem dX0_leftOf_7 : decode cX0_leftOf 7 = .ok (.aload_n 0, 1) := dk_42 (dk_at dksX0_leftOf_0 7 rfl rfl)
theorem dX0_leftOf_8 : decode cX0_leftOf 8 = .ok (.getfield 124, 3) := dk_180 0 124 (dk_at dksX0_leftOf_0 8 rfl rfl)
theorem dX0_leftOf_11 : decode cX0_leftOf 11 = .ok (.ishl, 1) := dk_120 (dk_at dksX0_leftOf_0 11 rfl rfl)
theorem dX0_leftOf_12 : decode cX0_leftOf 12 = .ok (.iconst 1, 1) := dk_4 (dk_at dksX0_leftOf_0 12 rfl rfl)
theorem dX0_leftOf_13 : decode cX0_leftOf 13 = .ok (.isub, 1) := dk_100 (dk_at dksX0_leftOf_0 13 rfl rfl)
theorem dX0_leftOf_14 : decode cX0_leftOf 14 = .ok (.iand, 1) := dk_126 (dk_at dksX0_leftOf_0 14 rfl rfl)
theorem dX0_leftOf_15 : decode cX0_leftOf 15 = .ok (.ireturn, 1) := dk_172 (dk_at dksX0_leftOf_0 15 rfl rfl)
abbrev cX0_tryOrder : ByteArray := prog_1_method_34_code
def yX0_tryOrder : MethodName := ⟨RX0, "tryOrder", "(LBeatenInstead$Prince;II)V"⟩
def dkwX0_tryOrder_5 : List UInt8 := [132, 4, 1, 167, 255, 211, 177]
abbrev dktX0_tryOrder_5 : List UInt8 := dkwX0_tryOrder_5 ++ []
def dkwX0_tryOrder_4 : List UInt8 := [180, 0, 44, 28, 21, 4, 79, 42, 43, 28, 4, 96, 29, 4, 21, 4, 120, 2, 130, 126, 182, 0, 255]
abbrev dktX0_tryOrder_4 : List UInt8 := dkwX0_tryOrder_4 ++ dktX0_tryOrder_5
def dkwX0_tryOrder_3 : List UInt8 := [3, 54, 4, 21, 4, 42, 180, 0, 124, 162, 0, 42, 29, 21, 4, 184, 0, 144, 153, 0, 27, 42]
abbrev dktX0_tryOrder_3 : List UInt8 := dkwX0_tryOrder_3 ++ dktX0_tryOrder_4
def dkwX0_tryOrder_2 : List UInt8 := [156, 0, 23, 42, 22, 4, 181, 0, 243, 42, 180, 0, 44, 3, 42, 180, 0, 47, 3, 8, 184, 0, 249, 177]
abbrev dktX0_tryOrder_2 : List UInt8 := dkwX0_tryOrder_2 ++ dktX0_tryOrder_3
def dkwX0_tryOrder_1 : List UInt8 := [46, 182, 0, 239, 55, 4, 42, 180, 0, 243, 20, 0, 247, 148, 153, 0, 13, 22, 4, 42, 180, 0, 243, 148]
abbrev dktX0_tryOrder_1 : List UInt8 := dkwX0_tryOrder_1 ++ dktX0_tryOrder_2
def dkwX0_tryOrder_0 : List UInt8 := [28, 42, 180, 0, 236, 160, 0, 67, 42, 43, 3, 42, 43, 182, 0, 190, 42, 180, 0, 31, 43, 180, 0, 180]
abbrev dktX0_tryOrder_0 : List UInt8 := dkwX0_tryOrder_0 ++ dktX0_tryOrder_1
theorem dksX0_tryOrder_0 : cX0_tryOrder.data.toList.drop 0 = dktX0_tryOrder_0 := by decide +kernel
theorem dksX0_tryOrder_1 : cX0_tryOrder.data.toList.drop 24 = dktX0_tryOrder_1 := dk_seg dksX0_tryOrder_0 24 rfl rfl
theorem dksX0_tryOrder_2 : cX0_tryOrder.data.toList.drop 48 = dktX0_tryOrder_2 := dk_seg dksX0_tryOrder_1 24 rfl rfl
theorem dksX0_tryOrder_3 : cX0_tryOrder.data.toList.drop 72 = dktX0_tryOrder_3 := dk_seg dksX0_tryOrder_2 24 rfl rfl
theorem dksX0_tryOrder_4 : cX0_tryOrder.data.toList.drop 94 = dktX0_tryOrder_4 := dk_seg dksX0_tryOrder_3 22 rfl rfl
theorem dksX0_tryOrder_5 : cX0_tryOrder.data.toList.drop 117 = dktX0_tryOrder_5 := dk_seg dksX0_tryOrder_4 23 rfl rfl
theorem dX0_tryOrder_0 : decode cX0_tryOrder 0 = .ok (.iload_n 2, 1) := dk_28 (dk_at dksX0_tryOrder_0 0 rfl rfl)
theorem dX0_tryOrder_1 : decode cX0_tryOrder 1 = .ok (.aload_n 0, 1) := dk_42 (dk_at dksX0_tryOrder_0 1 rfl rfl)
theorem dX0_tryOrder_2 : decode cX0_tryOrder 2 = .ok (.getfield 236, 3) := dk_180 0 236 (dk_at dksX0_tryOrder_0 2 rfl rfl)
theorem dX0_tryOrder_5 : decode cX0_tryOrder 5 = .ok (.if_icmp .ne 67, 3) := dk_160 0 67 (dk_at dksX0_tryOrder_0 5 rfl rfl)
theorem dX0_tryOrder_8 : decode cX0_tryOrder 8 = .ok (.aload_n 0, 1) := dk_42 (dk_at dksX0_tryOrder_0 8 rfl rfl)
theorem dX0_tryOrder_9 : decode cX0_tryOrder 9 = .ok (.aload_n 1, 1) := dk_43 (dk_at dksX0_tryOrder_0 9 rfl rfl)
theorem dX0_tryOrder_10 : decode cX0_tryOrder 10 = .ok (.iconst 0, 1) := dk_3 (dk_at dksX0_tryOrder_0 10 rfl rfl)
theorem dX0_tryOrder_11 : decode cX0_tryOrder 11 = .ok (.aload_n 0, 1) := dk_42 (dk_at dksX0_tryOrder_0 11 rfl rfl)
theorem dX0_tryOrder_12 : decode cX0_tryOrder 12 = .ok (.aload_n 1, 1) := dk_43 (dk_at dksX0_tryOrder_0 12 rfl rfl)
theorem dX0_tryOrder_13 : decode cX0_tryOrder 13 = .ok (.invokevirtual 190, 3) := dk_182 0 190 (dk_at dksX0_tryOrder_0 13 rfl rfl)
theorem dX0_tryOrder_16 : decode cX0_tryOrder 16 = .ok (.aload_n 0, 1) := dk_42 (dk_at dksX0_tryOrder_0 16 rfl rfl)
theorem dX0_tryOrder_17 : decode cX0_tryOrder 17 = .ok (.getfield 31, 3) := dk_180 0 31 (dk_at dksX0_tryOrder_0 17 rfl rfl)
theorem dX0_tryOrder_20 : decode cX0_tryOrder 20 = .ok (.aload_n 1, 1) := dk_43 (dk_at dksX0_tryOrder_0 20 rfl rfl)
theorem dX0_tryOrder_21 : decode cX0_tryOrder 21 = .ok (.getfield 180, 3) := dk_180 0 180 (dk_at dksX0_tryOrder_0 21 rfl rfl)
theorem dX0_tryOrder_24 : decode cX0_tryOrder 24 = .ok (.iaload, 1) := dk_46 (dk_at dksX0_tryOrder_1 0 rfl rfl)
theorem dX0_tryOrder_25 : decode cX0_tryOrder 25 = .ok (.invokevirtual 239, 3) := dk_182 0 239 (dk_at dksX0_tryOrder_1 1 rfl rfl)
theorem dX0_tryOrder_28 : decode cX0_tryOrder 28 = .ok (.lstore 4, 2) := dk_55 4 (dk_at dksX0_tryOrder_1 4 rfl rfl)
theorem dX0_tryOrder_30 : decode cX0_tryOrder 30 = .ok (.aload_n 0, 1) := dk_42 (dk_at dksX0_tryOrder_1 6 rfl rfl)
theorem dX0_tryOrder_31 : decode cX0_tryOrder 31 = .ok (.getfield 243, 3) := dk_180 0 243 (dk_at dksX0_tryOrder_1 7 rfl rfl)
theorem dX0_tryOrder_34 : decode cX0_tryOrder 34 = .ok (.ldc2_w 247, 3) := dk_20 0 247 (dk_at dksX0_tryOrder_1 10 rfl rfl)
theorem dX0_tryOrder_37 : decode cX0_tryOrder 37 = .ok (.lcmp, 1) := dk_148 (dk_at dksX0_tryOrder_1 13 rfl rfl)
theorem dX0_tryOrder_38 : decode cX0_tryOrder 38 = .ok (.ifCond .eq 13, 3) := dk_153 0 13 (dk_at dksX0_tryOrder_1 14 rfl rfl)
theorem dX0_tryOrder_41 : decode cX0_tryOrder 41 = .ok (.lload 4, 2) := dk_22 4 (dk_at dksX0_tryOrder_1 17 rfl rfl)
theorem dX0_tryOrder_43 : decode cX0_tryOrder 43 = .ok (.aload_n 0, 1) := dk_42 (dk_at dksX0_tryOrder_1 19 rfl rfl)
theorem dX0_tryOrder_44 : decode cX0_tryOrder 44 = .ok (.getfield 243, 3) := dk_180 0 243 (dk_at dksX0_tryOrder_1 20 rfl rfl)
theorem dX0_tryOrder_47 : decode cX0_tryOrder 47 = .ok (.lcmp, 1) := dk_148 (dk_at dksX0_tryOrder_1 23 rfl rfl)
theorem dX0_tryOrder_48 : decode cX0_tryOrder 48 = .ok (.ifCond .ge 23, 3) := dk_156 0 23 (dk_at dksX0_tryOrder_2 0 rfl rfl)
theorem dX0_tryOrder_51 : decode cX0_tryOrder 51 = .ok (.aload_n 0, 1) := dk_42 (dk_at dksX0_tryOrder_2 3 rfl rfl)
theorem dX0_tryOrder_52 : decode cX0_tryOrder 52 = .ok (.lload 4, 2) := dk_22 4 (dk_at dksX0_tryOrder_2 4 rfl rfl)
theorem dX0_tryOrder_54 : decode cX0_tryOrder 54 = .ok (.putfield 243, 3) := dk_181 0 243 (dk_at dksX0_tryOrder_2 6 rfl rfl)
theorem dX0_tryOrder_57 : decode cX0_tryOrder 57 = .ok (.aload_n 0, 1) := dk_42 (dk_at dksX0_tryOrder_2 9 rfl rfl)
theorem dX0_tryOrder_58 : decode cX0_tryOrder 58 = .ok (.getfield 44, 3) := dk_180 0 44 (dk_at dksX0_tryOrder_2 10 rfl rfl)
theorem dX0_tryOrder_61 : decode cX0_tryOrder 61 = .ok (.iconst 0, 1) := dk_3 (dk_at dksX0_tryOrder_2 13 rfl rfl)
theorem dX0_tryOrder_62 : decode cX0_tryOrder 62 = .ok (.aload_n 0, 1) := dk_42 (dk_at dksX0_tryOrder_2 14 rfl rfl)
theorem dX0_tryOrder_63 : decode cX0_tryOrder 63 = .ok (.getfield 47, 3) := dk_180 0 47 (dk_at dksX0_tryOrder_2 15 rfl rfl)
theorem dX0_tryOrder_66 : decode cX0_tryOrder 66 = .ok (.iconst 0, 1) := dk_3 (dk_at dksX0_tryOrder_2 18 rfl rfl)
theorem dX0_tryOrder_67 : decode cX0_tryOrder 67 = .ok (.iconst 5, 1) := dk_8 (dk_at dksX0_tryOrder_2 19 rfl rfl)
theorem dX0_tryOrder_68 : decode cX0_tryOrder 68 = .ok (.invokestatic 249, 3) := dk_184 0 249 (dk_at dksX0_tryOrder_2 20 rfl rfl)
theorem dX0_tryOrder_71 : decode cX0_tryOrder 71 = .ok (.return_, 1) := dk_177 (dk_at dksX0_tryOrder_2 23 rfl rfl)
theorem dX0_tryOrder_72 : decode cX0_tryOrder 72 = .ok (.iconst 0, 1) := dk_3 (dk_at dksX0_tryOrder_3 0 rfl rfl)
theorem dX0_tryOrder_73 : decode cX0_tryOrder 73 = .ok (.istore 4, 2) := dk_54 4 (dk_at dksX0_tryOrder_3 1 rfl rfl)
theorem dX0_tryOrder_75 : decode cX0_tryOrder 75 = .ok (.iload 4, 2) := dk_21 4 (dk_at dksX0_tryOrder_3 3 rfl rfl)
theorem dX0_tryOrder_77 : decode cX0_tryOrder 77 = .ok (.aload_n 0, 1) := dk_42 (dk_at dksX0_tryOrder_3 5 rfl rfl)
theorem dX0_tryOrder_78 : decode cX0_tryOrder 78 = .ok (.getfield 124, 3) := dk_180 0 124 (dk_at dksX0_tryOrder_3 6 rfl rfl)
theorem dX0_tryOrder_81 : decode cX0_tryOrder 81 = .ok (.if_icmp .ge 42, 3) := dk_162 0 42 (dk_at dksX0_tryOrder_3 9 rfl rfl)
theorem dX0_tryOrder_84 : decode cX0_tryOrder 84 = .ok (.iload_n 3, 1) := dk_29 (dk_at dksX0_tryOrder_3 12 rfl rfl)
theorem dX0_tryOrder_85 : decode cX0_tryOrder 85 = .ok (.iload 4, 2) := dk_21 4 (dk_at dksX0_tryOrder_3 13 rfl rfl)
theorem dX0_tryOrder_87 : decode cX0_tryOrder 87 = .ok (.invokestatic 144, 3) := dk_184 0 144 (dk_at dksX0_tryOrder_3 15 rfl rfl)
theorem dX0_tryOrder_90 : decode cX0_tryOrder 90 = .ok (.ifCond .eq 27, 3) := dk_153 0 27 (dk_at dksX0_tryOrder_3 18 rfl rfl)
theorem dX0_tryOrder_93 : decode cX0_tryOrder 93 = .ok (.aload_n 0, 1) := dk_42 (dk_at dksX0_tryOrder_3 21 rfl rfl)
theorem dX0_tryOrder_94 : decode cX0_tryOrder 94 = .ok (.getfield 44, 3) := dk_180 0 44 (dk_at dksX0_tryOrder_4 0 rfl rfl)
theorem dX0_tryOrder_97 : decode cX0_tryOrder 97 = .ok (.iload_n 2, 1) := dk_28 (dk_at dksX0_tryOrder_4 3 rfl rfl)
theorem dX0_tryOrder_98 : decode cX0_tryOrder 98 = .ok (.iload 4, 2) := dk_21 4 (dk_at dksX0_tryOrder_4 4 rfl rfl)
theorem dX0_tryOrder_100 : decode cX0_tryOrder 100 = .ok (.iastore, 1) := dk_79 (dk_at dksX0_tryOrder_4 6 rfl rfl)
theorem dX0_tryOrder_101 : decode cX0_tryOrder 101 = .ok (.aload_n 0, 1) := dk_42 (dk_at dksX0_tryOrder_4 7 rfl rfl)
theorem dX0_tryOrder_102 : decode cX0_tryOrder 102 = .ok (.aload_n 1, 1) := dk_43 (dk_at dksX0_tryOrder_4 8 rfl rfl)
theorem dX0_tryOrder_103 : decode cX0_tryOrder 103 = .ok (.iload_n 2, 1) := dk_28 (dk_at dksX0_tryOrder_4 9 rfl rfl)
theorem dX0_tryOrder_104 : decode cX0_tryOrder 104 = .ok (.iconst 1, 1) := dk_4 (dk_at dksX0_tryOrder_4 10 rfl rfl)
theorem dX0_tryOrder_105 : decode cX0_tryOrder 105 = .ok (.iadd, 1) := dk_96 (dk_at dksX0_tryOrder_4 11 rfl rfl)
theorem dX0_tryOrder_106 : decode cX0_tryOrder 106 = .ok (.iload_n 3, 1) := dk_29 (dk_at dksX0_tryOrder_4 12 rfl rfl)
theorem dX0_tryOrder_107 : decode cX0_tryOrder 107 = .ok (.iconst 1, 1) := dk_4 (dk_at dksX0_tryOrder_4 13 rfl rfl)
theorem dX0_tryOrder_108 : decode cX0_tryOrder 108 = .ok (.iload 4, 2) := dk_21 4 (dk_at dksX0_tryOrder_4 14 rfl rfl)
theorem dX0_tryOrder_110 : decode cX0_tryOrder 110 = .ok (.ishl, 1) := dk_120 (dk_at dksX0_tryOrder_4 16 rfl rfl)
theorem dX0_tryOrder_111 : decode cX0_tryOrder 111 = .ok (.iconst (-1), 1) := dk_2 (dk_at dksX0_tryOrder_4 17 rfl rfl)
theorem dX0_tryOrder_112 : decode cX0_tryOrder 112 = .ok (.ixor, 1) := dk_130 (dk_at dksX0_tryOrder_4 18 rfl rfl)
theorem dX0_tryOrder_113 : decode cX0_tryOrder 113 = .ok (.iand, 1) := dk_126 (dk_at dksX0_tryOrder_4 19 rfl rfl)
theorem dX0_tryOrder_114 : decode cX0_tryOrder 114 = .ok (.invokevirtual 255, 3) := dk_182 0 255 (dk_at dksX0_tryOrder_4 20 rfl rfl)
theorem dX0_tryOrder_117 : decode cX0_tryOrder 117 = .ok (.iinc 4 1, 3) := dk_132 4 1 (dk_at dksX0_tryOrder_5 0 rfl rfl)
theorem dX0_tryOrder_120 : decode cX0_tryOrder 120 = .ok (.goto (-45), 3) := dk_167 255 211 (dk_at dksX0_tryOrder_5 3 rfl rfl)
theorem dX0_tryOrder_123 : decode cX0_tryOrder 123 = .ok (.return_, 1) := dk_177 (dk_at dksX0_tryOrder_5 6 rfl rfl)
abbrev cX0_meanFrom : ByteArray := prog_1_method_33_code
def yX0_meanFrom : MethodName := ⟨RX0, "meanFrom", "(LBeatenInstead$Prince;III)J"⟩
def dkwX0_meanFrom_6 : List UInt8 := [22, 7, 42, 180, 0, 28, 21, 5, 46, 133, 105, 97, 105, 97, 173]
abbrev dktX0_meanFrom_6 : List UInt8 := dkwX0_meanFrom_6 ++ []
def dkwX0_meanFrom_5 : List UInt8 := [21, 5, 46, 96, 182, 0, 239, 55, 11, 21, 6, 133, 22, 9, 105, 16, 10, 21, 6, 100, 133, 22, 11]
abbrev dktX0_meanFrom_5 : List UInt8 := dkwX0_meanFrom_5 ++ dktX0_meanFrom_6
def dkwX0_meanFrom_4 : List UInt8 := [4, 96, 42, 29, 21, 4, 42, 180, 0, 28, 21, 5, 46, 96, 182, 0, 229, 21, 4, 42, 180, 0, 28]
abbrev dktX0_meanFrom_4 : List UInt8 := dkwX0_meanFrom_4 ++ dktX0_meanFrom_5
def dkwX0_meanFrom_3 : List UInt8 := [4, 96, 29, 21, 4, 182, 0, 239, 55, 9, 21, 6, 16, 10, 160, 0, 7, 9, 167, 0, 36, 42, 43, 28]
abbrev dktX0_meanFrom_3 : List UInt8 := dkwX0_meanFrom_3 ++ dktX0_meanFrom_4
def dkwX0_meanFrom_2 : List UInt8 := [20, 0, 183, 105, 55, 7, 132, 9, 1, 167, 255, 236, 21, 6, 154, 0, 7, 9, 167, 0, 14, 42, 43, 28]
abbrev dktX0_meanFrom_2 : List UInt8 := dkwX0_meanFrom_2 ++ dktX0_meanFrom_3
def dkwX0_meanFrom_1 : List UInt8 := [182, 0, 222, 54, 6, 10, 55, 7, 28, 4, 96, 54, 9, 21, 9, 42, 180, 0, 236, 162, 0, 17, 22, 7]
abbrev dktX0_meanFrom_1 : List UInt8 := dkwX0_meanFrom_1 ++ dktX0_meanFrom_2
def dkwX0_meanFrom_0 : List UInt8 := [28, 42, 180, 0, 236, 160, 0, 5, 9, 173, 42, 180, 0, 44, 28, 46, 54, 5, 42, 43, 21, 5, 29]
abbrev dktX0_meanFrom_0 : List UInt8 := dkwX0_meanFrom_0 ++ dktX0_meanFrom_1
theorem dksX0_meanFrom_0 : cX0_meanFrom.data.toList.drop 0 = dktX0_meanFrom_0 := by decide +kernel
theorem dksX0_meanFrom_1 : cX0_meanFrom.data.toList.drop 23 = dktX0_meanFrom_1 := dk_seg dksX0_meanFrom_0 23 rfl rfl
theorem dksX0_meanFrom_2 : cX0_meanFrom.data.toList.drop 47 = dktX0_meanFrom_2 := dk_seg dksX0_meanFrom_1 24 rfl rfl
theorem dksX0_meanFrom_3 : cX0_meanFrom.data.toList.drop 71 = dktX0_meanFrom_3 := dk_seg dksX0_meanFrom_2 24 rfl rfl
theorem dksX0_meanFrom_4 : cX0_meanFrom.data.toList.drop 95 = dktX0_meanFrom_4 := dk_seg dksX0_meanFrom_3 24 rfl rfl
theorem dksX0_meanFrom_5 : cX0_meanFrom.data.toList.drop 118 = dktX0_meanFrom_5 := dk_seg dksX0_meanFrom_4 23 rfl rfl
theorem dksX0_meanFrom_6 : cX0_meanFrom.data.toList.drop 141 = dktX0_meanFrom_6 := dk_seg dksX0_meanFrom_5 23 rfl rfl
theorem dX0_meanFrom_0 : decode cX0_meanFrom 0 = .ok (.iload_n 2, 1) := dk_28 (dk_at dksX0_meanFrom_0 0 rfl rfl)
theorem dX0_meanFrom_1 : decode cX0_meanFrom 1 = .ok (.aload_n 0, 1) := dk_42 (dk_at dksX0_meanFrom_0 1 rfl rfl)
theorem dX0_meanFrom_2 : decode cX0_meanFrom 2 = .ok (.getfield 236, 3) := dk_180 0 236 (dk_at dksX0_meanFrom_0 2 rfl rfl)
theorem dX0_meanFrom_5 : decode cX0_meanFrom 5 = .ok (.if_icmp .ne 5, 3) := dk_160 0 5 (dk_at dksX0_meanFrom_0 5 rfl rfl)
theorem dX0_meanFrom_8 : decode cX0_meanFrom 8 = .ok (.lconst 0, 1) := dk_9 (dk_at dksX0_meanFrom_0 8 rfl rfl)
theorem dX0_meanFrom_9 : decode cX0_meanFrom 9 = .ok (.lreturn, 1) := dk_173 (dk_at dksX0_meanFrom_0 9 rfl rfl)
theorem dX0_meanFrom_10 : decode cX0_meanFrom 10 = .ok (.aload_n 0, 1) := dk_42 (dk_at dksX0_meanFrom_0 10 rfl rfl)
theorem dX0_meanFrom_11 : decode cX0_meanFrom 11 = .ok (.getfield 44, 3) := dk_180 0 44 (dk_at dksX0_meanFrom_0 11 rfl rfl)
theorem dX0_meanFrom_14 : decode cX0_meanFrom 14 = .ok (.iload_n 2, 1) := dk_28 (dk_at dksX0_meanFrom_0 14 rfl rfl)
theorem dX0_meanFrom_15 : decode cX0_meanFrom 15 = .ok (.iaload, 1) := dk_46 (dk_at dksX0_meanFrom_0 15 rfl rfl)
theorem dX0_meanFrom_16 : decode cX0_meanFrom 16 = .ok (.istore 5, 2) := dk_54 5 (dk_at dksX0_meanFrom_0 16 rfl rfl)
theorem dX0_meanFrom_18 : decode cX0_meanFrom 18 = .ok (.aload_n 0, 1) := dk_42 (dk_at dksX0_meanFrom_0 18 rfl rfl)
theorem dX0_meanFrom_19 : decode cX0_meanFrom 19 = .ok (.aload_n 1, 1) := dk_43 (dk_at dksX0_meanFrom_0 19 rfl rfl)
theorem dX0_meanFrom_20 : decode cX0_meanFrom 20 = .ok (.iload 5, 2) := dk_21 5 (dk_at dksX0_meanFrom_0 20 rfl rfl)
theorem dX0_meanFrom_22 : decode cX0_meanFrom 22 = .ok (.iload_n 3, 1) := dk_29 (dk_at dksX0_meanFrom_0 22 rfl rfl)
theorem dX0_meanFrom_23 : decode cX0_meanFrom 23 = .ok (.invokevirtual 222, 3) := dk_182 0 222 (dk_at dksX0_meanFrom_1 0 rfl rfl)
theorem dX0_meanFrom_26 : decode cX0_meanFrom 26 = .ok (.istore 6, 2) := dk_54 6 (dk_at dksX0_meanFrom_1 3 rfl rfl)
theorem dX0_meanFrom_28 : decode cX0_meanFrom 28 = .ok (.lconst 1, 1) := dk_10 (dk_at dksX0_meanFrom_1 5 rfl rfl)
theorem dX0_meanFrom_29 : decode cX0_meanFrom 29 = .ok (.lstore 7, 2) := dk_55 7 (dk_at dksX0_meanFrom_1 6 rfl rfl)
theorem dX0_meanFrom_31 : decode cX0_meanFrom 31 = .ok (.iload_n 2, 1) := dk_28 (dk_at dksX0_meanFrom_1 8 rfl rfl)
theorem dX0_meanFrom_32 : decode cX0_meanFrom 32 = .ok (.iconst 1, 1) := dk_4 (dk_at dksX0_meanFrom_1 9 rfl rfl)
theorem dX0_meanFrom_33 : decode cX0_meanFrom 33 = .ok (.iadd, 1) := dk_96 (dk_at dksX0_meanFrom_1 10 rfl rfl)
theorem dX0_meanFrom_34 : decode cX0_meanFrom 34 = .ok (.istore 9, 2) := dk_54 9 (dk_at dksX0_meanFrom_1 11 rfl rfl)
theorem dX0_meanFrom_36 : decode cX0_meanFrom 36 = .ok (.iload 9, 2) := dk_21 9 (dk_at dksX0_meanFrom_1 13 rfl rfl)
theorem dX0_meanFrom_38 : decode cX0_meanFrom 38 = .ok (.aload_n 0, 1) := dk_42 (dk_at dksX0_meanFrom_1 15 rfl rfl)
theorem dX0_meanFrom_39 : decode cX0_meanFrom 39 = .ok (.getfield 236, 3) := dk_180 0 236 (dk_at dksX0_meanFrom_1 16 rfl rfl)
theorem dX0_meanFrom_42 : decode cX0_meanFrom 42 = .ok (.if_icmp .ge 17, 3) := dk_162 0 17 (dk_at dksX0_meanFrom_1 19 rfl rfl)
theorem dX0_meanFrom_45 : decode cX0_meanFrom 45 = .ok (.lload 7, 2) := dk_22 7 (dk_at dksX0_meanFrom_1 22 rfl rfl)
theorem dX0_meanFrom_47 : decode cX0_meanFrom 47 = .ok (.ldc2_w 183, 3) := dk_20 0 183 (dk_at dksX0_meanFrom_2 0 rfl rfl)
theorem dX0_meanFrom_50 : decode cX0_meanFrom 50 = .ok (.lmul, 1) := dk_105 (dk_at dksX0_meanFrom_2 3 rfl rfl)
theorem dX0_meanFrom_51 : decode cX0_meanFrom 51 = .ok (.lstore 7, 2) := dk_55 7 (dk_at dksX0_meanFrom_2 4 rfl rfl)
theorem dX0_meanFrom_53 : decode cX0_meanFrom 53 = .ok (.iinc 9 1, 3) := dk_132 9 1 (dk_at dksX0_meanFrom_2 6 rfl rfl)
theorem dX0_meanFrom_56 : decode cX0_meanFrom 56 = .ok (.goto (-20), 3) := dk_167 255 236 (dk_at dksX0_meanFrom_2 9 rfl rfl)
theorem dX0_meanFrom_59 : decode cX0_meanFrom 59 = .ok (.iload 6, 2) := dk_21 6 (dk_at dksX0_meanFrom_2 12 rfl rfl)
theorem dX0_meanFrom_61 : decode cX0_meanFrom 61 = .ok (.ifCond .ne 7, 3) := dk_154 0 7 (dk_at dksX0_meanFrom_2 14 rfl rfl)
theorem dX0_meanFrom_64 : decode cX0_meanFrom 64 = .ok (.lconst 0, 1) := dk_9 (dk_at dksX0_meanFrom_2 17 rfl rfl)
theorem dX0_meanFrom_65 : decode cX0_meanFrom 65 = .ok (.goto 14, 3) := dk_167 0 14 (dk_at dksX0_meanFrom_2 18 rfl rfl)
theorem dX0_meanFrom_68 : decode cX0_meanFrom 68 = .ok (.aload_n 0, 1) := dk_42 (dk_at dksX0_meanFrom_2 21 rfl rfl)
theorem dX0_meanFrom_69 : decode cX0_meanFrom 69 = .ok (.aload_n 1, 1) := dk_43 (dk_at dksX0_meanFrom_2 22 rfl rfl)
theorem dX0_meanFrom_70 : decode cX0_meanFrom 70 = .ok (.iload_n 2, 1) := dk_28 (dk_at dksX0_meanFrom_2 23 rfl rfl)
theorem dX0_meanFrom_71 : decode cX0_meanFrom 71 = .ok (.iconst 1, 1) := dk_4 (dk_at dksX0_meanFrom_3 0 rfl rfl)
theorem dX0_meanFrom_72 : decode cX0_meanFrom 72 = .ok (.iadd, 1) := dk_96 (dk_at dksX0_meanFrom_3 1 rfl rfl)
theorem dX0_meanFrom_73 : decode cX0_meanFrom 73 = .ok (.iload_n 3, 1) := dk_29 (dk_at dksX0_meanFrom_3 2 rfl rfl)
theorem dX0_meanFrom_74 : decode cX0_meanFrom 74 = .ok (.iload 4, 2) := dk_21 4 (dk_at dksX0_meanFrom_3 3 rfl rfl)
theorem dX0_meanFrom_76 : decode cX0_meanFrom 76 = .ok (.invokevirtual 239, 3) := dk_182 0 239 (dk_at dksX0_meanFrom_3 5 rfl rfl)
theorem dX0_meanFrom_79 : decode cX0_meanFrom 79 = .ok (.lstore 9, 2) := dk_55 9 (dk_at dksX0_meanFrom_3 8 rfl rfl)
theorem dX0_meanFrom_81 : decode cX0_meanFrom 81 = .ok (.iload 6, 2) := dk_21 6 (dk_at dksX0_meanFrom_3 10 rfl rfl)
theorem dX0_meanFrom_83 : decode cX0_meanFrom 83 = .ok (.bipush 10, 2) := dk_16 10 (dk_at dksX0_meanFrom_3 12 rfl rfl)
theorem dX0_meanFrom_85 : decode cX0_meanFrom 85 = .ok (.if_icmp .ne 7, 3) := dk_160 0 7 (dk_at dksX0_meanFrom_3 14 rfl rfl)
theorem dX0_meanFrom_88 : decode cX0_meanFrom 88 = .ok (.lconst 0, 1) := dk_9 (dk_at dksX0_meanFrom_3 17 rfl rfl)
theorem dX0_meanFrom_89 : decode cX0_meanFrom 89 = .ok (.goto 36, 3) := dk_167 0 36 (dk_at dksX0_meanFrom_3 18 rfl rfl)
theorem dX0_meanFrom_92 : decode cX0_meanFrom 92 = .ok (.aload_n 0, 1) := dk_42 (dk_at dksX0_meanFrom_3 21 rfl rfl)
theorem dX0_meanFrom_93 : decode cX0_meanFrom 93 = .ok (.aload_n 1, 1) := dk_43 (dk_at dksX0_meanFrom_3 22 rfl rfl)
theorem dX0_meanFrom_94 : decode cX0_meanFrom 94 = .ok (.iload_n 2, 1) := dk_28 (dk_at dksX0_meanFrom_3 23 rfl rfl)
theorem dX0_meanFrom_95 : decode cX0_meanFrom 95 = .ok (.iconst 1, 1) := dk_4 (dk_at dksX0_meanFrom_4 0 rfl rfl)
theorem dX0_meanFrom_96 : decode cX0_meanFrom 96 = .ok (.iadd, 1) := dk_96 (dk_at dksX0_meanFrom_4 1 rfl rfl)
theorem dX0_meanFrom_97 : decode cX0_meanFrom 97 = .ok (.aload_n 0, 1) := dk_42 (dk_at dksX0_meanFrom_4 2 rfl rfl)
theorem dX0_meanFrom_98 : decode cX0_meanFrom 98 = .ok (.iload_n 3, 1) := dk_29 (dk_at dksX0_meanFrom_4 3 rfl rfl)
theorem dX0_meanFrom_99 : decode cX0_meanFrom 99 = .ok (.iload 4, 2) := dk_21 4 (dk_at dksX0_meanFrom_4 4 rfl rfl)
theorem dX0_meanFrom_101 : decode cX0_meanFrom 101 = .ok (.aload_n 0, 1) := dk_42 (dk_at dksX0_meanFrom_4 6 rfl rfl)
theorem dX0_meanFrom_102 : decode cX0_meanFrom 102 = .ok (.getfield 28, 3) := dk_180 0 28 (dk_at dksX0_meanFrom_4 7 rfl rfl)
theorem dX0_meanFrom_105 : decode cX0_meanFrom 105 = .ok (.iload 5, 2) := dk_21 5 (dk_at dksX0_meanFrom_4 10 rfl rfl)
theorem dX0_meanFrom_107 : decode cX0_meanFrom 107 = .ok (.iaload, 1) := dk_46 (dk_at dksX0_meanFrom_4 12 rfl rfl)
theorem dX0_meanFrom_108 : decode cX0_meanFrom 108 = .ok (.iadd, 1) := dk_96 (dk_at dksX0_meanFrom_4 13 rfl rfl)
theorem dX0_meanFrom_109 : decode cX0_meanFrom 109 = .ok (.invokevirtual 229, 3) := dk_182 0 229 (dk_at dksX0_meanFrom_4 14 rfl rfl)
theorem dX0_meanFrom_112 : decode cX0_meanFrom 112 = .ok (.iload 4, 2) := dk_21 4 (dk_at dksX0_meanFrom_4 17 rfl rfl)
theorem dX0_meanFrom_114 : decode cX0_meanFrom 114 = .ok (.aload_n 0, 1) := dk_42 (dk_at dksX0_meanFrom_4 19 rfl rfl)
theorem dX0_meanFrom_115 : decode cX0_meanFrom 115 = .ok (.getfield 28, 3) := dk_180 0 28 (dk_at dksX0_meanFrom_4 20 rfl rfl)
theorem dX0_meanFrom_118 : decode cX0_meanFrom 118 = .ok (.iload 5, 2) := dk_21 5 (dk_at dksX0_meanFrom_5 0 rfl rfl)
theorem dX0_meanFrom_120 : decode cX0_meanFrom 120 = .ok (.iaload, 1) := dk_46 (dk_at dksX0_meanFrom_5 2 rfl rfl)
theorem dX0_meanFrom_121 : decode cX0_meanFrom 121 = .ok (.iadd, 1) := dk_96 (dk_at dksX0_meanFrom_5 3 rfl rfl)
theorem dX0_meanFrom_122 : decode cX0_meanFrom 122 = .ok (.invokevirtual 239, 3) := dk_182 0 239 (dk_at dksX0_meanFrom_5 4 rfl rfl)
theorem dX0_meanFrom_125 : decode cX0_meanFrom 125 = .ok (.lstore 11, 2) := dk_55 11 (dk_at dksX0_meanFrom_5 7 rfl rfl)
theorem dX0_meanFrom_127 : decode cX0_meanFrom 127 = .ok (.iload 6, 2) := dk_21 6 (dk_at dksX0_meanFrom_5 9 rfl rfl)
theorem dX0_meanFrom_129 : decode cX0_meanFrom 129 = .ok (.i2l, 1) := dk_133 (dk_at dksX0_meanFrom_5 11 rfl rfl)
theorem dX0_meanFrom_130 : decode cX0_meanFrom 130 = .ok (.lload 9, 2) := dk_22 9 (dk_at dksX0_meanFrom_5 12 rfl rfl)
theorem dX0_meanFrom_132 : decode cX0_meanFrom 132 = .ok (.lmul, 1) := dk_105 (dk_at dksX0_meanFrom_5 14 rfl rfl)
theorem dX0_meanFrom_133 : decode cX0_meanFrom 133 = .ok (.bipush 10, 2) := dk_16 10 (dk_at dksX0_meanFrom_5 15 rfl rfl)
theorem dX0_meanFrom_135 : decode cX0_meanFrom 135 = .ok (.iload 6, 2) := dk_21 6 (dk_at dksX0_meanFrom_5 17 rfl rfl)
theorem dX0_meanFrom_137 : decode cX0_meanFrom 137 = .ok (.isub, 1) := dk_100 (dk_at dksX0_meanFrom_5 19 rfl rfl)
theorem dX0_meanFrom_138 : decode cX0_meanFrom 138 = .ok (.i2l, 1) := dk_133 (dk_at dksX0_meanFrom_5 20 rfl rfl)
theorem dX0_meanFrom_139 : decode cX0_meanFrom 139 = .ok (.lload 11, 2) := dk_22 11 (dk_at dksX0_meanFrom_5 21 rfl rfl)
theorem dX0_meanFrom_141 : decode cX0_meanFrom 141 = .ok (.lload 7, 2) := dk_22 7 (dk_at dksX0_meanFrom_6 0 rfl rfl)
theorem dX0_meanFrom_143 : decode cX0_meanFrom 143 = .ok (.aload_n 0, 1) := dk_42 (dk_at dksX0_meanFrom_6 2 rfl rfl)
theorem dX0_meanFrom_144 : decode cX0_meanFrom 144 = .ok (.getfield 28, 3) := dk_180 0 28 (dk_at dksX0_meanFrom_6 3 rfl rfl)
theorem dX0_meanFrom_147 : decode cX0_meanFrom 147 = .ok (.iload 5, 2) := dk_21 5 (dk_at dksX0_meanFrom_6 6 rfl rfl)
theorem dX0_meanFrom_149 : decode cX0_meanFrom 149 = .ok (.iaload, 1) := dk_46 (dk_at dksX0_meanFrom_6 8 rfl rfl)
theorem dX0_meanFrom_150 : decode cX0_meanFrom 150 = .ok (.i2l, 1) := dk_133 (dk_at dksX0_meanFrom_6 9 rfl rfl)
theorem dX0_meanFrom_151 : decode cX0_meanFrom 151 = .ok (.lmul, 1) := dk_105 (dk_at dksX0_meanFrom_6 10 rfl rfl)
theorem dX0_meanFrom_152 : decode cX0_meanFrom 152 = .ok (.ladd, 1) := dk_97 (dk_at dksX0_meanFrom_6 11 rfl rfl)
theorem dX0_meanFrom_153 : decode cX0_meanFrom 153 = .ok (.lmul, 1) := dk_105 (dk_at dksX0_meanFrom_6 12 rfl rfl)
theorem dX0_meanFrom_154 : decode cX0_meanFrom 154 = .ok (.ladd, 1) := dk_97 (dk_at dksX0_meanFrom_6 13 rfl rfl)
theorem dX0_meanFrom_155 : decode cX0_meanFrom 155 = .ok (.lreturn, 1) := dk_173 (dk_at dksX0_meanFrom_6 14 rfl rfl)
abbrev cX0_term : ByteArray := prog_1_method_35_code
def yX0_term : MethodName := ⟨RX0, "term", "(JJI)J"⟩
def dkwX0_term_1 : List UInt8 := [22, 9, 55, 5, 167, 255, 234, 21, 4, 154, 0, 10, 30, 22, 7, 109, 167, 0, 7, 32, 22, 7, 109, 173]
abbrev dktX0_term_1 : List UInt8 := dkwX0_term_1 ++ []
def dkwX0_term_0 : List UInt8 := [30, 55, 5, 32, 55, 7, 22, 5, 9, 148, 153, 0, 21, 22, 7, 22, 5, 113, 55, 9, 22, 5, 55, 7]
abbrev dktX0_term_0 : List UInt8 := dkwX0_term_0 ++ dktX0_term_1
theorem dksX0_term_0 : cX0_term.data.toList.drop 0 = dktX0_term_0 := by decide +kernel
theorem dksX0_term_1 : cX0_term.data.toList.drop 24 = dktX0_term_1 := dk_seg dksX0_term_0 24 rfl rfl
theorem dX0_term_0 : decode cX0_term 0 = .ok (.lload_n 0, 1) := dk_30 (dk_at dksX0_term_0 0 rfl rfl)
theorem dX0_term_1 : decode cX0_term 1 = .ok (.lstore 5, 2) := dk_55 5 (dk_at dksX0_term_0 1 rfl rfl)
theorem dX0_term_3 : decode cX0_term 3 = .ok (.lload_n 2, 1) := dk_32 (dk_at dksX0_term_0 3 rfl rfl)
theorem dX0_term_4 : decode cX0_term 4 = .ok (.lstore 7, 2) := dk_55 7 (dk_at dksX0_term_0 4 rfl rfl)
theorem dX0_term_6 : decode cX0_term 6 = .ok (.lload 5, 2) := dk_22 5 (dk_at dksX0_term_0 6 rfl rfl)
theorem dX0_term_8 : decode cX0_term 8 = .ok (.lconst 0, 1) := dk_9 (dk_at dksX0_term_0 8 rfl rfl)
theorem dX0_term_9 : decode cX0_term 9 = .ok (.lcmp, 1) := dk_148 (dk_at dksX0_term_0 9 rfl rfl)
theorem dX0_term_10 : decode cX0_term 10 = .ok (.ifCond .eq 21, 3) := dk_153 0 21 (dk_at dksX0_term_0 10 rfl rfl)
theorem dX0_term_13 : decode cX0_term 13 = .ok (.lload 7, 2) := dk_22 7 (dk_at dksX0_term_0 13 rfl rfl)
theorem dX0_term_15 : decode cX0_term 15 = .ok (.lload 5, 2) := dk_22 5 (dk_at dksX0_term_0 15 rfl rfl)
theorem dX0_term_17 : decode cX0_term 17 = .ok (.lrem, 1) := dk_113 (dk_at dksX0_term_0 17 rfl rfl)
theorem dX0_term_18 : decode cX0_term 18 = .ok (.lstore 9, 2) := dk_55 9 (dk_at dksX0_term_0 18 rfl rfl)
theorem dX0_term_20 : decode cX0_term 20 = .ok (.lload 5, 2) := dk_22 5 (dk_at dksX0_term_0 20 rfl rfl)
theorem dX0_term_22 : decode cX0_term 22 = .ok (.lstore 7, 2) := dk_55 7 (dk_at dksX0_term_0 22 rfl rfl)
theorem dX0_term_24 : decode cX0_term 24 = .ok (.lload 9, 2) := dk_22 9 (dk_at dksX0_term_1 0 rfl rfl)
theorem dX0_term_26 : decode cX0_term 26 = .ok (.lstore 5, 2) := dk_55 5 (dk_at dksX0_term_1 2 rfl rfl)
theorem dX0_term_28 : decode cX0_term 28 = .ok (.goto (-22), 3) := dk_167 255 234 (dk_at dksX0_term_1 4 rfl rfl)
theorem dX0_term_31 : decode cX0_term 31 = .ok (.iload 4, 2) := dk_21 4 (dk_at dksX0_term_1 7 rfl rfl)
theorem dX0_term_33 : decode cX0_term 33 = .ok (.ifCond .ne 10, 3) := dk_154 0 10 (dk_at dksX0_term_1 9 rfl rfl)
theorem dX0_term_36 : decode cX0_term 36 = .ok (.lload_n 0, 1) := dk_30 (dk_at dksX0_term_1 12 rfl rfl)
theorem dX0_term_37 : decode cX0_term 37 = .ok (.lload 7, 2) := dk_22 7 (dk_at dksX0_term_1 13 rfl rfl)
theorem dX0_term_39 : decode cX0_term 39 = .ok (.ldiv, 1) := dk_109 (dk_at dksX0_term_1 15 rfl rfl)
theorem dX0_term_40 : decode cX0_term 40 = .ok (.goto 7, 3) := dk_167 0 7 (dk_at dksX0_term_1 16 rfl rfl)
theorem dX0_term_43 : decode cX0_term 43 = .ok (.lload_n 2, 1) := dk_32 (dk_at dksX0_term_1 19 rfl rfl)
theorem dX0_term_44 : decode cX0_term 44 = .ok (.lload 7, 2) := dk_22 7 (dk_at dksX0_term_1 20 rfl rfl)
theorem dX0_term_46 : decode cX0_term 46 = .ok (.ldiv, 1) := dk_109 (dk_at dksX0_term_1 22 rfl rfl)
theorem dX0_term_47 : decode cX0_term 47 = .ok (.lreturn, 1) := dk_173 (dk_at dksX0_term_1 23 rfl rfl)
abbrev cX0_match : ByteArray := prog_1_method_42_code
def yX0_match : MethodName := ⟨RX0, "match", "(II)I"⟩
def dkwX0_match_1 : List UInt8 := [20, 0, 183, 20, 0, 185, 184, 0, 98, 153, 0, 12, 42, 27, 28, 182, 1, 36, 167, 0, 5, 16, 154, 172]
abbrev dktX0_match_1 : List UInt8 := dkwX0_match_1 ++ []
def dkwX0_match_0 : List UInt8 := [42, 27, 182, 0, 151, 154, 0, 6, 16, 155, 172, 28, 133, 9, 10, 184, 0, 98, 154, 0, 17, 28, 133]
abbrev dktX0_match_0 : List UInt8 := dkwX0_match_0 ++ dktX0_match_1
theorem dksX0_match_0 : cX0_match.data.toList.drop 0 = dktX0_match_0 := by decide +kernel
theorem dksX0_match_1 : cX0_match.data.toList.drop 23 = dktX0_match_1 := dk_seg dksX0_match_0 23 rfl rfl
theorem dX0_match_0 : decode cX0_match 0 = .ok (.aload_n 0, 1) := dk_42 (dk_at dksX0_match_0 0 rfl rfl)
theorem dX0_match_1 : decode cX0_match 1 = .ok (.iload_n 1, 1) := dk_27 (dk_at dksX0_match_0 1 rfl rfl)
theorem dX0_match_2 : decode cX0_match 2 = .ok (.invokevirtual 151, 3) := dk_182 0 151 (dk_at dksX0_match_0 2 rfl rfl)
theorem dX0_match_5 : decode cX0_match 5 = .ok (.ifCond .ne 6, 3) := dk_154 0 6 (dk_at dksX0_match_0 5 rfl rfl)
theorem dX0_match_8 : decode cX0_match 8 = .ok (.bipush (-101), 2) := dk_16 155 (dk_at dksX0_match_0 8 rfl rfl)
theorem dX0_match_10 : decode cX0_match 10 = .ok (.ireturn, 1) := dk_172 (dk_at dksX0_match_0 10 rfl rfl)
theorem dX0_match_11 : decode cX0_match 11 = .ok (.iload_n 2, 1) := dk_28 (dk_at dksX0_match_0 11 rfl rfl)
theorem dX0_match_12 : decode cX0_match 12 = .ok (.i2l, 1) := dk_133 (dk_at dksX0_match_0 12 rfl rfl)
theorem dX0_match_13 : decode cX0_match 13 = .ok (.lconst 0, 1) := dk_9 (dk_at dksX0_match_0 13 rfl rfl)
theorem dX0_match_14 : decode cX0_match 14 = .ok (.lconst 1, 1) := dk_10 (dk_at dksX0_match_0 14 rfl rfl)
theorem dX0_match_15 : decode cX0_match 15 = .ok (.invokestatic 98, 3) := dk_184 0 98 (dk_at dksX0_match_0 15 rfl rfl)
theorem dX0_match_18 : decode cX0_match 18 = .ok (.ifCond .ne 17, 3) := dk_154 0 17 (dk_at dksX0_match_0 18 rfl rfl)
theorem dX0_match_21 : decode cX0_match 21 = .ok (.iload_n 2, 1) := dk_28 (dk_at dksX0_match_0 21 rfl rfl)
theorem dX0_match_22 : decode cX0_match 22 = .ok (.i2l, 1) := dk_133 (dk_at dksX0_match_0 22 rfl rfl)
theorem dX0_match_23 : decode cX0_match 23 = .ok (.ldc2_w 183, 3) := dk_20 0 183 (dk_at dksX0_match_1 0 rfl rfl)
theorem dX0_match_26 : decode cX0_match 26 = .ok (.ldc2_w 185, 3) := dk_20 0 185 (dk_at dksX0_match_1 3 rfl rfl)
theorem dX0_match_29 : decode cX0_match 29 = .ok (.invokestatic 98, 3) := dk_184 0 98 (dk_at dksX0_match_1 6 rfl rfl)
theorem dX0_match_32 : decode cX0_match 32 = .ok (.ifCond .eq 12, 3) := dk_153 0 12 (dk_at dksX0_match_1 9 rfl rfl)
theorem dX0_match_35 : decode cX0_match 35 = .ok (.aload_n 0, 1) := dk_42 (dk_at dksX0_match_1 12 rfl rfl)
theorem dX0_match_36 : decode cX0_match 36 = .ok (.iload_n 1, 1) := dk_27 (dk_at dksX0_match_1 13 rfl rfl)
theorem dX0_match_37 : decode cX0_match 37 = .ok (.iload_n 2, 1) := dk_28 (dk_at dksX0_match_1 14 rfl rfl)
theorem dX0_match_38 : decode cX0_match 38 = .ok (.invokevirtual 292, 3) := dk_182 1 36 (dk_at dksX0_match_1 15 rfl rfl)
theorem dX0_match_41 : decode cX0_match 41 = .ok (.goto 5, 3) := dk_167 0 5 (dk_at dksX0_match_1 18 rfl rfl)
theorem dX0_match_44 : decode cX0_match 44 = .ok (.bipush (-102), 2) := dk_16 154 (dk_at dksX0_match_1 21 rfl rfl)
theorem dX0_match_46 : decode cX0_match 46 = .ok (.ireturn, 1) := dk_172 (dk_at dksX0_match_1 23 rfl rfl)
abbrev cX0_tellMatch : ByteArray := prog_1_method_41_code
def yX0_tellMatch : MethodName := ⟨RX0, "tellMatch", "(II)I"⟩
def dkwX0_tellMatch_1 : List UInt8 := [180, 0, 53, 28, 16, 10, 100, 46, 167, 0, 4, 2, 172, 29, 133, 20, 0, 183, 28, 184, 1, 11, 136, 172]
abbrev dktX0_tellMatch_1 : List UInt8 := dkwX0_tellMatch_1 ++ []
def dkwX0_tellMatch_0 : List UInt8 := [42, 27, 182, 1, 33, 62, 28, 16, 9, 164, 0, 28, 28, 16, 10, 100, 42, 180, 0, 130, 162, 0, 15, 42]
abbrev dktX0_tellMatch_0 : List UInt8 := dkwX0_tellMatch_0 ++ dktX0_tellMatch_1
theorem dksX0_tellMatch_0 : cX0_tellMatch.data.toList.drop 0 = dktX0_tellMatch_0 := by decide +kernel
theorem dksX0_tellMatch_1 : cX0_tellMatch.data.toList.drop 24 = dktX0_tellMatch_1 := dk_seg dksX0_tellMatch_0 24 rfl rfl
theorem dX0_tellMatch_0 : decode cX0_tellMatch 0 = .ok (.aload_n 0, 1) := dk_42 (dk_at dksX0_tellMatch_0 0 rfl rfl)
theorem dX0_tellMatch_1 : decode cX0_tellMatch 1 = .ok (.iload_n 1, 1) := dk_27 (dk_at dksX0_tellMatch_0 1 rfl rfl)
theorem dX0_tellMatch_2 : decode cX0_tellMatch 2 = .ok (.invokevirtual 289, 3) := dk_182 1 33 (dk_at dksX0_tellMatch_0 2 rfl rfl)
theorem dX0_tellMatch_5 : decode cX0_tellMatch 5 = .ok (.istore_n 3, 1) := dk_62 (dk_at dksX0_tellMatch_0 5 rfl rfl)
theorem dX0_tellMatch_6 : decode cX0_tellMatch 6 = .ok (.iload_n 2, 1) := dk_28 (dk_at dksX0_tellMatch_0 6 rfl rfl)
theorem dX0_tellMatch_7 : decode cX0_tellMatch 7 = .ok (.bipush 9, 2) := dk_16 9 (dk_at dksX0_tellMatch_0 7 rfl rfl)
theorem dX0_tellMatch_9 : decode cX0_tellMatch 9 = .ok (.if_icmp .le 28, 3) := dk_164 0 28 (dk_at dksX0_tellMatch_0 9 rfl rfl)
theorem dX0_tellMatch_12 : decode cX0_tellMatch 12 = .ok (.iload_n 2, 1) := dk_28 (dk_at dksX0_tellMatch_0 12 rfl rfl)
theorem dX0_tellMatch_13 : decode cX0_tellMatch 13 = .ok (.bipush 10, 2) := dk_16 10 (dk_at dksX0_tellMatch_0 13 rfl rfl)
theorem dX0_tellMatch_15 : decode cX0_tellMatch 15 = .ok (.isub, 1) := dk_100 (dk_at dksX0_tellMatch_0 15 rfl rfl)
theorem dX0_tellMatch_16 : decode cX0_tellMatch 16 = .ok (.aload_n 0, 1) := dk_42 (dk_at dksX0_tellMatch_0 16 rfl rfl)
theorem dX0_tellMatch_17 : decode cX0_tellMatch 17 = .ok (.getfield 130, 3) := dk_180 0 130 (dk_at dksX0_tellMatch_0 17 rfl rfl)
theorem dX0_tellMatch_20 : decode cX0_tellMatch 20 = .ok (.if_icmp .ge 15, 3) := dk_162 0 15 (dk_at dksX0_tellMatch_0 20 rfl rfl)
theorem dX0_tellMatch_23 : decode cX0_tellMatch 23 = .ok (.aload_n 0, 1) := dk_42 (dk_at dksX0_tellMatch_0 23 rfl rfl)
theorem dX0_tellMatch_24 : decode cX0_tellMatch 24 = .ok (.getfield 53, 3) := dk_180 0 53 (dk_at dksX0_tellMatch_1 0 rfl rfl)
theorem dX0_tellMatch_27 : decode cX0_tellMatch 27 = .ok (.iload_n 2, 1) := dk_28 (dk_at dksX0_tellMatch_1 3 rfl rfl)
theorem dX0_tellMatch_28 : decode cX0_tellMatch 28 = .ok (.bipush 10, 2) := dk_16 10 (dk_at dksX0_tellMatch_1 4 rfl rfl)
theorem dX0_tellMatch_30 : decode cX0_tellMatch 30 = .ok (.isub, 1) := dk_100 (dk_at dksX0_tellMatch_1 6 rfl rfl)
theorem dX0_tellMatch_31 : decode cX0_tellMatch 31 = .ok (.iaload, 1) := dk_46 (dk_at dksX0_tellMatch_1 7 rfl rfl)
theorem dX0_tellMatch_32 : decode cX0_tellMatch 32 = .ok (.goto 4, 3) := dk_167 0 4 (dk_at dksX0_tellMatch_1 8 rfl rfl)
theorem dX0_tellMatch_35 : decode cX0_tellMatch 35 = .ok (.iconst (-1), 1) := dk_2 (dk_at dksX0_tellMatch_1 11 rfl rfl)
theorem dX0_tellMatch_36 : decode cX0_tellMatch 36 = .ok (.ireturn, 1) := dk_172 (dk_at dksX0_tellMatch_1 12 rfl rfl)
theorem dX0_tellMatch_37 : decode cX0_tellMatch 37 = .ok (.iload_n 3, 1) := dk_29 (dk_at dksX0_tellMatch_1 13 rfl rfl)
theorem dX0_tellMatch_38 : decode cX0_tellMatch 38 = .ok (.i2l, 1) := dk_133 (dk_at dksX0_tellMatch_1 14 rfl rfl)
theorem dX0_tellMatch_39 : decode cX0_tellMatch 39 = .ok (.ldc2_w 183, 3) := dk_20 0 183 (dk_at dksX0_tellMatch_1 15 rfl rfl)
theorem dX0_tellMatch_42 : decode cX0_tellMatch 42 = .ok (.iload_n 2, 1) := dk_28 (dk_at dksX0_tellMatch_1 18 rfl rfl)
theorem dX0_tellMatch_43 : decode cX0_tellMatch 43 = .ok (.invokestatic 267, 3) := dk_184 1 11 (dk_at dksX0_tellMatch_1 19 rfl rfl)
theorem dX0_tellMatch_46 : decode cX0_tellMatch 46 = .ok (.l2i, 1) := dk_136 (dk_at dksX0_tellMatch_1 22 rfl rfl)
theorem dX0_tellMatch_47 : decode cX0_tellMatch 47 = .ok (.ireturn, 1) := dk_172 (dk_at dksX0_tellMatch_1 23 rfl rfl)
abbrev cX0_layMatch : ByteArray := prog_1_method_40_code
def yX0_layMatch : MethodName := ⟨RX0, "layMatch", "(I)I"⟩
def dkwX0_layMatch_6 : List UInt8 := [172]
abbrev dktX0_layMatch_6 : List UInt8 := dkwX0_layMatch_6 ++ []
def dkwX0_layMatch_5 : List UInt8 := [21, 5, 62, 42, 180, 0, 50, 3, 42, 180, 0, 53, 3, 6, 184, 0, 249, 132, 4, 1, 167, 255, 145, 29]
abbrev dktX0_layMatch_5 : List UInt8 := dkwX0_layMatch_5 ++ dktX0_layMatch_6
def dkwX0_layMatch_4 : List UInt8 := [27, 46, 104, 96, 54, 5, 132, 6, 1, 167, 255, 200, 29, 2, 159, 0, 9, 21, 5, 29, 162, 0, 20]
abbrev dktX0_layMatch_4 : List UInt8 := dkwX0_layMatch_4 ++ dktX0_layMatch_5
def dkwX0_layMatch_3 : List UInt8 := [180, 0, 38, 6, 21, 6, 104, 42, 180, 0, 50, 21, 6, 46, 96, 46, 182, 0, 222, 100, 42, 180, 0, 28]
abbrev dktX0_layMatch_3 : List UInt8 := dkwX0_layMatch_3 ++ dktX0_layMatch_4
def dkwX0_layMatch_2 : List UInt8 := [21, 6, 42, 180, 0, 130, 162, 0, 53, 21, 5, 16, 10, 42, 42, 180, 0, 34, 21, 6, 50, 27, 42]
abbrev dktX0_layMatch_2 : List UInt8 := dkwX0_layMatch_2 ++ dktX0_layMatch_3
def dkwX0_layMatch_1 : List UInt8 := [3, 54, 4, 21, 4, 28, 162, 0, 111, 42, 21, 4, 182, 1, 30, 153, 0, 96, 3, 54, 5, 3, 54, 6]
abbrev dktX0_layMatch_1 : List UInt8 := dkwX0_layMatch_1 ++ dktX0_layMatch_2
def dkwX0_layMatch_0 : List UInt8 := [4, 61, 3, 62, 29, 42, 180, 0, 130, 162, 0, 13, 28, 6, 104, 61, 132, 3, 1, 167, 255, 241, 2, 62]
abbrev dktX0_layMatch_0 : List UInt8 := dkwX0_layMatch_0 ++ dktX0_layMatch_1
theorem dksX0_layMatch_0 : cX0_layMatch.data.toList.drop 0 = dktX0_layMatch_0 := by decide +kernel
theorem dksX0_layMatch_1 : cX0_layMatch.data.toList.drop 24 = dktX0_layMatch_1 := dk_seg dksX0_layMatch_0 24 rfl rfl
theorem dksX0_layMatch_2 : cX0_layMatch.data.toList.drop 48 = dktX0_layMatch_2 := dk_seg dksX0_layMatch_1 24 rfl rfl
theorem dksX0_layMatch_3 : cX0_layMatch.data.toList.drop 71 = dktX0_layMatch_3 := dk_seg dksX0_layMatch_2 23 rfl rfl
theorem dksX0_layMatch_4 : cX0_layMatch.data.toList.drop 95 = dktX0_layMatch_4 := dk_seg dksX0_layMatch_3 24 rfl rfl
theorem dksX0_layMatch_5 : cX0_layMatch.data.toList.drop 118 = dktX0_layMatch_5 := dk_seg dksX0_layMatch_4 23 rfl rfl
theorem dksX0_layMatch_6 : cX0_layMatch.data.toList.drop 142 = dktX0_layMatch_6 := dk_seg dksX0_layMatch_5 24 rfl rfl
theorem dX0_layMatch_0 : decode cX0_layMatch 0 = .ok (.iconst 1, 1) := dk_4 (dk_at dksX0_layMatch_0 0 rfl rfl)
theorem dX0_layMatch_1 : decode cX0_layMatch 1 = .ok (.istore_n 2, 1) := dk_61 (dk_at dksX0_layMatch_0 1 rfl rfl)
theorem dX0_layMatch_2 : decode cX0_layMatch 2 = .ok (.iconst 0, 1) := dk_3 (dk_at dksX0_layMatch_0 2 rfl rfl)
theorem dX0_layMatch_3 : decode cX0_layMatch 3 = .ok (.istore_n 3, 1) := dk_62 (dk_at dksX0_layMatch_0 3 rfl rfl)
theorem dX0_layMatch_4 : decode cX0_layMatch 4 = .ok (.iload_n 3, 1) := dk_29 (dk_at dksX0_layMatch_0 4 rfl rfl)
theorem dX0_layMatch_5 : decode cX0_layMatch 5 = .ok (.aload_n 0, 1) := dk_42 (dk_at dksX0_layMatch_0 5 rfl rfl)
theorem dX0_layMatch_6 : decode cX0_layMatch 6 = .ok (.getfield 130, 3) := dk_180 0 130 (dk_at dksX0_layMatch_0 6 rfl rfl)
theorem dX0_layMatch_9 : decode cX0_layMatch 9 = .ok (.if_icmp .ge 13, 3) := dk_162 0 13 (dk_at dksX0_layMatch_0 9 rfl rfl)
theorem dX0_layMatch_12 : decode cX0_layMatch 12 = .ok (.iload_n 2, 1) := dk_28 (dk_at dksX0_layMatch_0 12 rfl rfl)
theorem dX0_layMatch_13 : decode cX0_layMatch 13 = .ok (.iconst 3, 1) := dk_6 (dk_at dksX0_layMatch_0 13 rfl rfl)
theorem dX0_layMatch_14 : decode cX0_layMatch 14 = .ok (.imul, 1) := dk_104 (dk_at dksX0_layMatch_0 14 rfl rfl)
theorem dX0_layMatch_15 : decode cX0_layMatch 15 = .ok (.istore_n 2, 1) := dk_61 (dk_at dksX0_layMatch_0 15 rfl rfl)
theorem dX0_layMatch_16 : decode cX0_layMatch 16 = .ok (.iinc 3 1, 3) := dk_132 3 1 (dk_at dksX0_layMatch_0 16 rfl rfl)
theorem dX0_layMatch_19 : decode cX0_layMatch 19 = .ok (.goto (-15), 3) := dk_167 255 241 (dk_at dksX0_layMatch_0 19 rfl rfl)
theorem dX0_layMatch_22 : decode cX0_layMatch 22 = .ok (.iconst (-1), 1) := dk_2 (dk_at dksX0_layMatch_0 22 rfl rfl)
theorem dX0_layMatch_23 : decode cX0_layMatch 23 = .ok (.istore_n 3, 1) := dk_62 (dk_at dksX0_layMatch_0 23 rfl rfl)
theorem dX0_layMatch_24 : decode cX0_layMatch 24 = .ok (.iconst 0, 1) := dk_3 (dk_at dksX0_layMatch_1 0 rfl rfl)
theorem dX0_layMatch_25 : decode cX0_layMatch 25 = .ok (.istore 4, 2) := dk_54 4 (dk_at dksX0_layMatch_1 1 rfl rfl)
theorem dX0_layMatch_27 : decode cX0_layMatch 27 = .ok (.iload 4, 2) := dk_21 4 (dk_at dksX0_layMatch_1 3 rfl rfl)
theorem dX0_layMatch_29 : decode cX0_layMatch 29 = .ok (.iload_n 2, 1) := dk_28 (dk_at dksX0_layMatch_1 5 rfl rfl)
theorem dX0_layMatch_30 : decode cX0_layMatch 30 = .ok (.if_icmp .ge 111, 3) := dk_162 0 111 (dk_at dksX0_layMatch_1 6 rfl rfl)
theorem dX0_layMatch_33 : decode cX0_layMatch 33 = .ok (.aload_n 0, 1) := dk_42 (dk_at dksX0_layMatch_1 9 rfl rfl)
theorem dX0_layMatch_34 : decode cX0_layMatch 34 = .ok (.iload 4, 2) := dk_21 4 (dk_at dksX0_layMatch_1 10 rfl rfl)
theorem dX0_layMatch_36 : decode cX0_layMatch 36 = .ok (.invokevirtual 286, 3) := dk_182 1 30 (dk_at dksX0_layMatch_1 12 rfl rfl)
theorem dX0_layMatch_39 : decode cX0_layMatch 39 = .ok (.ifCond .eq 96, 3) := dk_153 0 96 (dk_at dksX0_layMatch_1 15 rfl rfl)
theorem dX0_layMatch_42 : decode cX0_layMatch 42 = .ok (.iconst 0, 1) := dk_3 (dk_at dksX0_layMatch_1 18 rfl rfl)
theorem dX0_layMatch_43 : decode cX0_layMatch 43 = .ok (.istore 5, 2) := dk_54 5 (dk_at dksX0_layMatch_1 19 rfl rfl)
theorem dX0_layMatch_45 : decode cX0_layMatch 45 = .ok (.iconst 0, 1) := dk_3 (dk_at dksX0_layMatch_1 21 rfl rfl)
theorem dX0_layMatch_46 : decode cX0_layMatch 46 = .ok (.istore 6, 2) := dk_54 6 (dk_at dksX0_layMatch_1 22 rfl rfl)
theorem dX0_layMatch_48 : decode cX0_layMatch 48 = .ok (.iload 6, 2) := dk_21 6 (dk_at dksX0_layMatch_2 0 rfl rfl)
theorem dX0_layMatch_50 : decode cX0_layMatch 50 = .ok (.aload_n 0, 1) := dk_42 (dk_at dksX0_layMatch_2 2 rfl rfl)
theorem dX0_layMatch_51 : decode cX0_layMatch 51 = .ok (.getfield 130, 3) := dk_180 0 130 (dk_at dksX0_layMatch_2 3 rfl rfl)
theorem dX0_layMatch_54 : decode cX0_layMatch 54 = .ok (.if_icmp .ge 53, 3) := dk_162 0 53 (dk_at dksX0_layMatch_2 6 rfl rfl)
theorem dX0_layMatch_57 : decode cX0_layMatch 57 = .ok (.iload 5, 2) := dk_21 5 (dk_at dksX0_layMatch_2 9 rfl rfl)
theorem dX0_layMatch_59 : decode cX0_layMatch 59 = .ok (.bipush 10, 2) := dk_16 10 (dk_at dksX0_layMatch_2 11 rfl rfl)
theorem dX0_layMatch_61 : decode cX0_layMatch 61 = .ok (.aload_n 0, 1) := dk_42 (dk_at dksX0_layMatch_2 13 rfl rfl)
theorem dX0_layMatch_62 : decode cX0_layMatch 62 = .ok (.aload_n 0, 1) := dk_42 (dk_at dksX0_layMatch_2 14 rfl rfl)
theorem dX0_layMatch_63 : decode cX0_layMatch 63 = .ok (.getfield 34, 3) := dk_180 0 34 (dk_at dksX0_layMatch_2 15 rfl rfl)
theorem dX0_layMatch_66 : decode cX0_layMatch 66 = .ok (.iload 6, 2) := dk_21 6 (dk_at dksX0_layMatch_2 18 rfl rfl)
theorem dX0_layMatch_68 : decode cX0_layMatch 68 = .ok (.aaload, 1) := dk_50 (dk_at dksX0_layMatch_2 20 rfl rfl)
theorem dX0_layMatch_69 : decode cX0_layMatch 69 = .ok (.iload_n 1, 1) := dk_27 (dk_at dksX0_layMatch_2 21 rfl rfl)
theorem dX0_layMatch_70 : decode cX0_layMatch 70 = .ok (.aload_n 0, 1) := dk_42 (dk_at dksX0_layMatch_2 22 rfl rfl)
theorem dX0_layMatch_71 : decode cX0_layMatch 71 = .ok (.getfield 38, 3) := dk_180 0 38 (dk_at dksX0_layMatch_3 0 rfl rfl)
theorem dX0_layMatch_74 : decode cX0_layMatch 74 = .ok (.iconst 3, 1) := dk_6 (dk_at dksX0_layMatch_3 3 rfl rfl)
theorem dX0_layMatch_75 : decode cX0_layMatch 75 = .ok (.iload 6, 2) := dk_21 6 (dk_at dksX0_layMatch_3 4 rfl rfl)
theorem dX0_layMatch_77 : decode cX0_layMatch 77 = .ok (.imul, 1) := dk_104 (dk_at dksX0_layMatch_3 6 rfl rfl)
theorem dX0_layMatch_78 : decode cX0_layMatch 78 = .ok (.aload_n 0, 1) := dk_42 (dk_at dksX0_layMatch_3 7 rfl rfl)
theorem dX0_layMatch_79 : decode cX0_layMatch 79 = .ok (.getfield 50, 3) := dk_180 0 50 (dk_at dksX0_layMatch_3 8 rfl rfl)
theorem dX0_layMatch_82 : decode cX0_layMatch 82 = .ok (.iload 6, 2) := dk_21 6 (dk_at dksX0_layMatch_3 11 rfl rfl)
theorem dX0_layMatch_84 : decode cX0_layMatch 84 = .ok (.iaload, 1) := dk_46 (dk_at dksX0_layMatch_3 13 rfl rfl)
theorem dX0_layMatch_85 : decode cX0_layMatch 85 = .ok (.iadd, 1) := dk_96 (dk_at dksX0_layMatch_3 14 rfl rfl)
theorem dX0_layMatch_86 : decode cX0_layMatch 86 = .ok (.iaload, 1) := dk_46 (dk_at dksX0_layMatch_3 15 rfl rfl)
theorem dX0_layMatch_87 : decode cX0_layMatch 87 = .ok (.invokevirtual 222, 3) := dk_182 0 222 (dk_at dksX0_layMatch_3 16 rfl rfl)
theorem dX0_layMatch_90 : decode cX0_layMatch 90 = .ok (.isub, 1) := dk_100 (dk_at dksX0_layMatch_3 19 rfl rfl)
theorem dX0_layMatch_91 : decode cX0_layMatch 91 = .ok (.aload_n 0, 1) := dk_42 (dk_at dksX0_layMatch_3 20 rfl rfl)
theorem dX0_layMatch_92 : decode cX0_layMatch 92 = .ok (.getfield 28, 3) := dk_180 0 28 (dk_at dksX0_layMatch_3 21 rfl rfl)
theorem dX0_layMatch_95 : decode cX0_layMatch 95 = .ok (.iload_n 1, 1) := dk_27 (dk_at dksX0_layMatch_4 0 rfl rfl)
theorem dX0_layMatch_96 : decode cX0_layMatch 96 = .ok (.iaload, 1) := dk_46 (dk_at dksX0_layMatch_4 1 rfl rfl)
theorem dX0_layMatch_97 : decode cX0_layMatch 97 = .ok (.imul, 1) := dk_104 (dk_at dksX0_layMatch_4 2 rfl rfl)
theorem dX0_layMatch_98 : decode cX0_layMatch 98 = .ok (.iadd, 1) := dk_96 (dk_at dksX0_layMatch_4 3 rfl rfl)
theorem dX0_layMatch_99 : decode cX0_layMatch 99 = .ok (.istore 5, 2) := dk_54 5 (dk_at dksX0_layMatch_4 4 rfl rfl)
theorem dX0_layMatch_101 : decode cX0_layMatch 101 = .ok (.iinc 6 1, 3) := dk_132 6 1 (dk_at dksX0_layMatch_4 6 rfl rfl)
theorem dX0_layMatch_104 : decode cX0_layMatch 104 = .ok (.goto (-56), 3) := dk_167 255 200 (dk_at dksX0_layMatch_4 9 rfl rfl)
theorem dX0_layMatch_107 : decode cX0_layMatch 107 = .ok (.iload_n 3, 1) := dk_29 (dk_at dksX0_layMatch_4 12 rfl rfl)
theorem dX0_layMatch_108 : decode cX0_layMatch 108 = .ok (.iconst (-1), 1) := dk_2 (dk_at dksX0_layMatch_4 13 rfl rfl)
theorem dX0_layMatch_109 : decode cX0_layMatch 109 = .ok (.if_icmp .eq 9, 3) := dk_159 0 9 (dk_at dksX0_layMatch_4 14 rfl rfl)
theorem dX0_layMatch_112 : decode cX0_layMatch 112 = .ok (.iload 5, 2) := dk_21 5 (dk_at dksX0_layMatch_4 17 rfl rfl)
theorem dX0_layMatch_114 : decode cX0_layMatch 114 = .ok (.iload_n 3, 1) := dk_29 (dk_at dksX0_layMatch_4 19 rfl rfl)
theorem dX0_layMatch_115 : decode cX0_layMatch 115 = .ok (.if_icmp .ge 20, 3) := dk_162 0 20 (dk_at dksX0_layMatch_4 20 rfl rfl)
theorem dX0_layMatch_118 : decode cX0_layMatch 118 = .ok (.iload 5, 2) := dk_21 5 (dk_at dksX0_layMatch_5 0 rfl rfl)
theorem dX0_layMatch_120 : decode cX0_layMatch 120 = .ok (.istore_n 3, 1) := dk_62 (dk_at dksX0_layMatch_5 2 rfl rfl)
theorem dX0_layMatch_121 : decode cX0_layMatch 121 = .ok (.aload_n 0, 1) := dk_42 (dk_at dksX0_layMatch_5 3 rfl rfl)
theorem dX0_layMatch_122 : decode cX0_layMatch 122 = .ok (.getfield 50, 3) := dk_180 0 50 (dk_at dksX0_layMatch_5 4 rfl rfl)
theorem dX0_layMatch_125 : decode cX0_layMatch 125 = .ok (.iconst 0, 1) := dk_3 (dk_at dksX0_layMatch_5 7 rfl rfl)
theorem dX0_layMatch_126 : decode cX0_layMatch 126 = .ok (.aload_n 0, 1) := dk_42 (dk_at dksX0_layMatch_5 8 rfl rfl)
theorem dX0_layMatch_127 : decode cX0_layMatch 127 = .ok (.getfield 53, 3) := dk_180 0 53 (dk_at dksX0_layMatch_5 9 rfl rfl)
theorem dX0_layMatch_130 : decode cX0_layMatch 130 = .ok (.iconst 0, 1) := dk_3 (dk_at dksX0_layMatch_5 12 rfl rfl)
theorem dX0_layMatch_131 : decode cX0_layMatch 131 = .ok (.iconst 3, 1) := dk_6 (dk_at dksX0_layMatch_5 13 rfl rfl)
theorem dX0_layMatch_132 : decode cX0_layMatch 132 = .ok (.invokestatic 249, 3) := dk_184 0 249 (dk_at dksX0_layMatch_5 14 rfl rfl)
theorem dX0_layMatch_135 : decode cX0_layMatch 135 = .ok (.iinc 4 1, 3) := dk_132 4 1 (dk_at dksX0_layMatch_5 17 rfl rfl)
theorem dX0_layMatch_138 : decode cX0_layMatch 138 = .ok (.goto (-111), 3) := dk_167 255 145 (dk_at dksX0_layMatch_5 20 rfl rfl)
theorem dX0_layMatch_141 : decode cX0_layMatch 141 = .ok (.iload_n 3, 1) := dk_29 (dk_at dksX0_layMatch_5 23 rfl rfl)
theorem dX0_layMatch_142 : decode cX0_layMatch 142 = .ok (.ireturn, 1) := dk_172 (dk_at dksX0_layMatch_6 0 rfl rfl)
abbrev cX0_isMatch : ByteArray := prog_1_method_39_code
def yX0_isMatch : MethodName := ⟨RX0, "isMatch", "(I)Z"⟩
def dkwX0_isMatch_2 : List UInt8 := [167, 255, 222, 29, 184, 1, 6, 42, 180, 0, 130, 160, 0, 7, 4, 167, 0, 4, 3, 172]
abbrev dktX0_isMatch_2 : List UInt8 := dkwX0_isMatch_2 ++ []
def dkwX0_isMatch_1 : List UInt8 := [6, 112, 79, 29, 4, 42, 180, 0, 50, 21, 4, 46, 120, 128, 62, 28, 6, 108, 61, 132, 4, 255]
abbrev dktX0_isMatch_1 : List UInt8 := dkwX0_isMatch_1 ++ dktX0_isMatch_2
def dkwX0_isMatch_0 : List UInt8 := [27, 61, 3, 62, 42, 180, 0, 130, 4, 100, 54, 4, 21, 4, 155, 0, 35, 42, 180, 0, 50, 21, 4, 28]
abbrev dktX0_isMatch_0 : List UInt8 := dkwX0_isMatch_0 ++ dktX0_isMatch_1
theorem dksX0_isMatch_0 : cX0_isMatch.data.toList.drop 0 = dktX0_isMatch_0 := by decide +kernel
theorem dksX0_isMatch_1 : cX0_isMatch.data.toList.drop 24 = dktX0_isMatch_1 := dk_seg dksX0_isMatch_0 24 rfl rfl
theorem dksX0_isMatch_2 : cX0_isMatch.data.toList.drop 46 = dktX0_isMatch_2 := dk_seg dksX0_isMatch_1 22 rfl rfl
theorem dX0_isMatch_0 : decode cX0_isMatch 0 = .ok (.iload_n 1, 1) := dk_27 (dk_at dksX0_isMatch_0 0 rfl rfl)
theorem dX0_isMatch_1 : decode cX0_isMatch 1 = .ok (.istore_n 2, 1) := dk_61 (dk_at dksX0_isMatch_0 1 rfl rfl)
theorem dX0_isMatch_2 : decode cX0_isMatch 2 = .ok (.iconst 0, 1) := dk_3 (dk_at dksX0_isMatch_0 2 rfl rfl)
theorem dX0_isMatch_3 : decode cX0_isMatch 3 = .ok (.istore_n 3, 1) := dk_62 (dk_at dksX0_isMatch_0 3 rfl rfl)
theorem dX0_isMatch_4 : decode cX0_isMatch 4 = .ok (.aload_n 0, 1) := dk_42 (dk_at dksX0_isMatch_0 4 rfl rfl)
theorem dX0_isMatch_5 : decode cX0_isMatch 5 = .ok (.getfield 130, 3) := dk_180 0 130 (dk_at dksX0_isMatch_0 5 rfl rfl)
theorem dX0_isMatch_8 : decode cX0_isMatch 8 = .ok (.iconst 1, 1) := dk_4 (dk_at dksX0_isMatch_0 8 rfl rfl)
theorem dX0_isMatch_9 : decode cX0_isMatch 9 = .ok (.isub, 1) := dk_100 (dk_at dksX0_isMatch_0 9 rfl rfl)
theorem dX0_isMatch_10 : decode cX0_isMatch 10 = .ok (.istore 4, 2) := dk_54 4 (dk_at dksX0_isMatch_0 10 rfl rfl)
theorem dX0_isMatch_12 : decode cX0_isMatch 12 = .ok (.iload 4, 2) := dk_21 4 (dk_at dksX0_isMatch_0 12 rfl rfl)
theorem dX0_isMatch_14 : decode cX0_isMatch 14 = .ok (.ifCond .lt 35, 3) := dk_155 0 35 (dk_at dksX0_isMatch_0 14 rfl rfl)
theorem dX0_isMatch_17 : decode cX0_isMatch 17 = .ok (.aload_n 0, 1) := dk_42 (dk_at dksX0_isMatch_0 17 rfl rfl)
theorem dX0_isMatch_18 : decode cX0_isMatch 18 = .ok (.getfield 50, 3) := dk_180 0 50 (dk_at dksX0_isMatch_0 18 rfl rfl)
theorem dX0_isMatch_21 : decode cX0_isMatch 21 = .ok (.iload 4, 2) := dk_21 4 (dk_at dksX0_isMatch_0 21 rfl rfl)
theorem dX0_isMatch_23 : decode cX0_isMatch 23 = .ok (.iload_n 2, 1) := dk_28 (dk_at dksX0_isMatch_0 23 rfl rfl)
theorem dX0_isMatch_24 : decode cX0_isMatch 24 = .ok (.iconst 3, 1) := dk_6 (dk_at dksX0_isMatch_1 0 rfl rfl)
theorem dX0_isMatch_25 : decode cX0_isMatch 25 = .ok (.irem, 1) := dk_112 (dk_at dksX0_isMatch_1 1 rfl rfl)
theorem dX0_isMatch_26 : decode cX0_isMatch 26 = .ok (.iastore, 1) := dk_79 (dk_at dksX0_isMatch_1 2 rfl rfl)
theorem dX0_isMatch_27 : decode cX0_isMatch 27 = .ok (.iload_n 3, 1) := dk_29 (dk_at dksX0_isMatch_1 3 rfl rfl)
theorem dX0_isMatch_28 : decode cX0_isMatch 28 = .ok (.iconst 1, 1) := dk_4 (dk_at dksX0_isMatch_1 4 rfl rfl)
theorem dX0_isMatch_29 : decode cX0_isMatch 29 = .ok (.aload_n 0, 1) := dk_42 (dk_at dksX0_isMatch_1 5 rfl rfl)
theorem dX0_isMatch_30 : decode cX0_isMatch 30 = .ok (.getfield 50, 3) := dk_180 0 50 (dk_at dksX0_isMatch_1 6 rfl rfl)
theorem dX0_isMatch_33 : decode cX0_isMatch 33 = .ok (.iload 4, 2) := dk_21 4 (dk_at dksX0_isMatch_1 9 rfl rfl)
theorem dX0_isMatch_35 : decode cX0_isMatch 35 = .ok (.iaload, 1) := dk_46 (dk_at dksX0_isMatch_1 11 rfl rfl)
theorem dX0_isMatch_36 : decode cX0_isMatch 36 = .ok (.ishl, 1) := dk_120 (dk_at dksX0_isMatch_1 12 rfl rfl)
theorem dX0_isMatch_37 : decode cX0_isMatch 37 = .ok (.ior, 1) := dk_128 (dk_at dksX0_isMatch_1 13 rfl rfl)
theorem dX0_isMatch_38 : decode cX0_isMatch 38 = .ok (.istore_n 3, 1) := dk_62 (dk_at dksX0_isMatch_1 14 rfl rfl)
theorem dX0_isMatch_39 : decode cX0_isMatch 39 = .ok (.iload_n 2, 1) := dk_28 (dk_at dksX0_isMatch_1 15 rfl rfl)
theorem dX0_isMatch_40 : decode cX0_isMatch 40 = .ok (.iconst 3, 1) := dk_6 (dk_at dksX0_isMatch_1 16 rfl rfl)
theorem dX0_isMatch_41 : decode cX0_isMatch 41 = .ok (.idiv, 1) := dk_108 (dk_at dksX0_isMatch_1 17 rfl rfl)
theorem dX0_isMatch_42 : decode cX0_isMatch 42 = .ok (.istore_n 2, 1) := dk_61 (dk_at dksX0_isMatch_1 18 rfl rfl)
theorem dX0_isMatch_43 : decode cX0_isMatch 43 = .ok (.iinc 4 (-1), 3) := dk_132 4 255 (dk_at dksX0_isMatch_1 19 rfl rfl)
theorem dX0_isMatch_46 : decode cX0_isMatch 46 = .ok (.goto (-34), 3) := dk_167 255 222 (dk_at dksX0_isMatch_2 0 rfl rfl)
theorem dX0_isMatch_49 : decode cX0_isMatch 49 = .ok (.iload_n 3, 1) := dk_29 (dk_at dksX0_isMatch_2 3 rfl rfl)
theorem dX0_isMatch_50 : decode cX0_isMatch 50 = .ok (.invokestatic 262, 3) := dk_184 1 6 (dk_at dksX0_isMatch_2 4 rfl rfl)
theorem dX0_isMatch_53 : decode cX0_isMatch 53 = .ok (.aload_n 0, 1) := dk_42 (dk_at dksX0_isMatch_2 7 rfl rfl)
theorem dX0_isMatch_54 : decode cX0_isMatch 54 = .ok (.getfield 130, 3) := dk_180 0 130 (dk_at dksX0_isMatch_2 8 rfl rfl)
theorem dX0_isMatch_57 : decode cX0_isMatch 57 = .ok (.if_icmp .ne 7, 3) := dk_160 0 7 (dk_at dksX0_isMatch_2 11 rfl rfl)
theorem dX0_isMatch_60 : decode cX0_isMatch 60 = .ok (.iconst 1, 1) := dk_4 (dk_at dksX0_isMatch_2 14 rfl rfl)
theorem dX0_isMatch_61 : decode cX0_isMatch 61 = .ok (.goto 4, 3) := dk_167 0 4 (dk_at dksX0_isMatch_2 15 rfl rfl)
theorem dX0_isMatch_64 : decode cX0_isMatch 64 = .ok (.iconst 0, 1) := dk_3 (dk_at dksX0_isMatch_2 18 rfl rfl)
theorem dX0_isMatch_65 : decode cX0_isMatch 65 = .ok (.ireturn, 1) := dk_172 (dk_at dksX0_isMatch_2 19 rfl rfl)
abbrev cX0_faults : ByteArray := prog_1_method_45_code
def yX0_faults : MethodName := ⟨RX0, "faults", "(III)I"⟩
def dkwX0_faults_2 : List UInt8 := [16, 154, 172]
abbrev dktX0_faults_2 : List UInt8 := dkwX0_faults_2 ++ []
def dkwX0_faults_1 : List UInt8 := [133, 9, 10, 184, 0, 98, 153, 0, 18, 42, 42, 180, 0, 34, 27, 50, 28, 29, 182, 1, 44, 167, 0, 5]
abbrev dktX0_faults_1 : List UInt8 := dkwX0_faults_1 ++ dktX0_faults_2
def dkwX0_faults_0 : List UInt8 := [42, 27, 182, 0, 197, 154, 0, 6, 16, 155, 172, 28, 133, 9, 20, 1, 42, 184, 0, 98, 153, 0, 28, 29]
abbrev dktX0_faults_0 : List UInt8 := dkwX0_faults_0 ++ dktX0_faults_1
theorem dksX0_faults_0 : cX0_faults.data.toList.drop 0 = dktX0_faults_0 := by decide +kernel
theorem dksX0_faults_1 : cX0_faults.data.toList.drop 24 = dktX0_faults_1 := dk_seg dksX0_faults_0 24 rfl rfl
theorem dksX0_faults_2 : cX0_faults.data.toList.drop 48 = dktX0_faults_2 := dk_seg dksX0_faults_1 24 rfl rfl
theorem dX0_faults_0 : decode cX0_faults 0 = .ok (.aload_n 0, 1) := dk_42 (dk_at dksX0_faults_0 0 rfl rfl)
theorem dX0_faults_1 : decode cX0_faults 1 = .ok (.iload_n 1, 1) := dk_27 (dk_at dksX0_faults_0 1 rfl rfl)
theorem dX0_faults_2 : decode cX0_faults 2 = .ok (.invokevirtual 197, 3) := dk_182 0 197 (dk_at dksX0_faults_0 2 rfl rfl)
theorem dX0_faults_5 : decode cX0_faults 5 = .ok (.ifCond .ne 6, 3) := dk_154 0 6 (dk_at dksX0_faults_0 5 rfl rfl)
theorem dX0_faults_8 : decode cX0_faults 8 = .ok (.bipush (-101), 2) := dk_16 155 (dk_at dksX0_faults_0 8 rfl rfl)
theorem dX0_faults_10 : decode cX0_faults 10 = .ok (.ireturn, 1) := dk_172 (dk_at dksX0_faults_0 10 rfl rfl)
theorem dX0_faults_11 : decode cX0_faults 11 = .ok (.iload_n 2, 1) := dk_28 (dk_at dksX0_faults_0 11 rfl rfl)
theorem dX0_faults_12 : decode cX0_faults 12 = .ok (.i2l, 1) := dk_133 (dk_at dksX0_faults_0 12 rfl rfl)
theorem dX0_faults_13 : decode cX0_faults 13 = .ok (.lconst 0, 1) := dk_9 (dk_at dksX0_faults_0 13 rfl rfl)
theorem dX0_faults_14 : decode cX0_faults 14 = .ok (.ldc2_w 298, 3) := dk_20 1 42 (dk_at dksX0_faults_0 14 rfl rfl)
theorem dX0_faults_17 : decode cX0_faults 17 = .ok (.invokestatic 98, 3) := dk_184 0 98 (dk_at dksX0_faults_0 17 rfl rfl)
theorem dX0_faults_20 : decode cX0_faults 20 = .ok (.ifCond .eq 28, 3) := dk_153 0 28 (dk_at dksX0_faults_0 20 rfl rfl)
theorem dX0_faults_23 : decode cX0_faults 23 = .ok (.iload_n 3, 1) := dk_29 (dk_at dksX0_faults_0 23 rfl rfl)
theorem dX0_faults_24 : decode cX0_faults 24 = .ok (.i2l, 1) := dk_133 (dk_at dksX0_faults_1 0 rfl rfl)
theorem dX0_faults_25 : decode cX0_faults 25 = .ok (.lconst 0, 1) := dk_9 (dk_at dksX0_faults_1 1 rfl rfl)
theorem dX0_faults_26 : decode cX0_faults 26 = .ok (.lconst 1, 1) := dk_10 (dk_at dksX0_faults_1 2 rfl rfl)
theorem dX0_faults_27 : decode cX0_faults 27 = .ok (.invokestatic 98, 3) := dk_184 0 98 (dk_at dksX0_faults_1 3 rfl rfl)
theorem dX0_faults_30 : decode cX0_faults 30 = .ok (.ifCond .eq 18, 3) := dk_153 0 18 (dk_at dksX0_faults_1 6 rfl rfl)
theorem dX0_faults_33 : decode cX0_faults 33 = .ok (.aload_n 0, 1) := dk_42 (dk_at dksX0_faults_1 9 rfl rfl)
theorem dX0_faults_34 : decode cX0_faults 34 = .ok (.aload_n 0, 1) := dk_42 (dk_at dksX0_faults_1 10 rfl rfl)
theorem dX0_faults_35 : decode cX0_faults 35 = .ok (.getfield 34, 3) := dk_180 0 34 (dk_at dksX0_faults_1 11 rfl rfl)
theorem dX0_faults_38 : decode cX0_faults 38 = .ok (.iload_n 1, 1) := dk_27 (dk_at dksX0_faults_1 14 rfl rfl)
theorem dX0_faults_39 : decode cX0_faults 39 = .ok (.aaload, 1) := dk_50 (dk_at dksX0_faults_1 15 rfl rfl)
theorem dX0_faults_40 : decode cX0_faults 40 = .ok (.iload_n 2, 1) := dk_28 (dk_at dksX0_faults_1 16 rfl rfl)
theorem dX0_faults_41 : decode cX0_faults 41 = .ok (.iload_n 3, 1) := dk_29 (dk_at dksX0_faults_1 17 rfl rfl)
theorem dX0_faults_42 : decode cX0_faults 42 = .ok (.invokevirtual 300, 3) := dk_182 1 44 (dk_at dksX0_faults_1 18 rfl rfl)
theorem dX0_faults_45 : decode cX0_faults 45 = .ok (.goto 5, 3) := dk_167 0 5 (dk_at dksX0_faults_1 21 rfl rfl)
theorem dX0_faults_48 : decode cX0_faults 48 = .ok (.bipush (-102), 2) := dk_16 154 (dk_at dksX0_faults_2 0 rfl rfl)
theorem dX0_faults_50 : decode cX0_faults 50 = .ok (.ireturn, 1) := dk_172 (dk_at dksX0_faults_2 2 rfl rfl)
abbrev cX0_faultsOf : ByteArray := prog_1_method_44_code
def yX0_faultsOf : MethodName := ⟨RX0, "faultsOf", "(LBeatenInstead$Prince;II)I"⟩
def dkwX0_faultsOf_3 : List UInt8 := [167, 0, 5, 21, 5, 172]
abbrev dktX0_faultsOf_3 : List UInt8 := dkwX0_faultsOf_3 ++ []
def dkwX0_faultsOf_2 : List UInt8 := [126, 54, 5, 132, 6, 1, 167, 255, 212, 29, 154, 0, 8, 21, 4, 167, 0, 14, 21, 4, 154, 0, 7, 2]
abbrev dktX0_faultsOf_2 : List UInt8 := dkwX0_faultsOf_2 ++ dktX0_faultsOf_3
def dkwX0_faultsOf_1 : List UInt8 := [2, 130, 126, 154, 0, 24, 42, 43, 21, 6, 182, 1, 39, 28, 160, 0, 13, 132, 4, 1, 21, 5, 21, 6]
abbrev dktX0_faultsOf_1 : List UInt8 := dkwX0_faultsOf_1 ++ dktX0_faultsOf_2
def dkwX0_faultsOf_0 : List UInt8 := [3, 54, 4, 16, 31, 54, 5, 3, 54, 6, 21, 6, 16, 32, 162, 0, 43, 21, 6, 42, 43, 182, 1, 3]
abbrev dktX0_faultsOf_0 : List UInt8 := dkwX0_faultsOf_0 ++ dktX0_faultsOf_1
theorem dksX0_faultsOf_0 : cX0_faultsOf.data.toList.drop 0 = dktX0_faultsOf_0 := by decide +kernel
theorem dksX0_faultsOf_1 : cX0_faultsOf.data.toList.drop 24 = dktX0_faultsOf_1 := dk_seg dksX0_faultsOf_0 24 rfl rfl
theorem dksX0_faultsOf_2 : cX0_faultsOf.data.toList.drop 48 = dktX0_faultsOf_2 := dk_seg dksX0_faultsOf_1 24 rfl rfl
theorem dksX0_faultsOf_3 : cX0_faultsOf.data.toList.drop 72 = dktX0_faultsOf_3 := dk_seg dksX0_faultsOf_2 24 rfl rfl
theorem dX0_faultsOf_0 : decode cX0_faultsOf 0 = .ok (.iconst 0, 1) := dk_3 (dk_at dksX0_faultsOf_0 0 rfl rfl)
theorem dX0_faultsOf_1 : decode cX0_faultsOf 1 = .ok (.istore 4, 2) := dk_54 4 (dk_at dksX0_faultsOf_0 1 rfl rfl)
theorem dX0_faultsOf_3 : decode cX0_faultsOf 3 = .ok (.bipush 31, 2) := dk_16 31 (dk_at dksX0_faultsOf_0 3 rfl rfl)
theorem dX0_faultsOf_5 : decode cX0_faultsOf 5 = .ok (.istore 5, 2) := dk_54 5 (dk_at dksX0_faultsOf_0 5 rfl rfl)
theorem dX0_faultsOf_7 : decode cX0_faultsOf 7 = .ok (.iconst 0, 1) := dk_3 (dk_at dksX0_faultsOf_0 7 rfl rfl)
theorem dX0_faultsOf_8 : decode cX0_faultsOf 8 = .ok (.istore 6, 2) := dk_54 6 (dk_at dksX0_faultsOf_0 8 rfl rfl)
theorem dX0_faultsOf_10 : decode cX0_faultsOf 10 = .ok (.iload 6, 2) := dk_21 6 (dk_at dksX0_faultsOf_0 10 rfl rfl)
theorem dX0_faultsOf_12 : decode cX0_faultsOf 12 = .ok (.bipush 32, 2) := dk_16 32 (dk_at dksX0_faultsOf_0 12 rfl rfl)
theorem dX0_faultsOf_14 : decode cX0_faultsOf 14 = .ok (.if_icmp .ge 43, 3) := dk_162 0 43 (dk_at dksX0_faultsOf_0 14 rfl rfl)
theorem dX0_faultsOf_17 : decode cX0_faultsOf 17 = .ok (.iload 6, 2) := dk_21 6 (dk_at dksX0_faultsOf_0 17 rfl rfl)
theorem dX0_faultsOf_19 : decode cX0_faultsOf 19 = .ok (.aload_n 0, 1) := dk_42 (dk_at dksX0_faultsOf_0 19 rfl rfl)
theorem dX0_faultsOf_20 : decode cX0_faultsOf 20 = .ok (.aload_n 1, 1) := dk_43 (dk_at dksX0_faultsOf_0 20 rfl rfl)
theorem dX0_faultsOf_21 : decode cX0_faultsOf 21 = .ok (.invokevirtual 259, 3) := dk_182 1 3 (dk_at dksX0_faultsOf_0 21 rfl rfl)
theorem dX0_faultsOf_24 : decode cX0_faultsOf 24 = .ok (.iconst (-1), 1) := dk_2 (dk_at dksX0_faultsOf_1 0 rfl rfl)
theorem dX0_faultsOf_25 : decode cX0_faultsOf 25 = .ok (.ixor, 1) := dk_130 (dk_at dksX0_faultsOf_1 1 rfl rfl)
theorem dX0_faultsOf_26 : decode cX0_faultsOf 26 = .ok (.iand, 1) := dk_126 (dk_at dksX0_faultsOf_1 2 rfl rfl)
theorem dX0_faultsOf_27 : decode cX0_faultsOf 27 = .ok (.ifCond .ne 24, 3) := dk_154 0 24 (dk_at dksX0_faultsOf_1 3 rfl rfl)
theorem dX0_faultsOf_30 : decode cX0_faultsOf 30 = .ok (.aload_n 0, 1) := dk_42 (dk_at dksX0_faultsOf_1 6 rfl rfl)
theorem dX0_faultsOf_31 : decode cX0_faultsOf 31 = .ok (.aload_n 1, 1) := dk_43 (dk_at dksX0_faultsOf_1 7 rfl rfl)
theorem dX0_faultsOf_32 : decode cX0_faultsOf 32 = .ok (.iload 6, 2) := dk_21 6 (dk_at dksX0_faultsOf_1 8 rfl rfl)
theorem dX0_faultsOf_34 : decode cX0_faultsOf 34 = .ok (.invokevirtual 295, 3) := dk_182 1 39 (dk_at dksX0_faultsOf_1 10 rfl rfl)
theorem dX0_faultsOf_37 : decode cX0_faultsOf 37 = .ok (.iload_n 2, 1) := dk_28 (dk_at dksX0_faultsOf_1 13 rfl rfl)
theorem dX0_faultsOf_38 : decode cX0_faultsOf 38 = .ok (.if_icmp .ne 13, 3) := dk_160 0 13 (dk_at dksX0_faultsOf_1 14 rfl rfl)
theorem dX0_faultsOf_41 : decode cX0_faultsOf 41 = .ok (.iinc 4 1, 3) := dk_132 4 1 (dk_at dksX0_faultsOf_1 17 rfl rfl)
theorem dX0_faultsOf_44 : decode cX0_faultsOf 44 = .ok (.iload 5, 2) := dk_21 5 (dk_at dksX0_faultsOf_1 20 rfl rfl)
theorem dX0_faultsOf_46 : decode cX0_faultsOf 46 = .ok (.iload 6, 2) := dk_21 6 (dk_at dksX0_faultsOf_1 22 rfl rfl)
theorem dX0_faultsOf_48 : decode cX0_faultsOf 48 = .ok (.iand, 1) := dk_126 (dk_at dksX0_faultsOf_2 0 rfl rfl)
theorem dX0_faultsOf_49 : decode cX0_faultsOf 49 = .ok (.istore 5, 2) := dk_54 5 (dk_at dksX0_faultsOf_2 1 rfl rfl)
theorem dX0_faultsOf_51 : decode cX0_faultsOf 51 = .ok (.iinc 6 1, 3) := dk_132 6 1 (dk_at dksX0_faultsOf_2 3 rfl rfl)
theorem dX0_faultsOf_54 : decode cX0_faultsOf 54 = .ok (.goto (-44), 3) := dk_167 255 212 (dk_at dksX0_faultsOf_2 6 rfl rfl)
theorem dX0_faultsOf_57 : decode cX0_faultsOf 57 = .ok (.iload_n 3, 1) := dk_29 (dk_at dksX0_faultsOf_2 9 rfl rfl)
theorem dX0_faultsOf_58 : decode cX0_faultsOf 58 = .ok (.ifCond .ne 8, 3) := dk_154 0 8 (dk_at dksX0_faultsOf_2 10 rfl rfl)
theorem dX0_faultsOf_61 : decode cX0_faultsOf 61 = .ok (.iload 4, 2) := dk_21 4 (dk_at dksX0_faultsOf_2 13 rfl rfl)
theorem dX0_faultsOf_63 : decode cX0_faultsOf 63 = .ok (.goto 14, 3) := dk_167 0 14 (dk_at dksX0_faultsOf_2 15 rfl rfl)
theorem dX0_faultsOf_66 : decode cX0_faultsOf 66 = .ok (.iload 4, 2) := dk_21 4 (dk_at dksX0_faultsOf_2 18 rfl rfl)
theorem dX0_faultsOf_68 : decode cX0_faultsOf 68 = .ok (.ifCond .ne 7, 3) := dk_154 0 7 (dk_at dksX0_faultsOf_2 20 rfl rfl)
theorem dX0_faultsOf_71 : decode cX0_faultsOf 71 = .ok (.iconst (-1), 1) := dk_2 (dk_at dksX0_faultsOf_2 23 rfl rfl)
theorem dX0_faultsOf_72 : decode cX0_faultsOf 72 = .ok (.goto 5, 3) := dk_167 0 5 (dk_at dksX0_faultsOf_3 0 rfl rfl)
theorem dX0_faultsOf_75 : decode cX0_faultsOf 75 = .ok (.iload 5, 2) := dk_21 5 (dk_at dksX0_faultsOf_3 3 rfl rfl)
theorem dX0_faultsOf_77 : decode cX0_faultsOf 77 = .ok (.ireturn, 1) := dk_172 (dk_at dksX0_faultsOf_3 5 rfl rfl)
abbrev cX0_blowsBy : ByteArray := prog_1_method_43_code
def yX0_blowsBy : MethodName := ⟨RX0, "blowsBy", "(LBeatenInstead$Prince;I)I"⟩
def dkwX0_blowsBy_5 : List UInt8 := [62, 132, 5, 1, 167, 255, 147, 21, 4, 172]
abbrev dktX0_blowsBy_5 : List UInt8 := dkwX0_blowsBy_5 ++ []
def dkwX0_blowsBy_4 : List UInt8 := [153, 0, 23, 42, 29, 42, 180, 0, 31, 43, 180, 0, 180, 46, 21, 4, 96, 182, 0, 229, 167, 0, 4, 29]
abbrev dktX0_blowsBy_4 : List UInt8 := dkwX0_blowsBy_4 ++ dktX0_blowsBy_5
def dkwX0_blowsBy_3 : List UInt8 := [21, 4, 21, 7, 153, 0, 13, 42, 180, 0, 28, 21, 5, 46, 167, 0, 4, 3, 96, 54, 4, 21, 7]
abbrev dktX0_blowsBy_3 : List UInt8 := dkwX0_blowsBy_3 ++ dktX0_blowsBy_4
def dkwX0_blowsBy_2 : List UInt8 := [184, 0, 144, 54, 7, 21, 6, 21, 7, 153, 0, 8, 16, 10, 167, 0, 4, 3, 160, 0, 5, 2, 172]
abbrev dktX0_blowsBy_2 : List UInt8 := dkwX0_blowsBy_2 ++ dktX0_blowsBy_3
def dkwX0_blowsBy_1 : List UInt8 := [182, 1, 3, 21, 5, 184, 0, 144, 153, 0, 87, 42, 43, 21, 5, 29, 182, 0, 222, 54, 6, 28, 21, 5]
abbrev dktX0_blowsBy_1 : List UInt8 := dkwX0_blowsBy_1 ++ dktX0_blowsBy_2
def dkwX0_blowsBy_0 : List UInt8 := [42, 43, 182, 0, 190, 62, 3, 54, 4, 3, 54, 5, 21, 5, 42, 180, 0, 124, 162, 0, 106, 42, 43]
abbrev dktX0_blowsBy_0 : List UInt8 := dkwX0_blowsBy_0 ++ dktX0_blowsBy_1
theorem dksX0_blowsBy_0 : cX0_blowsBy.data.toList.drop 0 = dktX0_blowsBy_0 := by decide +kernel
theorem dksX0_blowsBy_1 : cX0_blowsBy.data.toList.drop 23 = dktX0_blowsBy_1 := dk_seg dksX0_blowsBy_0 23 rfl rfl
theorem dksX0_blowsBy_2 : cX0_blowsBy.data.toList.drop 47 = dktX0_blowsBy_2 := dk_seg dksX0_blowsBy_1 24 rfl rfl
theorem dksX0_blowsBy_3 : cX0_blowsBy.data.toList.drop 70 = dktX0_blowsBy_3 := dk_seg dksX0_blowsBy_2 23 rfl rfl
theorem dksX0_blowsBy_4 : cX0_blowsBy.data.toList.drop 93 = dktX0_blowsBy_4 := dk_seg dksX0_blowsBy_3 23 rfl rfl
theorem dksX0_blowsBy_5 : cX0_blowsBy.data.toList.drop 117 = dktX0_blowsBy_5 := dk_seg dksX0_blowsBy_4 24 rfl rfl
theorem dX0_blowsBy_0 : decode cX0_blowsBy 0 = .ok (.aload_n 0, 1) := dk_42 (dk_at dksX0_blowsBy_0 0 rfl rfl)
theorem dX0_blowsBy_1 : decode cX0_blowsBy 1 = .ok (.aload_n 1, 1) := dk_43 (dk_at dksX0_blowsBy_0 1 rfl rfl)
theorem dX0_blowsBy_2 : decode cX0_blowsBy 2 = .ok (.invokevirtual 190, 3) := dk_182 0 190 (dk_at dksX0_blowsBy_0 2 rfl rfl)
theorem dX0_blowsBy_5 : decode cX0_blowsBy 5 = .ok (.istore_n 3, 1) := dk_62 (dk_at dksX0_blowsBy_0 5 rfl rfl)
theorem dX0_blowsBy_6 : decode cX0_blowsBy 6 = .ok (.iconst 0, 1) := dk_3 (dk_at dksX0_blowsBy_0 6 rfl rfl)
theorem dX0_blowsBy_7 : decode cX0_blowsBy 7 = .ok (.istore 4, 2) := dk_54 4 (dk_at dksX0_blowsBy_0 7 rfl rfl)
theorem dX0_blowsBy_9 : decode cX0_blowsBy 9 = .ok (.iconst 0, 1) := dk_3 (dk_at dksX0_blowsBy_0 9 rfl rfl)
theorem dX0_blowsBy_10 : decode cX0_blowsBy 10 = .ok (.istore 5, 2) := dk_54 5 (dk_at dksX0_blowsBy_0 10 rfl rfl)
theorem dX0_blowsBy_12 : decode cX0_blowsBy 12 = .ok (.iload 5, 2) := dk_21 5 (dk_at dksX0_blowsBy_0 12 rfl rfl)
theorem dX0_blowsBy_14 : decode cX0_blowsBy 14 = .ok (.aload_n 0, 1) := dk_42 (dk_at dksX0_blowsBy_0 14 rfl rfl)
theorem dX0_blowsBy_15 : decode cX0_blowsBy 15 = .ok (.getfield 124, 3) := dk_180 0 124 (dk_at dksX0_blowsBy_0 15 rfl rfl)
theorem dX0_blowsBy_18 : decode cX0_blowsBy 18 = .ok (.if_icmp .ge 106, 3) := dk_162 0 106 (dk_at dksX0_blowsBy_0 18 rfl rfl)
theorem dX0_blowsBy_21 : decode cX0_blowsBy 21 = .ok (.aload_n 0, 1) := dk_42 (dk_at dksX0_blowsBy_0 21 rfl rfl)
theorem dX0_blowsBy_22 : decode cX0_blowsBy 22 = .ok (.aload_n 1, 1) := dk_43 (dk_at dksX0_blowsBy_0 22 rfl rfl)
theorem dX0_blowsBy_23 : decode cX0_blowsBy 23 = .ok (.invokevirtual 259, 3) := dk_182 1 3 (dk_at dksX0_blowsBy_1 0 rfl rfl)
theorem dX0_blowsBy_26 : decode cX0_blowsBy 26 = .ok (.iload 5, 2) := dk_21 5 (dk_at dksX0_blowsBy_1 3 rfl rfl)
theorem dX0_blowsBy_28 : decode cX0_blowsBy 28 = .ok (.invokestatic 144, 3) := dk_184 0 144 (dk_at dksX0_blowsBy_1 5 rfl rfl)
theorem dX0_blowsBy_31 : decode cX0_blowsBy 31 = .ok (.ifCond .eq 87, 3) := dk_153 0 87 (dk_at dksX0_blowsBy_1 8 rfl rfl)
theorem dX0_blowsBy_34 : decode cX0_blowsBy 34 = .ok (.aload_n 0, 1) := dk_42 (dk_at dksX0_blowsBy_1 11 rfl rfl)
theorem dX0_blowsBy_35 : decode cX0_blowsBy 35 = .ok (.aload_n 1, 1) := dk_43 (dk_at dksX0_blowsBy_1 12 rfl rfl)
theorem dX0_blowsBy_36 : decode cX0_blowsBy 36 = .ok (.iload 5, 2) := dk_21 5 (dk_at dksX0_blowsBy_1 13 rfl rfl)
theorem dX0_blowsBy_38 : decode cX0_blowsBy 38 = .ok (.iload_n 3, 1) := dk_29 (dk_at dksX0_blowsBy_1 15 rfl rfl)
theorem dX0_blowsBy_39 : decode cX0_blowsBy 39 = .ok (.invokevirtual 222, 3) := dk_182 0 222 (dk_at dksX0_blowsBy_1 16 rfl rfl)
theorem dX0_blowsBy_42 : decode cX0_blowsBy 42 = .ok (.istore 6, 2) := dk_54 6 (dk_at dksX0_blowsBy_1 19 rfl rfl)
theorem dX0_blowsBy_44 : decode cX0_blowsBy 44 = .ok (.iload_n 2, 1) := dk_28 (dk_at dksX0_blowsBy_1 21 rfl rfl)
theorem dX0_blowsBy_45 : decode cX0_blowsBy 45 = .ok (.iload 5, 2) := dk_21 5 (dk_at dksX0_blowsBy_1 22 rfl rfl)
theorem dX0_blowsBy_47 : decode cX0_blowsBy 47 = .ok (.invokestatic 144, 3) := dk_184 0 144 (dk_at dksX0_blowsBy_2 0 rfl rfl)
theorem dX0_blowsBy_50 : decode cX0_blowsBy 50 = .ok (.istore 7, 2) := dk_54 7 (dk_at dksX0_blowsBy_2 3 rfl rfl)
theorem dX0_blowsBy_52 : decode cX0_blowsBy 52 = .ok (.iload 6, 2) := dk_21 6 (dk_at dksX0_blowsBy_2 5 rfl rfl)
theorem dX0_blowsBy_54 : decode cX0_blowsBy 54 = .ok (.iload 7, 2) := dk_21 7 (dk_at dksX0_blowsBy_2 7 rfl rfl)
theorem dX0_blowsBy_56 : decode cX0_blowsBy 56 = .ok (.ifCond .eq 8, 3) := dk_153 0 8 (dk_at dksX0_blowsBy_2 9 rfl rfl)
theorem dX0_blowsBy_59 : decode cX0_blowsBy 59 = .ok (.bipush 10, 2) := dk_16 10 (dk_at dksX0_blowsBy_2 12 rfl rfl)
theorem dX0_blowsBy_61 : decode cX0_blowsBy 61 = .ok (.goto 4, 3) := dk_167 0 4 (dk_at dksX0_blowsBy_2 14 rfl rfl)
theorem dX0_blowsBy_64 : decode cX0_blowsBy 64 = .ok (.iconst 0, 1) := dk_3 (dk_at dksX0_blowsBy_2 17 rfl rfl)
theorem dX0_blowsBy_65 : decode cX0_blowsBy 65 = .ok (.if_icmp .ne 5, 3) := dk_160 0 5 (dk_at dksX0_blowsBy_2 18 rfl rfl)
theorem dX0_blowsBy_68 : decode cX0_blowsBy 68 = .ok (.iconst (-1), 1) := dk_2 (dk_at dksX0_blowsBy_2 21 rfl rfl)
theorem dX0_blowsBy_69 : decode cX0_blowsBy 69 = .ok (.ireturn, 1) := dk_172 (dk_at dksX0_blowsBy_2 22 rfl rfl)
theorem dX0_blowsBy_70 : decode cX0_blowsBy 70 = .ok (.iload 4, 2) := dk_21 4 (dk_at dksX0_blowsBy_3 0 rfl rfl)
theorem dX0_blowsBy_72 : decode cX0_blowsBy 72 = .ok (.iload 7, 2) := dk_21 7 (dk_at dksX0_blowsBy_3 2 rfl rfl)
theorem dX0_blowsBy_74 : decode cX0_blowsBy 74 = .ok (.ifCond .eq 13, 3) := dk_153 0 13 (dk_at dksX0_blowsBy_3 4 rfl rfl)
theorem dX0_blowsBy_77 : decode cX0_blowsBy 77 = .ok (.aload_n 0, 1) := dk_42 (dk_at dksX0_blowsBy_3 7 rfl rfl)
theorem dX0_blowsBy_78 : decode cX0_blowsBy 78 = .ok (.getfield 28, 3) := dk_180 0 28 (dk_at dksX0_blowsBy_3 8 rfl rfl)
theorem dX0_blowsBy_81 : decode cX0_blowsBy 81 = .ok (.iload 5, 2) := dk_21 5 (dk_at dksX0_blowsBy_3 11 rfl rfl)
theorem dX0_blowsBy_83 : decode cX0_blowsBy 83 = .ok (.iaload, 1) := dk_46 (dk_at dksX0_blowsBy_3 13 rfl rfl)
theorem dX0_blowsBy_84 : decode cX0_blowsBy 84 = .ok (.goto 4, 3) := dk_167 0 4 (dk_at dksX0_blowsBy_3 14 rfl rfl)
theorem dX0_blowsBy_87 : decode cX0_blowsBy 87 = .ok (.iconst 0, 1) := dk_3 (dk_at dksX0_blowsBy_3 17 rfl rfl)
theorem dX0_blowsBy_88 : decode cX0_blowsBy 88 = .ok (.iadd, 1) := dk_96 (dk_at dksX0_blowsBy_3 18 rfl rfl)
theorem dX0_blowsBy_89 : decode cX0_blowsBy 89 = .ok (.istore 4, 2) := dk_54 4 (dk_at dksX0_blowsBy_3 19 rfl rfl)
theorem dX0_blowsBy_91 : decode cX0_blowsBy 91 = .ok (.iload 7, 2) := dk_21 7 (dk_at dksX0_blowsBy_3 21 rfl rfl)
theorem dX0_blowsBy_93 : decode cX0_blowsBy 93 = .ok (.ifCond .eq 23, 3) := dk_153 0 23 (dk_at dksX0_blowsBy_4 0 rfl rfl)
theorem dX0_blowsBy_96 : decode cX0_blowsBy 96 = .ok (.aload_n 0, 1) := dk_42 (dk_at dksX0_blowsBy_4 3 rfl rfl)
theorem dX0_blowsBy_97 : decode cX0_blowsBy 97 = .ok (.iload_n 3, 1) := dk_29 (dk_at dksX0_blowsBy_4 4 rfl rfl)
theorem dX0_blowsBy_98 : decode cX0_blowsBy 98 = .ok (.aload_n 0, 1) := dk_42 (dk_at dksX0_blowsBy_4 5 rfl rfl)
theorem dX0_blowsBy_99 : decode cX0_blowsBy 99 = .ok (.getfield 31, 3) := dk_180 0 31 (dk_at dksX0_blowsBy_4 6 rfl rfl)
theorem dX0_blowsBy_102 : decode cX0_blowsBy 102 = .ok (.aload_n 1, 1) := dk_43 (dk_at dksX0_blowsBy_4 9 rfl rfl)
theorem dX0_blowsBy_103 : decode cX0_blowsBy 103 = .ok (.getfield 180, 3) := dk_180 0 180 (dk_at dksX0_blowsBy_4 10 rfl rfl)
theorem dX0_blowsBy_106 : decode cX0_blowsBy 106 = .ok (.iaload, 1) := dk_46 (dk_at dksX0_blowsBy_4 13 rfl rfl)
theorem dX0_blowsBy_107 : decode cX0_blowsBy 107 = .ok (.iload 4, 2) := dk_21 4 (dk_at dksX0_blowsBy_4 14 rfl rfl)
theorem dX0_blowsBy_109 : decode cX0_blowsBy 109 = .ok (.iadd, 1) := dk_96 (dk_at dksX0_blowsBy_4 16 rfl rfl)
theorem dX0_blowsBy_110 : decode cX0_blowsBy 110 = .ok (.invokevirtual 229, 3) := dk_182 0 229 (dk_at dksX0_blowsBy_4 17 rfl rfl)
theorem dX0_blowsBy_113 : decode cX0_blowsBy 113 = .ok (.goto 4, 3) := dk_167 0 4 (dk_at dksX0_blowsBy_4 20 rfl rfl)
theorem dX0_blowsBy_116 : decode cX0_blowsBy 116 = .ok (.iload_n 3, 1) := dk_29 (dk_at dksX0_blowsBy_4 23 rfl rfl)
theorem dX0_blowsBy_117 : decode cX0_blowsBy 117 = .ok (.istore_n 3, 1) := dk_62 (dk_at dksX0_blowsBy_5 0 rfl rfl)
theorem dX0_blowsBy_118 : decode cX0_blowsBy 118 = .ok (.iinc 5 1, 3) := dk_132 5 1 (dk_at dksX0_blowsBy_5 1 rfl rfl)
theorem dX0_blowsBy_121 : decode cX0_blowsBy 121 = .ok (.goto (-109), 3) := dk_167 255 147 (dk_at dksX0_blowsBy_5 4 rfl rfl)
theorem dX0_blowsBy_124 : decode cX0_blowsBy 124 = .ok (.iload 4, 2) := dk_21 4 (dk_at dksX0_blowsBy_5 7 rfl rfl)
theorem dX0_blowsBy_126 : decode cX0_blowsBy 126 = .ok (.ireturn, 1) := dk_172 (dk_at dksX0_blowsBy_5 9 rfl rfl)
abbrev cX0_hear : ByteArray := prog_1_method_46_code
def yX0_hear : MethodName := ⟨RX0, "hear", "(IIZ)I"⟩
def dkwX0_hear_3 : List UInt8 := [181, 0, 133, 42, 180, 0, 133, 172]
abbrev dktX0_hear_3 : List UInt8 := dkwX0_hear_3 ++ []
def dkwX0_hear_2 : List UInt8 := [180, 0, 133, 28, 79, 42, 180, 0, 62, 42, 180, 0, 133, 29, 84, 42, 89, 180, 0, 133, 4, 96]
abbrev dktX0_hear_2 : List UInt8 := dkwX0_hear_2 ++ dktX0_hear_3
def dkwX0_hear_1 : List UInt8 := [16, 6, 160, 0, 6, 16, 152, 172, 42, 180, 0, 56, 42, 180, 0, 133, 27, 79, 42, 180, 0, 59, 42]
abbrev dktX0_hear_1 : List UInt8 := dkwX0_hear_1 ++ dktX0_hear_2
def dkwX0_hear_0 : List UInt8 := [42, 27, 182, 0, 197, 153, 0, 11, 42, 28, 182, 0, 151, 154, 0, 6, 16, 155, 172, 42, 180, 0, 133]
abbrev dktX0_hear_0 : List UInt8 := dkwX0_hear_0 ++ dktX0_hear_1
theorem dksX0_hear_0 : cX0_hear.data.toList.drop 0 = dktX0_hear_0 := by decide +kernel
theorem dksX0_hear_1 : cX0_hear.data.toList.drop 23 = dktX0_hear_1 := dk_seg dksX0_hear_0 23 rfl rfl
theorem dksX0_hear_2 : cX0_hear.data.toList.drop 46 = dktX0_hear_2 := dk_seg dksX0_hear_1 23 rfl rfl
theorem dksX0_hear_3 : cX0_hear.data.toList.drop 68 = dktX0_hear_3 := dk_seg dksX0_hear_2 22 rfl rfl
theorem dX0_hear_0 : decode cX0_hear 0 = .ok (.aload_n 0, 1) := dk_42 (dk_at dksX0_hear_0 0 rfl rfl)
theorem dX0_hear_1 : decode cX0_hear 1 = .ok (.iload_n 1, 1) := dk_27 (dk_at dksX0_hear_0 1 rfl rfl)
theorem dX0_hear_2 : decode cX0_hear 2 = .ok (.invokevirtual 197, 3) := dk_182 0 197 (dk_at dksX0_hear_0 2 rfl rfl)
theorem dX0_hear_5 : decode cX0_hear 5 = .ok (.ifCond .eq 11, 3) := dk_153 0 11 (dk_at dksX0_hear_0 5 rfl rfl)
theorem dX0_hear_8 : decode cX0_hear 8 = .ok (.aload_n 0, 1) := dk_42 (dk_at dksX0_hear_0 8 rfl rfl)
theorem dX0_hear_9 : decode cX0_hear 9 = .ok (.iload_n 2, 1) := dk_28 (dk_at dksX0_hear_0 9 rfl rfl)
theorem dX0_hear_10 : decode cX0_hear 10 = .ok (.invokevirtual 151, 3) := dk_182 0 151 (dk_at dksX0_hear_0 10 rfl rfl)
theorem dX0_hear_13 : decode cX0_hear 13 = .ok (.ifCond .ne 6, 3) := dk_154 0 6 (dk_at dksX0_hear_0 13 rfl rfl)
theorem dX0_hear_16 : decode cX0_hear 16 = .ok (.bipush (-101), 2) := dk_16 155 (dk_at dksX0_hear_0 16 rfl rfl)
theorem dX0_hear_18 : decode cX0_hear 18 = .ok (.ireturn, 1) := dk_172 (dk_at dksX0_hear_0 18 rfl rfl)
theorem dX0_hear_19 : decode cX0_hear 19 = .ok (.aload_n 0, 1) := dk_42 (dk_at dksX0_hear_0 19 rfl rfl)
theorem dX0_hear_20 : decode cX0_hear 20 = .ok (.getfield 133, 3) := dk_180 0 133 (dk_at dksX0_hear_0 20 rfl rfl)
theorem dX0_hear_23 : decode cX0_hear 23 = .ok (.bipush 6, 2) := dk_16 6 (dk_at dksX0_hear_1 0 rfl rfl)
theorem dX0_hear_25 : decode cX0_hear 25 = .ok (.if_icmp .ne 6, 3) := dk_160 0 6 (dk_at dksX0_hear_1 2 rfl rfl)
theorem dX0_hear_28 : decode cX0_hear 28 = .ok (.bipush (-104), 2) := dk_16 152 (dk_at dksX0_hear_1 5 rfl rfl)
theorem dX0_hear_30 : decode cX0_hear 30 = .ok (.ireturn, 1) := dk_172 (dk_at dksX0_hear_1 7 rfl rfl)
theorem dX0_hear_31 : decode cX0_hear 31 = .ok (.aload_n 0, 1) := dk_42 (dk_at dksX0_hear_1 8 rfl rfl)
theorem dX0_hear_32 : decode cX0_hear 32 = .ok (.getfield 56, 3) := dk_180 0 56 (dk_at dksX0_hear_1 9 rfl rfl)
theorem dX0_hear_35 : decode cX0_hear 35 = .ok (.aload_n 0, 1) := dk_42 (dk_at dksX0_hear_1 12 rfl rfl)
theorem dX0_hear_36 : decode cX0_hear 36 = .ok (.getfield 133, 3) := dk_180 0 133 (dk_at dksX0_hear_1 13 rfl rfl)
theorem dX0_hear_39 : decode cX0_hear 39 = .ok (.iload_n 1, 1) := dk_27 (dk_at dksX0_hear_1 16 rfl rfl)
theorem dX0_hear_40 : decode cX0_hear 40 = .ok (.iastore, 1) := dk_79 (dk_at dksX0_hear_1 17 rfl rfl)
theorem dX0_hear_41 : decode cX0_hear 41 = .ok (.aload_n 0, 1) := dk_42 (dk_at dksX0_hear_1 18 rfl rfl)
theorem dX0_hear_42 : decode cX0_hear 42 = .ok (.getfield 59, 3) := dk_180 0 59 (dk_at dksX0_hear_1 19 rfl rfl)
theorem dX0_hear_45 : decode cX0_hear 45 = .ok (.aload_n 0, 1) := dk_42 (dk_at dksX0_hear_1 22 rfl rfl)
theorem dX0_hear_46 : decode cX0_hear 46 = .ok (.getfield 133, 3) := dk_180 0 133 (dk_at dksX0_hear_2 0 rfl rfl)
theorem dX0_hear_49 : decode cX0_hear 49 = .ok (.iload_n 2, 1) := dk_28 (dk_at dksX0_hear_2 3 rfl rfl)
theorem dX0_hear_50 : decode cX0_hear 50 = .ok (.iastore, 1) := dk_79 (dk_at dksX0_hear_2 4 rfl rfl)
theorem dX0_hear_51 : decode cX0_hear 51 = .ok (.aload_n 0, 1) := dk_42 (dk_at dksX0_hear_2 5 rfl rfl)
theorem dX0_hear_52 : decode cX0_hear 52 = .ok (.getfield 62, 3) := dk_180 0 62 (dk_at dksX0_hear_2 6 rfl rfl)
theorem dX0_hear_55 : decode cX0_hear 55 = .ok (.aload_n 0, 1) := dk_42 (dk_at dksX0_hear_2 9 rfl rfl)
theorem dX0_hear_56 : decode cX0_hear 56 = .ok (.getfield 133, 3) := dk_180 0 133 (dk_at dksX0_hear_2 10 rfl rfl)
theorem dX0_hear_59 : decode cX0_hear 59 = .ok (.iload_n 3, 1) := dk_29 (dk_at dksX0_hear_2 13 rfl rfl)
theorem dX0_hear_60 : decode cX0_hear 60 = .ok (.bastore, 1) := dk_84 (dk_at dksX0_hear_2 14 rfl rfl)
theorem dX0_hear_61 : decode cX0_hear 61 = .ok (.aload_n 0, 1) := dk_42 (dk_at dksX0_hear_2 15 rfl rfl)
theorem dX0_hear_62 : decode cX0_hear 62 = .ok (.dup, 1) := dk_89 (dk_at dksX0_hear_2 16 rfl rfl)
theorem dX0_hear_63 : decode cX0_hear 63 = .ok (.getfield 133, 3) := dk_180 0 133 (dk_at dksX0_hear_2 17 rfl rfl)
theorem dX0_hear_66 : decode cX0_hear 66 = .ok (.iconst 1, 1) := dk_4 (dk_at dksX0_hear_2 20 rfl rfl)
theorem dX0_hear_67 : decode cX0_hear 67 = .ok (.iadd, 1) := dk_96 (dk_at dksX0_hear_2 21 rfl rfl)
theorem dX0_hear_68 : decode cX0_hear 68 = .ok (.putfield 133, 3) := dk_181 0 133 (dk_at dksX0_hear_3 0 rfl rfl)
theorem dX0_hear_71 : decode cX0_hear 71 = .ok (.aload_n 0, 1) := dk_42 (dk_at dksX0_hear_3 3 rfl rfl)
theorem dX0_hear_72 : decode cX0_hear 72 = .ok (.getfield 133, 3) := dk_180 0 133 (dk_at dksX0_hear_3 4 rfl rfl)
theorem dX0_hear_75 : decode cX0_hear 75 = .ok (.ireturn, 1) := dk_172 (dk_at dksX0_hear_3 7 rfl rfl)
abbrev cX0_forget : ByteArray := prog_1_method_47_code
def yX0_forget : MethodName := ⟨RX0, "forget", "()I"⟩
def dkwX0_forget_0 : List UInt8 := [42, 180, 0, 133, 60, 42, 3, 181, 0, 133, 27, 172]
abbrev dktX0_forget_0 : List UInt8 := dkwX0_forget_0 ++ []
theorem dksX0_forget_0 : cX0_forget.data.toList.drop 0 = dktX0_forget_0 := by decide +kernel
theorem dX0_forget_0 : decode cX0_forget 0 = .ok (.aload_n 0, 1) := dk_42 (dk_at dksX0_forget_0 0 rfl rfl)
theorem dX0_forget_1 : decode cX0_forget 1 = .ok (.getfield 133, 3) := dk_180 0 133 (dk_at dksX0_forget_0 1 rfl rfl)
theorem dX0_forget_4 : decode cX0_forget 4 = .ok (.istore_n 1, 1) := dk_60 (dk_at dksX0_forget_0 4 rfl rfl)
theorem dX0_forget_5 : decode cX0_forget 5 = .ok (.aload_n 0, 1) := dk_42 (dk_at dksX0_forget_0 5 rfl rfl)
theorem dX0_forget_6 : decode cX0_forget 6 = .ok (.iconst 0, 1) := dk_3 (dk_at dksX0_forget_0 6 rfl rfl)
theorem dX0_forget_7 : decode cX0_forget 7 = .ok (.putfield 133, 3) := dk_181 0 133 (dk_at dksX0_forget_0 7 rfl rfl)
theorem dX0_forget_10 : decode cX0_forget 10 = .ok (.iload_n 1, 1) := dk_27 (dk_at dksX0_forget_0 10 rfl rfl)
theorem dX0_forget_11 : decode cX0_forget 11 = .ok (.ireturn, 1) := dk_172 (dk_at dksX0_forget_0 11 rfl rfl)
abbrev cX0_fondness : ByteArray := prog_1_method_50_code
def yX0_fondness : MethodName := ⟨RX0, "fondness", "(I)I"⟩
def dkwX0_fondness_0 : List UInt8 := [42, 27, 182, 0, 197, 153, 0, 16, 42, 42, 180, 0, 34, 27, 50, 182, 1, 51, 167, 0, 5, 16, 155, 172]
abbrev dktX0_fondness_0 : List UInt8 := dkwX0_fondness_0 ++ []
theorem dksX0_fondness_0 : cX0_fondness.data.toList.drop 0 = dktX0_fondness_0 := by decide +kernel
theorem dX0_fondness_0 : decode cX0_fondness 0 = .ok (.aload_n 0, 1) := dk_42 (dk_at dksX0_fondness_0 0 rfl rfl)
theorem dX0_fondness_1 : decode cX0_fondness 1 = .ok (.iload_n 1, 1) := dk_27 (dk_at dksX0_fondness_0 1 rfl rfl)
theorem dX0_fondness_2 : decode cX0_fondness 2 = .ok (.invokevirtual 197, 3) := dk_182 0 197 (dk_at dksX0_fondness_0 2 rfl rfl)
theorem dX0_fondness_5 : decode cX0_fondness 5 = .ok (.ifCond .eq 16, 3) := dk_153 0 16 (dk_at dksX0_fondness_0 5 rfl rfl)
theorem dX0_fondness_8 : decode cX0_fondness 8 = .ok (.aload_n 0, 1) := dk_42 (dk_at dksX0_fondness_0 8 rfl rfl)
theorem dX0_fondness_9 : decode cX0_fondness 9 = .ok (.aload_n 0, 1) := dk_42 (dk_at dksX0_fondness_0 9 rfl rfl)
theorem dX0_fondness_10 : decode cX0_fondness 10 = .ok (.getfield 34, 3) := dk_180 0 34 (dk_at dksX0_fondness_0 10 rfl rfl)
theorem dX0_fondness_13 : decode cX0_fondness 13 = .ok (.iload_n 1, 1) := dk_27 (dk_at dksX0_fondness_0 13 rfl rfl)
theorem dX0_fondness_14 : decode cX0_fondness 14 = .ok (.aaload, 1) := dk_50 (dk_at dksX0_fondness_0 14 rfl rfl)
theorem dX0_fondness_15 : decode cX0_fondness 15 = .ok (.invokevirtual 307, 3) := dk_182 1 51 (dk_at dksX0_fondness_0 15 rfl rfl)
theorem dX0_fondness_18 : decode cX0_fondness 18 = .ok (.goto 5, 3) := dk_167 0 5 (dk_at dksX0_fondness_0 18 rfl rfl)
theorem dX0_fondness_21 : decode cX0_fondness 21 = .ok (.bipush (-101), 2) := dk_16 155 (dk_at dksX0_fondness_0 21 rfl rfl)
theorem dX0_fondness_23 : decode cX0_fondness 23 = .ok (.ireturn, 1) := dk_172 (dk_at dksX0_fondness_0 23 rfl rfl)
abbrev cX0_fondnessOf : ByteArray := prog_1_method_49_code
def yX0_fondnessOf : MethodName := ⟨RX0, "fondnessOf", "(LBeatenInstead$Prince;)I"⟩
def dkwX0_fondnessOf_1 : List UInt8 := [167, 0, 4, 3, 128, 61, 132, 3, 1, 167, 255, 228, 28, 172]
abbrev dktX0_fondnessOf_1 : List UInt8 := dkwX0_fondnessOf_1 ++ []
def dkwX0_fondnessOf_0 : List UInt8 := [3, 61, 3, 62, 29, 16, 9, 163, 0, 28, 28, 42, 43, 29, 182, 1, 47, 153, 0, 9, 4, 29, 120]
abbrev dktX0_fondnessOf_0 : List UInt8 := dkwX0_fondnessOf_0 ++ dktX0_fondnessOf_1
theorem dksX0_fondnessOf_0 : cX0_fondnessOf.data.toList.drop 0 = dktX0_fondnessOf_0 := by decide +kernel
theorem dksX0_fondnessOf_1 : cX0_fondnessOf.data.toList.drop 23 = dktX0_fondnessOf_1 := dk_seg dksX0_fondnessOf_0 23 rfl rfl
theorem dX0_fondnessOf_0 : decode cX0_fondnessOf 0 = .ok (.iconst 0, 1) := dk_3 (dk_at dksX0_fondnessOf_0 0 rfl rfl)
theorem dX0_fondnessOf_1 : decode cX0_fondnessOf 1 = .ok (.istore_n 2, 1) := dk_61 (dk_at dksX0_fondnessOf_0 1 rfl rfl)
theorem dX0_fondnessOf_2 : decode cX0_fondnessOf 2 = .ok (.iconst 0, 1) := dk_3 (dk_at dksX0_fondnessOf_0 2 rfl rfl)
theorem dX0_fondnessOf_3 : decode cX0_fondnessOf 3 = .ok (.istore_n 3, 1) := dk_62 (dk_at dksX0_fondnessOf_0 3 rfl rfl)
theorem dX0_fondnessOf_4 : decode cX0_fondnessOf 4 = .ok (.iload_n 3, 1) := dk_29 (dk_at dksX0_fondnessOf_0 4 rfl rfl)
theorem dX0_fondnessOf_5 : decode cX0_fondnessOf 5 = .ok (.bipush 9, 2) := dk_16 9 (dk_at dksX0_fondnessOf_0 5 rfl rfl)
theorem dX0_fondnessOf_7 : decode cX0_fondnessOf 7 = .ok (.if_icmp .gt 28, 3) := dk_163 0 28 (dk_at dksX0_fondnessOf_0 7 rfl rfl)
theorem dX0_fondnessOf_10 : decode cX0_fondnessOf 10 = .ok (.iload_n 2, 1) := dk_28 (dk_at dksX0_fondnessOf_0 10 rfl rfl)
theorem dX0_fondnessOf_11 : decode cX0_fondnessOf 11 = .ok (.aload_n 0, 1) := dk_42 (dk_at dksX0_fondnessOf_0 11 rfl rfl)
theorem dX0_fondnessOf_12 : decode cX0_fondnessOf 12 = .ok (.aload_n 1, 1) := dk_43 (dk_at dksX0_fondnessOf_0 12 rfl rfl)
theorem dX0_fondnessOf_13 : decode cX0_fondnessOf 13 = .ok (.iload_n 3, 1) := dk_29 (dk_at dksX0_fondnessOf_0 13 rfl rfl)
theorem dX0_fondnessOf_14 : decode cX0_fondnessOf 14 = .ok (.invokevirtual 303, 3) := dk_182 1 47 (dk_at dksX0_fondnessOf_0 14 rfl rfl)
theorem dX0_fondnessOf_17 : decode cX0_fondnessOf 17 = .ok (.ifCond .eq 9, 3) := dk_153 0 9 (dk_at dksX0_fondnessOf_0 17 rfl rfl)
theorem dX0_fondnessOf_20 : decode cX0_fondnessOf 20 = .ok (.iconst 1, 1) := dk_4 (dk_at dksX0_fondnessOf_0 20 rfl rfl)
theorem dX0_fondnessOf_21 : decode cX0_fondnessOf 21 = .ok (.iload_n 3, 1) := dk_29 (dk_at dksX0_fondnessOf_0 21 rfl rfl)
theorem dX0_fondnessOf_22 : decode cX0_fondnessOf 22 = .ok (.ishl, 1) := dk_120 (dk_at dksX0_fondnessOf_0 22 rfl rfl)
theorem dX0_fondnessOf_23 : decode cX0_fondnessOf 23 = .ok (.goto 4, 3) := dk_167 0 4 (dk_at dksX0_fondnessOf_1 0 rfl rfl)
theorem dX0_fondnessOf_26 : decode cX0_fondnessOf 26 = .ok (.iconst 0, 1) := dk_3 (dk_at dksX0_fondnessOf_1 3 rfl rfl)
theorem dX0_fondnessOf_27 : decode cX0_fondnessOf 27 = .ok (.ior, 1) := dk_128 (dk_at dksX0_fondnessOf_1 4 rfl rfl)
theorem dX0_fondnessOf_28 : decode cX0_fondnessOf 28 = .ok (.istore_n 2, 1) := dk_61 (dk_at dksX0_fondnessOf_1 5 rfl rfl)
theorem dX0_fondnessOf_29 : decode cX0_fondnessOf 29 = .ok (.iinc 3 1, 3) := dk_132 3 1 (dk_at dksX0_fondnessOf_1 6 rfl rfl)
theorem dX0_fondnessOf_32 : decode cX0_fondnessOf 32 = .ok (.goto (-28), 3) := dk_167 255 228 (dk_at dksX0_fondnessOf_1 9 rfl rfl)
theorem dX0_fondnessOf_35 : decode cX0_fondnessOf 35 = .ok (.iload_n 2, 1) := dk_28 (dk_at dksX0_fondnessOf_1 12 rfl rfl)
theorem dX0_fondnessOf_36 : decode cX0_fondnessOf 36 = .ok (.ireturn, 1) := dk_172 (dk_at dksX0_fondnessOf_1 13 rfl rfl)
abbrev cX0_canBe : ByteArray := prog_1_method_48_code
def yX0_canBe : MethodName := ⟨RX0, "canBe", "(LBeatenInstead$Prince;I)Z"⟩
def dkwX0_canBe_3 : List UInt8 := [132, 4, 1, 167, 255, 190, 29, 172]
abbrev dktX0_canBe_3 : List UInt8 := dkwX0_canBe_3 ++ []
def dkwX0_canBe_2 : List UInt8 := [21, 4, 51, 153, 0, 7, 3, 167, 0, 5, 16, 10, 159, 0, 7, 4, 167, 0, 4, 3, 126, 62]
abbrev dktX0_canBe_2 : List UInt8 := dkwX0_canBe_2 ++ dktX0_canBe_3
def dkwX0_canBe_1 : List UInt8 := [180, 0, 174, 160, 0, 35, 42, 43, 42, 180, 0, 59, 21, 4, 46, 28, 182, 0, 222, 42, 180, 0, 62]
abbrev dktX0_canBe_1 : List UInt8 := dkwX0_canBe_1 ++ dktX0_canBe_2
def dkwX0_canBe_0 : List UInt8 := [4, 62, 3, 54, 4, 21, 4, 42, 180, 0, 133, 162, 0, 63, 29, 42, 180, 0, 56, 21, 4, 46, 43]
abbrev dktX0_canBe_0 : List UInt8 := dkwX0_canBe_0 ++ dktX0_canBe_1
theorem dksX0_canBe_0 : cX0_canBe.data.toList.drop 0 = dktX0_canBe_0 := by decide +kernel
theorem dksX0_canBe_1 : cX0_canBe.data.toList.drop 23 = dktX0_canBe_1 := dk_seg dksX0_canBe_0 23 rfl rfl
theorem dksX0_canBe_2 : cX0_canBe.data.toList.drop 46 = dktX0_canBe_2 := dk_seg dksX0_canBe_1 23 rfl rfl
theorem dksX0_canBe_3 : cX0_canBe.data.toList.drop 68 = dktX0_canBe_3 := dk_seg dksX0_canBe_2 22 rfl rfl
theorem dX0_canBe_0 : decode cX0_canBe 0 = .ok (.iconst 1, 1) := dk_4 (dk_at dksX0_canBe_0 0 rfl rfl)
theorem dX0_canBe_1 : decode cX0_canBe 1 = .ok (.istore_n 3, 1) := dk_62 (dk_at dksX0_canBe_0 1 rfl rfl)
theorem dX0_canBe_2 : decode cX0_canBe 2 = .ok (.iconst 0, 1) := dk_3 (dk_at dksX0_canBe_0 2 rfl rfl)
theorem dX0_canBe_3 : decode cX0_canBe 3 = .ok (.istore 4, 2) := dk_54 4 (dk_at dksX0_canBe_0 3 rfl rfl)
theorem dX0_canBe_5 : decode cX0_canBe 5 = .ok (.iload 4, 2) := dk_21 4 (dk_at dksX0_canBe_0 5 rfl rfl)
theorem dX0_canBe_7 : decode cX0_canBe 7 = .ok (.aload_n 0, 1) := dk_42 (dk_at dksX0_canBe_0 7 rfl rfl)
theorem dX0_canBe_8 : decode cX0_canBe 8 = .ok (.getfield 133, 3) := dk_180 0 133 (dk_at dksX0_canBe_0 8 rfl rfl)
theorem dX0_canBe_11 : decode cX0_canBe 11 = .ok (.if_icmp .ge 63, 3) := dk_162 0 63 (dk_at dksX0_canBe_0 11 rfl rfl)
theorem dX0_canBe_14 : decode cX0_canBe 14 = .ok (.iload_n 3, 1) := dk_29 (dk_at dksX0_canBe_0 14 rfl rfl)
theorem dX0_canBe_15 : decode cX0_canBe 15 = .ok (.aload_n 0, 1) := dk_42 (dk_at dksX0_canBe_0 15 rfl rfl)
theorem dX0_canBe_16 : decode cX0_canBe 16 = .ok (.getfield 56, 3) := dk_180 0 56 (dk_at dksX0_canBe_0 16 rfl rfl)
theorem dX0_canBe_19 : decode cX0_canBe 19 = .ok (.iload 4, 2) := dk_21 4 (dk_at dksX0_canBe_0 19 rfl rfl)
theorem dX0_canBe_21 : decode cX0_canBe 21 = .ok (.iaload, 1) := dk_46 (dk_at dksX0_canBe_0 21 rfl rfl)
theorem dX0_canBe_22 : decode cX0_canBe 22 = .ok (.aload_n 1, 1) := dk_43 (dk_at dksX0_canBe_0 22 rfl rfl)
theorem dX0_canBe_23 : decode cX0_canBe 23 = .ok (.getfield 174, 3) := dk_180 0 174 (dk_at dksX0_canBe_1 0 rfl rfl)
theorem dX0_canBe_26 : decode cX0_canBe 26 = .ok (.if_icmp .ne 35, 3) := dk_160 0 35 (dk_at dksX0_canBe_1 3 rfl rfl)
theorem dX0_canBe_29 : decode cX0_canBe 29 = .ok (.aload_n 0, 1) := dk_42 (dk_at dksX0_canBe_1 6 rfl rfl)
theorem dX0_canBe_30 : decode cX0_canBe 30 = .ok (.aload_n 1, 1) := dk_43 (dk_at dksX0_canBe_1 7 rfl rfl)
theorem dX0_canBe_31 : decode cX0_canBe 31 = .ok (.aload_n 0, 1) := dk_42 (dk_at dksX0_canBe_1 8 rfl rfl)
theorem dX0_canBe_32 : decode cX0_canBe 32 = .ok (.getfield 59, 3) := dk_180 0 59 (dk_at dksX0_canBe_1 9 rfl rfl)
theorem dX0_canBe_35 : decode cX0_canBe 35 = .ok (.iload 4, 2) := dk_21 4 (dk_at dksX0_canBe_1 12 rfl rfl)
theorem dX0_canBe_37 : decode cX0_canBe 37 = .ok (.iaload, 1) := dk_46 (dk_at dksX0_canBe_1 14 rfl rfl)
theorem dX0_canBe_38 : decode cX0_canBe 38 = .ok (.iload_n 2, 1) := dk_28 (dk_at dksX0_canBe_1 15 rfl rfl)
theorem dX0_canBe_39 : decode cX0_canBe 39 = .ok (.invokevirtual 222, 3) := dk_182 0 222 (dk_at dksX0_canBe_1 16 rfl rfl)
theorem dX0_canBe_42 : decode cX0_canBe 42 = .ok (.aload_n 0, 1) := dk_42 (dk_at dksX0_canBe_1 19 rfl rfl)
theorem dX0_canBe_43 : decode cX0_canBe 43 = .ok (.getfield 62, 3) := dk_180 0 62 (dk_at dksX0_canBe_1 20 rfl rfl)
theorem dX0_canBe_46 : decode cX0_canBe 46 = .ok (.iload 4, 2) := dk_21 4 (dk_at dksX0_canBe_2 0 rfl rfl)
theorem dX0_canBe_48 : decode cX0_canBe 48 = .ok (.baload, 1) := dk_51 (dk_at dksX0_canBe_2 2 rfl rfl)
theorem dX0_canBe_49 : decode cX0_canBe 49 = .ok (.ifCond .eq 7, 3) := dk_153 0 7 (dk_at dksX0_canBe_2 3 rfl rfl)
theorem dX0_canBe_52 : decode cX0_canBe 52 = .ok (.iconst 0, 1) := dk_3 (dk_at dksX0_canBe_2 6 rfl rfl)
theorem dX0_canBe_53 : decode cX0_canBe 53 = .ok (.goto 5, 3) := dk_167 0 5 (dk_at dksX0_canBe_2 7 rfl rfl)
theorem dX0_canBe_56 : decode cX0_canBe 56 = .ok (.bipush 10, 2) := dk_16 10 (dk_at dksX0_canBe_2 10 rfl rfl)
theorem dX0_canBe_58 : decode cX0_canBe 58 = .ok (.if_icmp .eq 7, 3) := dk_159 0 7 (dk_at dksX0_canBe_2 12 rfl rfl)
theorem dX0_canBe_61 : decode cX0_canBe 61 = .ok (.iconst 1, 1) := dk_4 (dk_at dksX0_canBe_2 15 rfl rfl)
theorem dX0_canBe_62 : decode cX0_canBe 62 = .ok (.goto 4, 3) := dk_167 0 4 (dk_at dksX0_canBe_2 16 rfl rfl)
theorem dX0_canBe_65 : decode cX0_canBe 65 = .ok (.iconst 0, 1) := dk_3 (dk_at dksX0_canBe_2 19 rfl rfl)
theorem dX0_canBe_66 : decode cX0_canBe 66 = .ok (.iand, 1) := dk_126 (dk_at dksX0_canBe_2 20 rfl rfl)
theorem dX0_canBe_67 : decode cX0_canBe 67 = .ok (.istore_n 3, 1) := dk_62 (dk_at dksX0_canBe_2 21 rfl rfl)
theorem dX0_canBe_68 : decode cX0_canBe 68 = .ok (.iinc 4 1, 3) := dk_132 4 1 (dk_at dksX0_canBe_3 0 rfl rfl)
theorem dX0_canBe_71 : decode cX0_canBe 71 = .ok (.goto (-66), 3) := dk_167 255 190 (dk_at dksX0_canBe_3 3 rfl rfl)
theorem dX0_canBe_74 : decode cX0_canBe 74 = .ok (.iload_n 3, 1) := dk_29 (dk_at dksX0_canBe_3 6 rfl rfl)
theorem dX0_canBe_75 : decode cX0_canBe 75 = .ok (.ireturn, 1) := dk_172 (dk_at dksX0_canBe_3 7 rfl rfl)
abbrev cX0_schools : ByteArray := prog_1_method_56_code
def yX0_schools : MethodName := ⟨RX0, "schools", "(III)I"⟩
def dkwX0_schools_2 : List UInt8 := [167, 0, 5, 16, 153, 172]
abbrev dktX0_schools_2 : List UInt8 := dkwX0_schools_2 ++ []
def dkwX0_schools_1 : List UInt8 := [184, 0, 98, 154, 0, 6, 16, 154, 172, 42, 180, 0, 130, 158, 0, 13, 42, 27, 28, 29, 182, 1, 79]
abbrev dktX0_schools_1 : List UInt8 := dkwX0_schools_1 ++ dktX0_schools_2
def dkwX0_schools_0 : List UInt8 := [27, 133, 10, 20, 1, 77, 184, 0, 98, 153, 0, 19, 28, 155, 0, 15, 29, 133, 9, 20, 0, 139]
abbrev dktX0_schools_0 : List UInt8 := dkwX0_schools_0 ++ dktX0_schools_1
theorem dksX0_schools_0 : cX0_schools.data.toList.drop 0 = dktX0_schools_0 := by decide +kernel
theorem dksX0_schools_1 : cX0_schools.data.toList.drop 22 = dktX0_schools_1 := dk_seg dksX0_schools_0 22 rfl rfl
theorem dksX0_schools_2 : cX0_schools.data.toList.drop 45 = dktX0_schools_2 := dk_seg dksX0_schools_1 23 rfl rfl
theorem dX0_schools_0 : decode cX0_schools 0 = .ok (.iload_n 1, 1) := dk_27 (dk_at dksX0_schools_0 0 rfl rfl)
theorem dX0_schools_1 : decode cX0_schools 1 = .ok (.i2l, 1) := dk_133 (dk_at dksX0_schools_0 1 rfl rfl)
theorem dX0_schools_2 : decode cX0_schools 2 = .ok (.lconst 1, 1) := dk_10 (dk_at dksX0_schools_0 2 rfl rfl)
theorem dX0_schools_3 : decode cX0_schools 3 = .ok (.ldc2_w 333, 3) := dk_20 1 77 (dk_at dksX0_schools_0 3 rfl rfl)
theorem dX0_schools_6 : decode cX0_schools 6 = .ok (.invokestatic 98, 3) := dk_184 0 98 (dk_at dksX0_schools_0 6 rfl rfl)
theorem dX0_schools_9 : decode cX0_schools 9 = .ok (.ifCond .eq 19, 3) := dk_153 0 19 (dk_at dksX0_schools_0 9 rfl rfl)
theorem dX0_schools_12 : decode cX0_schools 12 = .ok (.iload_n 2, 1) := dk_28 (dk_at dksX0_schools_0 12 rfl rfl)
theorem dX0_schools_13 : decode cX0_schools 13 = .ok (.ifCond .lt 15, 3) := dk_155 0 15 (dk_at dksX0_schools_0 13 rfl rfl)
theorem dX0_schools_16 : decode cX0_schools 16 = .ok (.iload_n 3, 1) := dk_29 (dk_at dksX0_schools_0 16 rfl rfl)
theorem dX0_schools_17 : decode cX0_schools 17 = .ok (.i2l, 1) := dk_133 (dk_at dksX0_schools_0 17 rfl rfl)
theorem dX0_schools_18 : decode cX0_schools 18 = .ok (.lconst 0, 1) := dk_9 (dk_at dksX0_schools_0 18 rfl rfl)
theorem dX0_schools_19 : decode cX0_schools 19 = .ok (.ldc2_w 139, 3) := dk_20 0 139 (dk_at dksX0_schools_0 19 rfl rfl)
theorem dX0_schools_22 : decode cX0_schools 22 = .ok (.invokestatic 98, 3) := dk_184 0 98 (dk_at dksX0_schools_1 0 rfl rfl)
theorem dX0_schools_25 : decode cX0_schools 25 = .ok (.ifCond .ne 6, 3) := dk_154 0 6 (dk_at dksX0_schools_1 3 rfl rfl)
theorem dX0_schools_28 : decode cX0_schools 28 = .ok (.bipush (-102), 2) := dk_16 154 (dk_at dksX0_schools_1 6 rfl rfl)
theorem dX0_schools_30 : decode cX0_schools 30 = .ok (.ireturn, 1) := dk_172 (dk_at dksX0_schools_1 8 rfl rfl)
theorem dX0_schools_31 : decode cX0_schools 31 = .ok (.aload_n 0, 1) := dk_42 (dk_at dksX0_schools_1 9 rfl rfl)
theorem dX0_schools_32 : decode cX0_schools 32 = .ok (.getfield 130, 3) := dk_180 0 130 (dk_at dksX0_schools_1 10 rfl rfl)
theorem dX0_schools_35 : decode cX0_schools 35 = .ok (.ifCond .le 13, 3) := dk_158 0 13 (dk_at dksX0_schools_1 13 rfl rfl)
theorem dX0_schools_38 : decode cX0_schools 38 = .ok (.aload_n 0, 1) := dk_42 (dk_at dksX0_schools_1 16 rfl rfl)
theorem dX0_schools_39 : decode cX0_schools 39 = .ok (.iload_n 1, 1) := dk_27 (dk_at dksX0_schools_1 17 rfl rfl)
theorem dX0_schools_40 : decode cX0_schools 40 = .ok (.iload_n 2, 1) := dk_28 (dk_at dksX0_schools_1 18 rfl rfl)
theorem dX0_schools_41 : decode cX0_schools 41 = .ok (.iload_n 3, 1) := dk_29 (dk_at dksX0_schools_1 19 rfl rfl)
theorem dX0_schools_42 : decode cX0_schools 42 = .ok (.invokevirtual 335, 3) := dk_182 1 79 (dk_at dksX0_schools_1 20 rfl rfl)
theorem dX0_schools_45 : decode cX0_schools 45 = .ok (.goto 5, 3) := dk_167 0 5 (dk_at dksX0_schools_2 0 rfl rfl)
theorem dX0_schools_48 : decode cX0_schools 48 = .ok (.bipush (-103), 2) := dk_16 153 (dk_at dksX0_schools_2 3 rfl rfl)
theorem dX0_schools_50 : decode cX0_schools 50 = .ok (.ireturn, 1) := dk_172 (dk_at dksX0_schools_2 5 rfl rfl)
abbrev cX0_schoolsBy : ByteArray := prog_1_method_55_code
def yX0_schoolsBy : MethodName := ⟨RX0, "schoolsBy", "(III)I"⟩
def dkwX0_schoolsBy_9 : List UInt8 := [21, 6, 167, 0, 7, 42, 180, 1, 56, 172]
abbrev dktX0_schoolsBy_9 : List UInt8 := dkwX0_schoolsBy_9 ++ []
def dkwX0_schoolsBy_8 : List UInt8 := [181, 0, 141, 132, 7, 1, 167, 255, 227, 29, 154, 0, 8, 21, 5, 167, 0, 17, 29, 4, 160, 0, 8]
abbrev dktX0_schoolsBy_8 : List UInt8 := dkwX0_schoolsBy_8 ++ dktX0_schoolsBy_9
def dkwX0_schoolsBy_7 : List UInt8 := [21, 7, 42, 180, 0, 130, 162, 0, 26, 42, 180, 0, 34, 21, 7, 50, 42, 180, 0, 72, 21, 7, 46]
abbrev dktX0_schoolsBy_7 : List UInt8 := dkwX0_schoolsBy_7 ++ dktX0_schoolsBy_8
def dkwX0_schoolsBy_6 : List UInt8 := [180, 0, 38, 190, 184, 0, 249, 42, 180, 0, 69, 3, 42, 180, 0, 31, 3, 6, 184, 0, 249, 3, 54, 7]
abbrev dktX0_schoolsBy_6 : List UInt8 := dkwX0_schoolsBy_6 ++ dktX0_schoolsBy_7
def dkwX0_schoolsBy_5 : List UInt8 := [21, 4, 100, 54, 5, 42, 182, 1, 74, 54, 6, 42, 180, 0, 66, 3, 42, 180, 0, 38, 3, 42]
abbrev dktX0_schoolsBy_5 : List UInt8 := dkwX0_schoolsBy_5 ++ dktX0_schoolsBy_6
def dkwX0_schoolsBy_4 : List UInt8 := [180, 0, 34, 21, 5, 42, 180, 0, 130, 112, 50, 182, 1, 70, 132, 5, 1, 167, 255, 226, 42, 182, 1, 67]
abbrev dktX0_schoolsBy_4 : List UInt8 := dkwX0_schoolsBy_4 ++ dktX0_schoolsBy_5
def dkwX0_schoolsBy_3 : List UInt8 := [54, 4, 42, 28, 181, 1, 56, 3, 54, 5, 21, 5, 27, 42, 180, 0, 130, 104, 162, 0, 25, 42, 42]
abbrev dktX0_schoolsBy_3 : List UInt8 := dkwX0_schoolsBy_3 ++ dktX0_schoolsBy_4
def dkwX0_schoolsBy_2 : List UInt8 := [21, 4, 42, 180, 0, 34, 21, 4, 50, 180, 0, 141, 79, 132, 4, 1, 167, 255, 227, 42, 182, 1, 67]
abbrev dktX0_schoolsBy_2 : List UInt8 := dkwX0_schoolsBy_2 ++ dktX0_schoolsBy_3
def dkwX0_schoolsBy_1 : List UInt8 := [180, 0, 69, 3, 6, 184, 0, 249, 3, 54, 4, 21, 4, 42, 180, 0, 130, 162, 0, 26, 42, 180, 0, 72]
abbrev dktX0_schoolsBy_1 : List UInt8 := dkwX0_schoolsBy_1 ++ dktX0_schoolsBy_2
def dkwX0_schoolsBy_0 : List UInt8 := [42, 180, 0, 38, 3, 42, 180, 0, 66, 3, 42, 180, 0, 38, 190, 184, 0, 249, 42, 180, 0, 31, 3, 42]
abbrev dktX0_schoolsBy_0 : List UInt8 := dkwX0_schoolsBy_0 ++ dktX0_schoolsBy_1
theorem dksX0_schoolsBy_0 : cX0_schoolsBy.data.toList.drop 0 = dktX0_schoolsBy_0 := by decide +kernel
theorem dksX0_schoolsBy_1 : cX0_schoolsBy.data.toList.drop 24 = dktX0_schoolsBy_1 := dk_seg dksX0_schoolsBy_0 24 rfl rfl
theorem dksX0_schoolsBy_2 : cX0_schoolsBy.data.toList.drop 48 = dktX0_schoolsBy_2 := dk_seg dksX0_schoolsBy_1 24 rfl rfl
theorem dksX0_schoolsBy_3 : cX0_schoolsBy.data.toList.drop 71 = dktX0_schoolsBy_3 := dk_seg dksX0_schoolsBy_2 23 rfl rfl
theorem dksX0_schoolsBy_4 : cX0_schoolsBy.data.toList.drop 94 = dktX0_schoolsBy_4 := dk_seg dksX0_schoolsBy_3 23 rfl rfl
theorem dksX0_schoolsBy_5 : cX0_schoolsBy.data.toList.drop 118 = dktX0_schoolsBy_5 := dk_seg dksX0_schoolsBy_4 24 rfl rfl
theorem dksX0_schoolsBy_6 : cX0_schoolsBy.data.toList.drop 140 = dktX0_schoolsBy_6 := dk_seg dksX0_schoolsBy_5 22 rfl rfl
theorem dksX0_schoolsBy_7 : cX0_schoolsBy.data.toList.drop 164 = dktX0_schoolsBy_7 := dk_seg dksX0_schoolsBy_6 24 rfl rfl
theorem dksX0_schoolsBy_8 : cX0_schoolsBy.data.toList.drop 187 = dktX0_schoolsBy_8 := dk_seg dksX0_schoolsBy_7 23 rfl rfl
theorem dksX0_schoolsBy_9 : cX0_schoolsBy.data.toList.drop 210 = dktX0_schoolsBy_9 := dk_seg dksX0_schoolsBy_8 23 rfl rfl
theorem dX0_schoolsBy_0 : decode cX0_schoolsBy 0 = .ok (.aload_n 0, 1) := dk_42 (dk_at dksX0_schoolsBy_0 0 rfl rfl)
theorem dX0_schoolsBy_1 : decode cX0_schoolsBy 1 = .ok (.getfield 38, 3) := dk_180 0 38 (dk_at dksX0_schoolsBy_0 1 rfl rfl)
theorem dX0_schoolsBy_4 : decode cX0_schoolsBy 4 = .ok (.iconst 0, 1) := dk_3 (dk_at dksX0_schoolsBy_0 4 rfl rfl)
theorem dX0_schoolsBy_5 : decode cX0_schoolsBy 5 = .ok (.aload_n 0, 1) := dk_42 (dk_at dksX0_schoolsBy_0 5 rfl rfl)
theorem dX0_schoolsBy_6 : decode cX0_schoolsBy 6 = .ok (.getfield 66, 3) := dk_180 0 66 (dk_at dksX0_schoolsBy_0 6 rfl rfl)
theorem dX0_schoolsBy_9 : decode cX0_schoolsBy 9 = .ok (.iconst 0, 1) := dk_3 (dk_at dksX0_schoolsBy_0 9 rfl rfl)
theorem dX0_schoolsBy_10 : decode cX0_schoolsBy 10 = .ok (.aload_n 0, 1) := dk_42 (dk_at dksX0_schoolsBy_0 10 rfl rfl)
theorem dX0_schoolsBy_11 : decode cX0_schoolsBy 11 = .ok (.getfield 38, 3) := dk_180 0 38 (dk_at dksX0_schoolsBy_0 11 rfl rfl)
theorem dX0_schoolsBy_14 : decode cX0_schoolsBy 14 = .ok (.arraylength, 1) := dk_190 (dk_at dksX0_schoolsBy_0 14 rfl rfl)
theorem dX0_schoolsBy_15 : decode cX0_schoolsBy 15 = .ok (.invokestatic 249, 3) := dk_184 0 249 (dk_at dksX0_schoolsBy_0 15 rfl rfl)
theorem dX0_schoolsBy_18 : decode cX0_schoolsBy 18 = .ok (.aload_n 0, 1) := dk_42 (dk_at dksX0_schoolsBy_0 18 rfl rfl)
theorem dX0_schoolsBy_19 : decode cX0_schoolsBy 19 = .ok (.getfield 31, 3) := dk_180 0 31 (dk_at dksX0_schoolsBy_0 19 rfl rfl)
theorem dX0_schoolsBy_22 : decode cX0_schoolsBy 22 = .ok (.iconst 0, 1) := dk_3 (dk_at dksX0_schoolsBy_0 22 rfl rfl)
theorem dX0_schoolsBy_23 : decode cX0_schoolsBy 23 = .ok (.aload_n 0, 1) := dk_42 (dk_at dksX0_schoolsBy_0 23 rfl rfl)
theorem dX0_schoolsBy_24 : decode cX0_schoolsBy 24 = .ok (.getfield 69, 3) := dk_180 0 69 (dk_at dksX0_schoolsBy_1 0 rfl rfl)
theorem dX0_schoolsBy_27 : decode cX0_schoolsBy 27 = .ok (.iconst 0, 1) := dk_3 (dk_at dksX0_schoolsBy_1 3 rfl rfl)
theorem dX0_schoolsBy_28 : decode cX0_schoolsBy 28 = .ok (.iconst 3, 1) := dk_6 (dk_at dksX0_schoolsBy_1 4 rfl rfl)
theorem dX0_schoolsBy_29 : decode cX0_schoolsBy 29 = .ok (.invokestatic 249, 3) := dk_184 0 249 (dk_at dksX0_schoolsBy_1 5 rfl rfl)
theorem dX0_schoolsBy_32 : decode cX0_schoolsBy 32 = .ok (.iconst 0, 1) := dk_3 (dk_at dksX0_schoolsBy_1 8 rfl rfl)
theorem dX0_schoolsBy_33 : decode cX0_schoolsBy 33 = .ok (.istore 4, 2) := dk_54 4 (dk_at dksX0_schoolsBy_1 9 rfl rfl)
theorem dX0_schoolsBy_35 : decode cX0_schoolsBy 35 = .ok (.iload 4, 2) := dk_21 4 (dk_at dksX0_schoolsBy_1 11 rfl rfl)
theorem dX0_schoolsBy_37 : decode cX0_schoolsBy 37 = .ok (.aload_n 0, 1) := dk_42 (dk_at dksX0_schoolsBy_1 13 rfl rfl)
theorem dX0_schoolsBy_38 : decode cX0_schoolsBy 38 = .ok (.getfield 130, 3) := dk_180 0 130 (dk_at dksX0_schoolsBy_1 14 rfl rfl)
theorem dX0_schoolsBy_41 : decode cX0_schoolsBy 41 = .ok (.if_icmp .ge 26, 3) := dk_162 0 26 (dk_at dksX0_schoolsBy_1 17 rfl rfl)
theorem dX0_schoolsBy_44 : decode cX0_schoolsBy 44 = .ok (.aload_n 0, 1) := dk_42 (dk_at dksX0_schoolsBy_1 20 rfl rfl)
theorem dX0_schoolsBy_45 : decode cX0_schoolsBy 45 = .ok (.getfield 72, 3) := dk_180 0 72 (dk_at dksX0_schoolsBy_1 21 rfl rfl)
theorem dX0_schoolsBy_48 : decode cX0_schoolsBy 48 = .ok (.iload 4, 2) := dk_21 4 (dk_at dksX0_schoolsBy_2 0 rfl rfl)
theorem dX0_schoolsBy_50 : decode cX0_schoolsBy 50 = .ok (.aload_n 0, 1) := dk_42 (dk_at dksX0_schoolsBy_2 2 rfl rfl)
theorem dX0_schoolsBy_51 : decode cX0_schoolsBy 51 = .ok (.getfield 34, 3) := dk_180 0 34 (dk_at dksX0_schoolsBy_2 3 rfl rfl)
theorem dX0_schoolsBy_54 : decode cX0_schoolsBy 54 = .ok (.iload 4, 2) := dk_21 4 (dk_at dksX0_schoolsBy_2 6 rfl rfl)
theorem dX0_schoolsBy_56 : decode cX0_schoolsBy 56 = .ok (.aaload, 1) := dk_50 (dk_at dksX0_schoolsBy_2 8 rfl rfl)
theorem dX0_schoolsBy_57 : decode cX0_schoolsBy 57 = .ok (.getfield 141, 3) := dk_180 0 141 (dk_at dksX0_schoolsBy_2 9 rfl rfl)
theorem dX0_schoolsBy_60 : decode cX0_schoolsBy 60 = .ok (.iastore, 1) := dk_79 (dk_at dksX0_schoolsBy_2 12 rfl rfl)
theorem dX0_schoolsBy_61 : decode cX0_schoolsBy 61 = .ok (.iinc 4 1, 3) := dk_132 4 1 (dk_at dksX0_schoolsBy_2 13 rfl rfl)
theorem dX0_schoolsBy_64 : decode cX0_schoolsBy 64 = .ok (.goto (-29), 3) := dk_167 255 227 (dk_at dksX0_schoolsBy_2 16 rfl rfl)
theorem dX0_schoolsBy_67 : decode cX0_schoolsBy 67 = .ok (.aload_n 0, 1) := dk_42 (dk_at dksX0_schoolsBy_2 19 rfl rfl)
theorem dX0_schoolsBy_68 : decode cX0_schoolsBy 68 = .ok (.invokevirtual 323, 3) := dk_182 1 67 (dk_at dksX0_schoolsBy_2 20 rfl rfl)
theorem dX0_schoolsBy_71 : decode cX0_schoolsBy 71 = .ok (.istore 4, 2) := dk_54 4 (dk_at dksX0_schoolsBy_3 0 rfl rfl)
theorem dX0_schoolsBy_73 : decode cX0_schoolsBy 73 = .ok (.aload_n 0, 1) := dk_42 (dk_at dksX0_schoolsBy_3 2 rfl rfl)
theorem dX0_schoolsBy_74 : decode cX0_schoolsBy 74 = .ok (.iload_n 2, 1) := dk_28 (dk_at dksX0_schoolsBy_3 3 rfl rfl)
theorem dX0_schoolsBy_75 : decode cX0_schoolsBy 75 = .ok (.putfield 312, 3) := dk_181 1 56 (dk_at dksX0_schoolsBy_3 4 rfl rfl)
theorem dX0_schoolsBy_78 : decode cX0_schoolsBy 78 = .ok (.iconst 0, 1) := dk_3 (dk_at dksX0_schoolsBy_3 7 rfl rfl)
theorem dX0_schoolsBy_79 : decode cX0_schoolsBy 79 = .ok (.istore 5, 2) := dk_54 5 (dk_at dksX0_schoolsBy_3 8 rfl rfl)
theorem dX0_schoolsBy_81 : decode cX0_schoolsBy 81 = .ok (.iload 5, 2) := dk_21 5 (dk_at dksX0_schoolsBy_3 10 rfl rfl)
theorem dX0_schoolsBy_83 : decode cX0_schoolsBy 83 = .ok (.iload_n 1, 1) := dk_27 (dk_at dksX0_schoolsBy_3 12 rfl rfl)
theorem dX0_schoolsBy_84 : decode cX0_schoolsBy 84 = .ok (.aload_n 0, 1) := dk_42 (dk_at dksX0_schoolsBy_3 13 rfl rfl)
theorem dX0_schoolsBy_85 : decode cX0_schoolsBy 85 = .ok (.getfield 130, 3) := dk_180 0 130 (dk_at dksX0_schoolsBy_3 14 rfl rfl)
theorem dX0_schoolsBy_88 : decode cX0_schoolsBy 88 = .ok (.imul, 1) := dk_104 (dk_at dksX0_schoolsBy_3 17 rfl rfl)
theorem dX0_schoolsBy_89 : decode cX0_schoolsBy 89 = .ok (.if_icmp .ge 25, 3) := dk_162 0 25 (dk_at dksX0_schoolsBy_3 18 rfl rfl)
theorem dX0_schoolsBy_92 : decode cX0_schoolsBy 92 = .ok (.aload_n 0, 1) := dk_42 (dk_at dksX0_schoolsBy_3 21 rfl rfl)
theorem dX0_schoolsBy_93 : decode cX0_schoolsBy 93 = .ok (.aload_n 0, 1) := dk_42 (dk_at dksX0_schoolsBy_3 22 rfl rfl)
theorem dX0_schoolsBy_94 : decode cX0_schoolsBy 94 = .ok (.getfield 34, 3) := dk_180 0 34 (dk_at dksX0_schoolsBy_4 0 rfl rfl)
theorem dX0_schoolsBy_97 : decode cX0_schoolsBy 97 = .ok (.iload 5, 2) := dk_21 5 (dk_at dksX0_schoolsBy_4 3 rfl rfl)
theorem dX0_schoolsBy_99 : decode cX0_schoolsBy 99 = .ok (.aload_n 0, 1) := dk_42 (dk_at dksX0_schoolsBy_4 5 rfl rfl)
theorem dX0_schoolsBy_100 : decode cX0_schoolsBy 100 = .ok (.getfield 130, 3) := dk_180 0 130 (dk_at dksX0_schoolsBy_4 6 rfl rfl)
theorem dX0_schoolsBy_103 : decode cX0_schoolsBy 103 = .ok (.irem, 1) := dk_112 (dk_at dksX0_schoolsBy_4 9 rfl rfl)
theorem dX0_schoolsBy_104 : decode cX0_schoolsBy 104 = .ok (.aaload, 1) := dk_50 (dk_at dksX0_schoolsBy_4 10 rfl rfl)
theorem dX0_schoolsBy_105 : decode cX0_schoolsBy 105 = .ok (.invokevirtual 326, 3) := dk_182 1 70 (dk_at dksX0_schoolsBy_4 11 rfl rfl)
theorem dX0_schoolsBy_108 : decode cX0_schoolsBy 108 = .ok (.iinc 5 1, 3) := dk_132 5 1 (dk_at dksX0_schoolsBy_4 14 rfl rfl)
theorem dX0_schoolsBy_111 : decode cX0_schoolsBy 111 = .ok (.goto (-30), 3) := dk_167 255 226 (dk_at dksX0_schoolsBy_4 17 rfl rfl)
theorem dX0_schoolsBy_114 : decode cX0_schoolsBy 114 = .ok (.aload_n 0, 1) := dk_42 (dk_at dksX0_schoolsBy_4 20 rfl rfl)
theorem dX0_schoolsBy_115 : decode cX0_schoolsBy 115 = .ok (.invokevirtual 323, 3) := dk_182 1 67 (dk_at dksX0_schoolsBy_4 21 rfl rfl)
theorem dX0_schoolsBy_118 : decode cX0_schoolsBy 118 = .ok (.iload 4, 2) := dk_21 4 (dk_at dksX0_schoolsBy_5 0 rfl rfl)
theorem dX0_schoolsBy_120 : decode cX0_schoolsBy 120 = .ok (.isub, 1) := dk_100 (dk_at dksX0_schoolsBy_5 2 rfl rfl)
theorem dX0_schoolsBy_121 : decode cX0_schoolsBy 121 = .ok (.istore 5, 2) := dk_54 5 (dk_at dksX0_schoolsBy_5 3 rfl rfl)
theorem dX0_schoolsBy_123 : decode cX0_schoolsBy 123 = .ok (.aload_n 0, 1) := dk_42 (dk_at dksX0_schoolsBy_5 5 rfl rfl)
theorem dX0_schoolsBy_124 : decode cX0_schoolsBy 124 = .ok (.invokevirtual 330, 3) := dk_182 1 74 (dk_at dksX0_schoolsBy_5 6 rfl rfl)
theorem dX0_schoolsBy_127 : decode cX0_schoolsBy 127 = .ok (.istore 6, 2) := dk_54 6 (dk_at dksX0_schoolsBy_5 9 rfl rfl)
theorem dX0_schoolsBy_129 : decode cX0_schoolsBy 129 = .ok (.aload_n 0, 1) := dk_42 (dk_at dksX0_schoolsBy_5 11 rfl rfl)
theorem dX0_schoolsBy_130 : decode cX0_schoolsBy 130 = .ok (.getfield 66, 3) := dk_180 0 66 (dk_at dksX0_schoolsBy_5 12 rfl rfl)
theorem dX0_schoolsBy_133 : decode cX0_schoolsBy 133 = .ok (.iconst 0, 1) := dk_3 (dk_at dksX0_schoolsBy_5 15 rfl rfl)
theorem dX0_schoolsBy_134 : decode cX0_schoolsBy 134 = .ok (.aload_n 0, 1) := dk_42 (dk_at dksX0_schoolsBy_5 16 rfl rfl)
theorem dX0_schoolsBy_135 : decode cX0_schoolsBy 135 = .ok (.getfield 38, 3) := dk_180 0 38 (dk_at dksX0_schoolsBy_5 17 rfl rfl)
theorem dX0_schoolsBy_138 : decode cX0_schoolsBy 138 = .ok (.iconst 0, 1) := dk_3 (dk_at dksX0_schoolsBy_5 20 rfl rfl)
theorem dX0_schoolsBy_139 : decode cX0_schoolsBy 139 = .ok (.aload_n 0, 1) := dk_42 (dk_at dksX0_schoolsBy_5 21 rfl rfl)
theorem dX0_schoolsBy_140 : decode cX0_schoolsBy 140 = .ok (.getfield 38, 3) := dk_180 0 38 (dk_at dksX0_schoolsBy_6 0 rfl rfl)
theorem dX0_schoolsBy_143 : decode cX0_schoolsBy 143 = .ok (.arraylength, 1) := dk_190 (dk_at dksX0_schoolsBy_6 3 rfl rfl)
theorem dX0_schoolsBy_144 : decode cX0_schoolsBy 144 = .ok (.invokestatic 249, 3) := dk_184 0 249 (dk_at dksX0_schoolsBy_6 4 rfl rfl)
theorem dX0_schoolsBy_147 : decode cX0_schoolsBy 147 = .ok (.aload_n 0, 1) := dk_42 (dk_at dksX0_schoolsBy_6 7 rfl rfl)
theorem dX0_schoolsBy_148 : decode cX0_schoolsBy 148 = .ok (.getfield 69, 3) := dk_180 0 69 (dk_at dksX0_schoolsBy_6 8 rfl rfl)
theorem dX0_schoolsBy_151 : decode cX0_schoolsBy 151 = .ok (.iconst 0, 1) := dk_3 (dk_at dksX0_schoolsBy_6 11 rfl rfl)
theorem dX0_schoolsBy_152 : decode cX0_schoolsBy 152 = .ok (.aload_n 0, 1) := dk_42 (dk_at dksX0_schoolsBy_6 12 rfl rfl)
theorem dX0_schoolsBy_153 : decode cX0_schoolsBy 153 = .ok (.getfield 31, 3) := dk_180 0 31 (dk_at dksX0_schoolsBy_6 13 rfl rfl)
theorem dX0_schoolsBy_156 : decode cX0_schoolsBy 156 = .ok (.iconst 0, 1) := dk_3 (dk_at dksX0_schoolsBy_6 16 rfl rfl)
theorem dX0_schoolsBy_157 : decode cX0_schoolsBy 157 = .ok (.iconst 3, 1) := dk_6 (dk_at dksX0_schoolsBy_6 17 rfl rfl)
theorem dX0_schoolsBy_158 : decode cX0_schoolsBy 158 = .ok (.invokestatic 249, 3) := dk_184 0 249 (dk_at dksX0_schoolsBy_6 18 rfl rfl)
theorem dX0_schoolsBy_161 : decode cX0_schoolsBy 161 = .ok (.iconst 0, 1) := dk_3 (dk_at dksX0_schoolsBy_6 21 rfl rfl)
theorem dX0_schoolsBy_162 : decode cX0_schoolsBy 162 = .ok (.istore 7, 2) := dk_54 7 (dk_at dksX0_schoolsBy_6 22 rfl rfl)
theorem dX0_schoolsBy_164 : decode cX0_schoolsBy 164 = .ok (.iload 7, 2) := dk_21 7 (dk_at dksX0_schoolsBy_7 0 rfl rfl)
theorem dX0_schoolsBy_166 : decode cX0_schoolsBy 166 = .ok (.aload_n 0, 1) := dk_42 (dk_at dksX0_schoolsBy_7 2 rfl rfl)
theorem dX0_schoolsBy_167 : decode cX0_schoolsBy 167 = .ok (.getfield 130, 3) := dk_180 0 130 (dk_at dksX0_schoolsBy_7 3 rfl rfl)
theorem dX0_schoolsBy_170 : decode cX0_schoolsBy 170 = .ok (.if_icmp .ge 26, 3) := dk_162 0 26 (dk_at dksX0_schoolsBy_7 6 rfl rfl)
theorem dX0_schoolsBy_173 : decode cX0_schoolsBy 173 = .ok (.aload_n 0, 1) := dk_42 (dk_at dksX0_schoolsBy_7 9 rfl rfl)
theorem dX0_schoolsBy_174 : decode cX0_schoolsBy 174 = .ok (.getfield 34, 3) := dk_180 0 34 (dk_at dksX0_schoolsBy_7 10 rfl rfl)
theorem dX0_schoolsBy_177 : decode cX0_schoolsBy 177 = .ok (.iload 7, 2) := dk_21 7 (dk_at dksX0_schoolsBy_7 13 rfl rfl)
theorem dX0_schoolsBy_179 : decode cX0_schoolsBy 179 = .ok (.aaload, 1) := dk_50 (dk_at dksX0_schoolsBy_7 15 rfl rfl)
theorem dX0_schoolsBy_180 : decode cX0_schoolsBy 180 = .ok (.aload_n 0, 1) := dk_42 (dk_at dksX0_schoolsBy_7 16 rfl rfl)
theorem dX0_schoolsBy_181 : decode cX0_schoolsBy 181 = .ok (.getfield 72, 3) := dk_180 0 72 (dk_at dksX0_schoolsBy_7 17 rfl rfl)
theorem dX0_schoolsBy_184 : decode cX0_schoolsBy 184 = .ok (.iload 7, 2) := dk_21 7 (dk_at dksX0_schoolsBy_7 20 rfl rfl)
theorem dX0_schoolsBy_186 : decode cX0_schoolsBy 186 = .ok (.iaload, 1) := dk_46 (dk_at dksX0_schoolsBy_7 22 rfl rfl)
theorem dX0_schoolsBy_187 : decode cX0_schoolsBy 187 = .ok (.putfield 141, 3) := dk_181 0 141 (dk_at dksX0_schoolsBy_8 0 rfl rfl)
theorem dX0_schoolsBy_190 : decode cX0_schoolsBy 190 = .ok (.iinc 7 1, 3) := dk_132 7 1 (dk_at dksX0_schoolsBy_8 3 rfl rfl)
theorem dX0_schoolsBy_193 : decode cX0_schoolsBy 193 = .ok (.goto (-29), 3) := dk_167 255 227 (dk_at dksX0_schoolsBy_8 6 rfl rfl)
theorem dX0_schoolsBy_196 : decode cX0_schoolsBy 196 = .ok (.iload_n 3, 1) := dk_29 (dk_at dksX0_schoolsBy_8 9 rfl rfl)
theorem dX0_schoolsBy_197 : decode cX0_schoolsBy 197 = .ok (.ifCond .ne 8, 3) := dk_154 0 8 (dk_at dksX0_schoolsBy_8 10 rfl rfl)
theorem dX0_schoolsBy_200 : decode cX0_schoolsBy 200 = .ok (.iload 5, 2) := dk_21 5 (dk_at dksX0_schoolsBy_8 13 rfl rfl)
theorem dX0_schoolsBy_202 : decode cX0_schoolsBy 202 = .ok (.goto 17, 3) := dk_167 0 17 (dk_at dksX0_schoolsBy_8 15 rfl rfl)
theorem dX0_schoolsBy_205 : decode cX0_schoolsBy 205 = .ok (.iload_n 3, 1) := dk_29 (dk_at dksX0_schoolsBy_8 18 rfl rfl)
theorem dX0_schoolsBy_206 : decode cX0_schoolsBy 206 = .ok (.iconst 1, 1) := dk_4 (dk_at dksX0_schoolsBy_8 19 rfl rfl)
theorem dX0_schoolsBy_207 : decode cX0_schoolsBy 207 = .ok (.if_icmp .ne 8, 3) := dk_160 0 8 (dk_at dksX0_schoolsBy_8 20 rfl rfl)
theorem dX0_schoolsBy_210 : decode cX0_schoolsBy 210 = .ok (.iload 6, 2) := dk_21 6 (dk_at dksX0_schoolsBy_9 0 rfl rfl)
theorem dX0_schoolsBy_212 : decode cX0_schoolsBy 212 = .ok (.goto 7, 3) := dk_167 0 7 (dk_at dksX0_schoolsBy_9 2 rfl rfl)
theorem dX0_schoolsBy_215 : decode cX0_schoolsBy 215 = .ok (.aload_n 0, 1) := dk_42 (dk_at dksX0_schoolsBy_9 5 rfl rfl)
theorem dX0_schoolsBy_216 : decode cX0_schoolsBy 216 = .ok (.getfield 312, 3) := dk_180 1 56 (dk_at dksX0_schoolsBy_9 6 rfl rfl)
theorem dX0_schoolsBy_219 : decode cX0_schoolsBy 219 = .ok (.ireturn, 1) := dk_172 (dk_at dksX0_schoolsBy_9 9 rfl rfl)
abbrev cX0_stripesAll : ByteArray := prog_1_method_53_code
def yX0_stripesAll : MethodName := ⟨RX0, "stripesAll", "()I"⟩
def dkwX0_stripesAll_1 : List UInt8 := [27, 172]
abbrev dktX0_stripesAll_1 : List UInt8 := dkwX0_stripesAll_1 ++ []
def dkwX0_stripesAll_0 : List UInt8 := [3, 60, 3, 61, 28, 6, 162, 0, 18, 27, 42, 180, 0, 31, 28, 46, 96, 60, 132, 2, 1, 167, 255, 239]
abbrev dktX0_stripesAll_0 : List UInt8 := dkwX0_stripesAll_0 ++ dktX0_stripesAll_1
theorem dksX0_stripesAll_0 : cX0_stripesAll.data.toList.drop 0 = dktX0_stripesAll_0 := by decide +kernel
theorem dksX0_stripesAll_1 : cX0_stripesAll.data.toList.drop 24 = dktX0_stripesAll_1 := dk_seg dksX0_stripesAll_0 24 rfl rfl
theorem dX0_stripesAll_0 : decode cX0_stripesAll 0 = .ok (.iconst 0, 1) := dk_3 (dk_at dksX0_stripesAll_0 0 rfl rfl)
theorem dX0_stripesAll_1 : decode cX0_stripesAll 1 = .ok (.istore_n 1, 1) := dk_60 (dk_at dksX0_stripesAll_0 1 rfl rfl)
theorem dX0_stripesAll_2 : decode cX0_stripesAll 2 = .ok (.iconst 0, 1) := dk_3 (dk_at dksX0_stripesAll_0 2 rfl rfl)
theorem dX0_stripesAll_3 : decode cX0_stripesAll 3 = .ok (.istore_n 2, 1) := dk_61 (dk_at dksX0_stripesAll_0 3 rfl rfl)
theorem dX0_stripesAll_4 : decode cX0_stripesAll 4 = .ok (.iload_n 2, 1) := dk_28 (dk_at dksX0_stripesAll_0 4 rfl rfl)
theorem dX0_stripesAll_5 : decode cX0_stripesAll 5 = .ok (.iconst 3, 1) := dk_6 (dk_at dksX0_stripesAll_0 5 rfl rfl)
theorem dX0_stripesAll_6 : decode cX0_stripesAll 6 = .ok (.if_icmp .ge 18, 3) := dk_162 0 18 (dk_at dksX0_stripesAll_0 6 rfl rfl)
theorem dX0_stripesAll_9 : decode cX0_stripesAll 9 = .ok (.iload_n 1, 1) := dk_27 (dk_at dksX0_stripesAll_0 9 rfl rfl)
theorem dX0_stripesAll_10 : decode cX0_stripesAll 10 = .ok (.aload_n 0, 1) := dk_42 (dk_at dksX0_stripesAll_0 10 rfl rfl)
theorem dX0_stripesAll_11 : decode cX0_stripesAll 11 = .ok (.getfield 31, 3) := dk_180 0 31 (dk_at dksX0_stripesAll_0 11 rfl rfl)
theorem dX0_stripesAll_14 : decode cX0_stripesAll 14 = .ok (.iload_n 2, 1) := dk_28 (dk_at dksX0_stripesAll_0 14 rfl rfl)
theorem dX0_stripesAll_15 : decode cX0_stripesAll 15 = .ok (.iaload, 1) := dk_46 (dk_at dksX0_stripesAll_0 15 rfl rfl)
theorem dX0_stripesAll_16 : decode cX0_stripesAll 16 = .ok (.iadd, 1) := dk_96 (dk_at dksX0_stripesAll_0 16 rfl rfl)
theorem dX0_stripesAll_17 : decode cX0_stripesAll 17 = .ok (.istore_n 1, 1) := dk_60 (dk_at dksX0_stripesAll_0 17 rfl rfl)
theorem dX0_stripesAll_18 : decode cX0_stripesAll 18 = .ok (.iinc 2 1, 3) := dk_132 2 1 (dk_at dksX0_stripesAll_0 18 rfl rfl)
theorem dX0_stripesAll_21 : decode cX0_stripesAll 21 = .ok (.goto (-17), 3) := dk_167 255 239 (dk_at dksX0_stripesAll_0 21 rfl rfl)
theorem dX0_stripesAll_24 : decode cX0_stripesAll 24 = .ok (.iload_n 1, 1) := dk_27 (dk_at dksX0_stripesAll_1 0 rfl rfl)
theorem dX0_stripesAll_25 : decode cX0_stripesAll 25 = .ok (.ireturn, 1) := dk_172 (dk_at dksX0_stripesAll_1 1 rfl rfl)
abbrev cX0_schoolOf : ByteArray := prog_1_method_54_code
def yX0_schoolOf : MethodName := ⟨RX0, "schoolOf", "(LBeatenInstead$Prince;)V"⟩
def dkwX0_schoolOf_2 : List UInt8 := [132, 2, 1, 167, 255, 208, 177]
abbrev dktX0_schoolOf_2 : List UInt8 := dkwX0_schoolOf_2 ++ []
def dkwX0_schoolOf_1 : List UInt8 := [42, 16, 10, 182, 1, 64, 42, 43, 28, 182, 0, 226, 162, 0, 7, 4, 167, 0, 4, 3, 182, 0, 232]
abbrev dktX0_schoolOf_1 : List UInt8 := dkwX0_schoolOf_1 ++ dktX0_schoolOf_2
def dkwX0_schoolOf_0 : List UInt8 := [3, 61, 28, 42, 180, 0, 124, 162, 0, 46, 43, 180, 0, 141, 28, 184, 0, 144, 154, 0, 29, 42, 43, 28]
abbrev dktX0_schoolOf_0 : List UInt8 := dkwX0_schoolOf_0 ++ dktX0_schoolOf_1
theorem dksX0_schoolOf_0 : cX0_schoolOf.data.toList.drop 0 = dktX0_schoolOf_0 := by decide +kernel
theorem dksX0_schoolOf_1 : cX0_schoolOf.data.toList.drop 24 = dktX0_schoolOf_1 := dk_seg dksX0_schoolOf_0 24 rfl rfl
theorem dksX0_schoolOf_2 : cX0_schoolOf.data.toList.drop 47 = dktX0_schoolOf_2 := dk_seg dksX0_schoolOf_1 23 rfl rfl
theorem dX0_schoolOf_0 : decode cX0_schoolOf 0 = .ok (.iconst 0, 1) := dk_3 (dk_at dksX0_schoolOf_0 0 rfl rfl)
theorem dX0_schoolOf_1 : decode cX0_schoolOf 1 = .ok (.istore_n 2, 1) := dk_61 (dk_at dksX0_schoolOf_0 1 rfl rfl)
theorem dX0_schoolOf_2 : decode cX0_schoolOf 2 = .ok (.iload_n 2, 1) := dk_28 (dk_at dksX0_schoolOf_0 2 rfl rfl)
theorem dX0_schoolOf_3 : decode cX0_schoolOf 3 = .ok (.aload_n 0, 1) := dk_42 (dk_at dksX0_schoolOf_0 3 rfl rfl)
theorem dX0_schoolOf_4 : decode cX0_schoolOf 4 = .ok (.getfield 124, 3) := dk_180 0 124 (dk_at dksX0_schoolOf_0 4 rfl rfl)
theorem dX0_schoolOf_7 : decode cX0_schoolOf 7 = .ok (.if_icmp .ge 46, 3) := dk_162 0 46 (dk_at dksX0_schoolOf_0 7 rfl rfl)
theorem dX0_schoolOf_10 : decode cX0_schoolOf 10 = .ok (.aload_n 1, 1) := dk_43 (dk_at dksX0_schoolOf_0 10 rfl rfl)
theorem dX0_schoolOf_11 : decode cX0_schoolOf 11 = .ok (.getfield 141, 3) := dk_180 0 141 (dk_at dksX0_schoolOf_0 11 rfl rfl)
theorem dX0_schoolOf_14 : decode cX0_schoolOf 14 = .ok (.iload_n 2, 1) := dk_28 (dk_at dksX0_schoolOf_0 14 rfl rfl)
theorem dX0_schoolOf_15 : decode cX0_schoolOf 15 = .ok (.invokestatic 144, 3) := dk_184 0 144 (dk_at dksX0_schoolOf_0 15 rfl rfl)
theorem dX0_schoolOf_18 : decode cX0_schoolOf 18 = .ok (.ifCond .ne 29, 3) := dk_154 0 29 (dk_at dksX0_schoolOf_0 18 rfl rfl)
theorem dX0_schoolOf_21 : decode cX0_schoolOf 21 = .ok (.aload_n 0, 1) := dk_42 (dk_at dksX0_schoolOf_0 21 rfl rfl)
theorem dX0_schoolOf_22 : decode cX0_schoolOf 22 = .ok (.aload_n 1, 1) := dk_43 (dk_at dksX0_schoolOf_0 22 rfl rfl)
theorem dX0_schoolOf_23 : decode cX0_schoolOf 23 = .ok (.iload_n 2, 1) := dk_28 (dk_at dksX0_schoolOf_0 23 rfl rfl)
theorem dX0_schoolOf_24 : decode cX0_schoolOf 24 = .ok (.aload_n 0, 1) := dk_42 (dk_at dksX0_schoolOf_1 0 rfl rfl)
theorem dX0_schoolOf_25 : decode cX0_schoolOf 25 = .ok (.bipush 10, 2) := dk_16 10 (dk_at dksX0_schoolOf_1 1 rfl rfl)
theorem dX0_schoolOf_27 : decode cX0_schoolOf 27 = .ok (.invokevirtual 320, 3) := dk_182 1 64 (dk_at dksX0_schoolOf_1 3 rfl rfl)
theorem dX0_schoolOf_30 : decode cX0_schoolOf 30 = .ok (.aload_n 0, 1) := dk_42 (dk_at dksX0_schoolOf_1 6 rfl rfl)
theorem dX0_schoolOf_31 : decode cX0_schoolOf 31 = .ok (.aload_n 1, 1) := dk_43 (dk_at dksX0_schoolOf_1 7 rfl rfl)
theorem dX0_schoolOf_32 : decode cX0_schoolOf 32 = .ok (.iload_n 2, 1) := dk_28 (dk_at dksX0_schoolOf_1 8 rfl rfl)
theorem dX0_schoolOf_33 : decode cX0_schoolOf 33 = .ok (.invokevirtual 226, 3) := dk_182 0 226 (dk_at dksX0_schoolOf_1 9 rfl rfl)
theorem dX0_schoolOf_36 : decode cX0_schoolOf 36 = .ok (.if_icmp .ge 7, 3) := dk_162 0 7 (dk_at dksX0_schoolOf_1 12 rfl rfl)
theorem dX0_schoolOf_39 : decode cX0_schoolOf 39 = .ok (.iconst 1, 1) := dk_4 (dk_at dksX0_schoolOf_1 15 rfl rfl)
theorem dX0_schoolOf_40 : decode cX0_schoolOf 40 = .ok (.goto 4, 3) := dk_167 0 4 (dk_at dksX0_schoolOf_1 16 rfl rfl)
theorem dX0_schoolOf_43 : decode cX0_schoolOf 43 = .ok (.iconst 0, 1) := dk_3 (dk_at dksX0_schoolOf_1 19 rfl rfl)
theorem dX0_schoolOf_44 : decode cX0_schoolOf 44 = .ok (.invokevirtual 232, 3) := dk_182 0 232 (dk_at dksX0_schoolOf_1 20 rfl rfl)
theorem dX0_schoolOf_47 : decode cX0_schoolOf 47 = .ok (.iinc 2 1, 3) := dk_132 2 1 (dk_at dksX0_schoolOf_2 0 rfl rfl)
theorem dX0_schoolOf_50 : decode cX0_schoolOf 50 = .ok (.goto (-48), 3) := dk_167 255 208 (dk_at dksX0_schoolOf_2 3 rfl rfl)
theorem dX0_schoolOf_53 : decode cX0_schoolOf 53 = .ok (.return_, 1) := dk_177 (dk_at dksX0_schoolOf_2 6 rfl rfl)
abbrev cX0_draw : ByteArray := prog_1_method_51_code
def yX0_draw : MethodName := ⟨RX0, "draw", "(I)I"⟩
def dkwX0_draw_1 : List UInt8 := [180, 1, 56, 19, 1, 63, 108, 27, 112, 172]
abbrev dktX0_draw_1 : List UInt8 := dkwX0_draw_1 ++ []
def dkwX0_draw_0 : List UInt8 := [42, 20, 1, 54, 42, 180, 1, 56, 133, 105, 20, 1, 59, 97, 20, 1, 61, 127, 136, 181, 1, 56, 42]
abbrev dktX0_draw_0 : List UInt8 := dkwX0_draw_0 ++ dktX0_draw_1
theorem dksX0_draw_0 : cX0_draw.data.toList.drop 0 = dktX0_draw_0 := by decide +kernel
theorem dksX0_draw_1 : cX0_draw.data.toList.drop 23 = dktX0_draw_1 := dk_seg dksX0_draw_0 23 rfl rfl
theorem dX0_draw_0 : decode cX0_draw 0 = .ok (.aload_n 0, 1) := dk_42 (dk_at dksX0_draw_0 0 rfl rfl)
theorem dX0_draw_1 : decode cX0_draw 1 = .ok (.ldc2_w 310, 3) := dk_20 1 54 (dk_at dksX0_draw_0 1 rfl rfl)
theorem dX0_draw_4 : decode cX0_draw 4 = .ok (.aload_n 0, 1) := dk_42 (dk_at dksX0_draw_0 4 rfl rfl)
theorem dX0_draw_5 : decode cX0_draw 5 = .ok (.getfield 312, 3) := dk_180 1 56 (dk_at dksX0_draw_0 5 rfl rfl)
theorem dX0_draw_8 : decode cX0_draw 8 = .ok (.i2l, 1) := dk_133 (dk_at dksX0_draw_0 8 rfl rfl)
theorem dX0_draw_9 : decode cX0_draw 9 = .ok (.lmul, 1) := dk_105 (dk_at dksX0_draw_0 9 rfl rfl)
theorem dX0_draw_10 : decode cX0_draw 10 = .ok (.ldc2_w 315, 3) := dk_20 1 59 (dk_at dksX0_draw_0 10 rfl rfl)
theorem dX0_draw_13 : decode cX0_draw 13 = .ok (.ladd, 1) := dk_97 (dk_at dksX0_draw_0 13 rfl rfl)
theorem dX0_draw_14 : decode cX0_draw 14 = .ok (.ldc2_w 317, 3) := dk_20 1 61 (dk_at dksX0_draw_0 14 rfl rfl)
theorem dX0_draw_17 : decode cX0_draw 17 = .ok (.land, 1) := dk_127 (dk_at dksX0_draw_0 17 rfl rfl)
theorem dX0_draw_18 : decode cX0_draw 18 = .ok (.l2i, 1) := dk_136 (dk_at dksX0_draw_0 18 rfl rfl)
theorem dX0_draw_19 : decode cX0_draw 19 = .ok (.putfield 312, 3) := dk_181 1 56 (dk_at dksX0_draw_0 19 rfl rfl)
theorem dX0_draw_22 : decode cX0_draw 22 = .ok (.aload_n 0, 1) := dk_42 (dk_at dksX0_draw_0 22 rfl rfl)
theorem dX0_draw_23 : decode cX0_draw 23 = .ok (.getfield 312, 3) := dk_180 1 56 (dk_at dksX0_draw_1 0 rfl rfl)
theorem dX0_draw_26 : decode cX0_draw 26 = .ok (.ldc_w 319, 3) := dk_19 1 63 (dk_at dksX0_draw_1 3 rfl rfl)
theorem dX0_draw_29 : decode cX0_draw 29 = .ok (.idiv, 1) := dk_108 (dk_at dksX0_draw_1 6 rfl rfl)
theorem dX0_draw_30 : decode cX0_draw 30 = .ok (.iload_n 1, 1) := dk_27 (dk_at dksX0_draw_1 7 rfl rfl)
theorem dX0_draw_31 : decode cX0_draw 31 = .ok (.irem, 1) := dk_112 (dk_at dksX0_draw_1 8 rfl rfl)
theorem dX0_draw_32 : decode cX0_draw 32 = .ok (.ireturn, 1) := dk_172 (dk_at dksX0_draw_1 9 rfl rfl)
abbrev cX0_learntAll : ByteArray := prog_1_method_52_code
def yX0_learntAll : MethodName := ⟨RX0, "learntAll", "()I"⟩
def dkwX0_learntAll_1 : List UInt8 := [184, 1, 6, 96, 60, 132, 2, 1, 167, 255, 230, 27, 172]
abbrev dktX0_learntAll_1 : List UInt8 := dkwX0_learntAll_1 ++ []
def dkwX0_learntAll_0 : List UInt8 := [3, 60, 3, 61, 28, 42, 180, 0, 130, 162, 0, 24, 27, 42, 180, 0, 34, 28, 50, 180, 0, 141]
abbrev dktX0_learntAll_0 : List UInt8 := dkwX0_learntAll_0 ++ dktX0_learntAll_1
theorem dksX0_learntAll_0 : cX0_learntAll.data.toList.drop 0 = dktX0_learntAll_0 := by decide +kernel
theorem dksX0_learntAll_1 : cX0_learntAll.data.toList.drop 22 = dktX0_learntAll_1 := dk_seg dksX0_learntAll_0 22 rfl rfl
theorem dX0_learntAll_0 : decode cX0_learntAll 0 = .ok (.iconst 0, 1) := dk_3 (dk_at dksX0_learntAll_0 0 rfl rfl)
theorem dX0_learntAll_1 : decode cX0_learntAll 1 = .ok (.istore_n 1, 1) := dk_60 (dk_at dksX0_learntAll_0 1 rfl rfl)
theorem dX0_learntAll_2 : decode cX0_learntAll 2 = .ok (.iconst 0, 1) := dk_3 (dk_at dksX0_learntAll_0 2 rfl rfl)
theorem dX0_learntAll_3 : decode cX0_learntAll 3 = .ok (.istore_n 2, 1) := dk_61 (dk_at dksX0_learntAll_0 3 rfl rfl)
theorem dX0_learntAll_4 : decode cX0_learntAll 4 = .ok (.iload_n 2, 1) := dk_28 (dk_at dksX0_learntAll_0 4 rfl rfl)
theorem dX0_learntAll_5 : decode cX0_learntAll 5 = .ok (.aload_n 0, 1) := dk_42 (dk_at dksX0_learntAll_0 5 rfl rfl)
theorem dX0_learntAll_6 : decode cX0_learntAll 6 = .ok (.getfield 130, 3) := dk_180 0 130 (dk_at dksX0_learntAll_0 6 rfl rfl)
theorem dX0_learntAll_9 : decode cX0_learntAll 9 = .ok (.if_icmp .ge 24, 3) := dk_162 0 24 (dk_at dksX0_learntAll_0 9 rfl rfl)
theorem dX0_learntAll_12 : decode cX0_learntAll 12 = .ok (.iload_n 1, 1) := dk_27 (dk_at dksX0_learntAll_0 12 rfl rfl)
theorem dX0_learntAll_13 : decode cX0_learntAll 13 = .ok (.aload_n 0, 1) := dk_42 (dk_at dksX0_learntAll_0 13 rfl rfl)
theorem dX0_learntAll_14 : decode cX0_learntAll 14 = .ok (.getfield 34, 3) := dk_180 0 34 (dk_at dksX0_learntAll_0 14 rfl rfl)
theorem dX0_learntAll_17 : decode cX0_learntAll 17 = .ok (.iload_n 2, 1) := dk_28 (dk_at dksX0_learntAll_0 17 rfl rfl)
theorem dX0_learntAll_18 : decode cX0_learntAll 18 = .ok (.aaload, 1) := dk_50 (dk_at dksX0_learntAll_0 18 rfl rfl)
theorem dX0_learntAll_19 : decode cX0_learntAll 19 = .ok (.getfield 141, 3) := dk_180 0 141 (dk_at dksX0_learntAll_0 19 rfl rfl)
theorem dX0_learntAll_22 : decode cX0_learntAll 22 = .ok (.invokestatic 262, 3) := dk_184 1 6 (dk_at dksX0_learntAll_1 0 rfl rfl)
theorem dX0_learntAll_25 : decode cX0_learntAll 25 = .ok (.iadd, 1) := dk_96 (dk_at dksX0_learntAll_1 3 rfl rfl)
theorem dX0_learntAll_26 : decode cX0_learntAll 26 = .ok (.istore_n 1, 1) := dk_60 (dk_at dksX0_learntAll_1 4 rfl rfl)
theorem dX0_learntAll_27 : decode cX0_learntAll 27 = .ok (.iinc 2 1, 3) := dk_132 2 1 (dk_at dksX0_learntAll_1 5 rfl rfl)
theorem dX0_learntAll_30 : decode cX0_learntAll 30 = .ok (.goto (-26), 3) := dk_167 255 230 (dk_at dksX0_learntAll_1 8 rfl rfl)
theorem dX0_learntAll_33 : decode cX0_learntAll 33 = .ok (.iload_n 1, 1) := dk_27 (dk_at dksX0_learntAll_1 11 rfl rfl)
theorem dX0_learntAll_34 : decode cX0_learntAll 34 = .ok (.ireturn, 1) := dk_172 (dk_at dksX0_learntAll_1 12 rfl rfl)
abbrev cX0_image : ByteArray := prog_1_method_57_code
def yX0_image : MethodName := ⟨RX0, "image", "()I"⟩
def dkwX0_image_7 : List UInt8 := [182, 1, 67, 172]
abbrev dktX0_image_7 : List UInt8 := dkwX0_image_7 ++ []
def dkwX0_image_6 : List UInt8 := [42, 180, 0, 133, 181, 1, 89, 42, 42, 180, 0, 130, 181, 1, 92, 42, 42, 180, 0, 136, 181, 0, 90, 42]
abbrev dktX0_image_6 : List UInt8 := dkwX0_image_6 ++ dktX0_image_7
def dkwX0_image_5 : List UInt8 := [180, 0, 34, 27, 50, 42, 180, 0, 34, 27, 50, 180, 0, 141, 181, 1, 86, 132, 1, 1, 167, 255, 209, 42]
abbrev dktX0_image_5 : List UInt8 := dkwX0_image_5 ++ dktX0_image_6
def dkwX0_image_4 : List UInt8 := [162, 0, 45, 42, 180, 0, 34, 27, 50, 42, 180, 0, 34, 27, 50, 180, 0, 180, 181, 1, 83, 42]
abbrev dktX0_image_4 : List UInt8 := dkwX0_image_4 ++ dktX0_image_5
def dkwX0_image_3 : List UInt8 := [42, 180, 0, 62, 3, 42, 180, 0, 87, 3, 16, 6, 184, 0, 249, 3, 60, 27, 42, 180, 0, 130]
abbrev dktX0_image_3 : List UInt8 := dkwX0_image_3 ++ dktX0_image_4
def dkwX0_image_2 : List UInt8 := [180, 0, 81, 3, 16, 6, 184, 0, 249, 42, 180, 0, 59, 3, 42, 180, 0, 84, 3, 16, 6, 184, 0, 249]
abbrev dktX0_image_2 : List UInt8 := dkwX0_image_2 ++ dktX0_image_3
def dkwX0_image_1 : List UInt8 := [190, 184, 0, 249, 42, 180, 0, 31, 3, 42, 180, 0, 78, 3, 6, 184, 0, 249, 42, 180, 0, 56, 3, 42]
abbrev dktX0_image_1 : List UInt8 := dkwX0_image_1 ++ dktX0_image_2
def dkwX0_image_0 : List UInt8 := [42, 182, 0, 159, 154, 0, 6, 16, 153, 172, 42, 180, 0, 38, 3, 42, 180, 0, 75, 3, 42, 180, 0, 38]
abbrev dktX0_image_0 : List UInt8 := dkwX0_image_0 ++ dktX0_image_1
theorem dksX0_image_0 : cX0_image.data.toList.drop 0 = dktX0_image_0 := by decide +kernel
theorem dksX0_image_1 : cX0_image.data.toList.drop 24 = dktX0_image_1 := dk_seg dksX0_image_0 24 rfl rfl
theorem dksX0_image_2 : cX0_image.data.toList.drop 48 = dktX0_image_2 := dk_seg dksX0_image_1 24 rfl rfl
theorem dksX0_image_3 : cX0_image.data.toList.drop 72 = dktX0_image_3 := dk_seg dksX0_image_2 24 rfl rfl
theorem dksX0_image_4 : cX0_image.data.toList.drop 94 = dktX0_image_4 := dk_seg dksX0_image_3 22 rfl rfl
theorem dksX0_image_5 : cX0_image.data.toList.drop 116 = dktX0_image_5 := dk_seg dksX0_image_4 22 rfl rfl
theorem dksX0_image_6 : cX0_image.data.toList.drop 140 = dktX0_image_6 := dk_seg dksX0_image_5 24 rfl rfl
theorem dksX0_image_7 : cX0_image.data.toList.drop 164 = dktX0_image_7 := dk_seg dksX0_image_6 24 rfl rfl
theorem dX0_image_0 : decode cX0_image 0 = .ok (.aload_n 0, 1) := dk_42 (dk_at dksX0_image_0 0 rfl rfl)
theorem dX0_image_1 : decode cX0_image 1 = .ok (.invokevirtual 159, 3) := dk_182 0 159 (dk_at dksX0_image_0 1 rfl rfl)
theorem dX0_image_4 : decode cX0_image 4 = .ok (.ifCond .ne 6, 3) := dk_154 0 6 (dk_at dksX0_image_0 4 rfl rfl)
theorem dX0_image_7 : decode cX0_image 7 = .ok (.bipush (-103), 2) := dk_16 153 (dk_at dksX0_image_0 7 rfl rfl)
theorem dX0_image_9 : decode cX0_image 9 = .ok (.ireturn, 1) := dk_172 (dk_at dksX0_image_0 9 rfl rfl)
theorem dX0_image_10 : decode cX0_image 10 = .ok (.aload_n 0, 1) := dk_42 (dk_at dksX0_image_0 10 rfl rfl)
theorem dX0_image_11 : decode cX0_image 11 = .ok (.getfield 38, 3) := dk_180 0 38 (dk_at dksX0_image_0 11 rfl rfl)
theorem dX0_image_14 : decode cX0_image 14 = .ok (.iconst 0, 1) := dk_3 (dk_at dksX0_image_0 14 rfl rfl)
theorem dX0_image_15 : decode cX0_image 15 = .ok (.aload_n 0, 1) := dk_42 (dk_at dksX0_image_0 15 rfl rfl)
theorem dX0_image_16 : decode cX0_image 16 = .ok (.getfield 75, 3) := dk_180 0 75 (dk_at dksX0_image_0 16 rfl rfl)
theorem dX0_image_19 : decode cX0_image 19 = .ok (.iconst 0, 1) := dk_3 (dk_at dksX0_image_0 19 rfl rfl)
theorem dX0_image_20 : decode cX0_image 20 = .ok (.aload_n 0, 1) := dk_42 (dk_at dksX0_image_0 20 rfl rfl)
theorem dX0_image_21 : decode cX0_image 21 = .ok (.getfield 38, 3) := dk_180 0 38 (dk_at dksX0_image_0 21 rfl rfl)
theorem dX0_image_24 : decode cX0_image 24 = .ok (.arraylength, 1) := dk_190 (dk_at dksX0_image_1 0 rfl rfl)
theorem dX0_image_25 : decode cX0_image 25 = .ok (.invokestatic 249, 3) := dk_184 0 249 (dk_at dksX0_image_1 1 rfl rfl)
theorem dX0_image_28 : decode cX0_image 28 = .ok (.aload_n 0, 1) := dk_42 (dk_at dksX0_image_1 4 rfl rfl)
theorem dX0_image_29 : decode cX0_image 29 = .ok (.getfield 31, 3) := dk_180 0 31 (dk_at dksX0_image_1 5 rfl rfl)
theorem dX0_image_32 : decode cX0_image 32 = .ok (.iconst 0, 1) := dk_3 (dk_at dksX0_image_1 8 rfl rfl)
theorem dX0_image_33 : decode cX0_image 33 = .ok (.aload_n 0, 1) := dk_42 (dk_at dksX0_image_1 9 rfl rfl)
theorem dX0_image_34 : decode cX0_image 34 = .ok (.getfield 78, 3) := dk_180 0 78 (dk_at dksX0_image_1 10 rfl rfl)
theorem dX0_image_37 : decode cX0_image 37 = .ok (.iconst 0, 1) := dk_3 (dk_at dksX0_image_1 13 rfl rfl)
theorem dX0_image_38 : decode cX0_image 38 = .ok (.iconst 3, 1) := dk_6 (dk_at dksX0_image_1 14 rfl rfl)
theorem dX0_image_39 : decode cX0_image 39 = .ok (.invokestatic 249, 3) := dk_184 0 249 (dk_at dksX0_image_1 15 rfl rfl)
theorem dX0_image_42 : decode cX0_image 42 = .ok (.aload_n 0, 1) := dk_42 (dk_at dksX0_image_1 18 rfl rfl)
theorem dX0_image_43 : decode cX0_image 43 = .ok (.getfield 56, 3) := dk_180 0 56 (dk_at dksX0_image_1 19 rfl rfl)
theorem dX0_image_46 : decode cX0_image 46 = .ok (.iconst 0, 1) := dk_3 (dk_at dksX0_image_1 22 rfl rfl)
theorem dX0_image_47 : decode cX0_image 47 = .ok (.aload_n 0, 1) := dk_42 (dk_at dksX0_image_1 23 rfl rfl)
theorem dX0_image_48 : decode cX0_image 48 = .ok (.getfield 81, 3) := dk_180 0 81 (dk_at dksX0_image_2 0 rfl rfl)
theorem dX0_image_51 : decode cX0_image 51 = .ok (.iconst 0, 1) := dk_3 (dk_at dksX0_image_2 3 rfl rfl)
theorem dX0_image_52 : decode cX0_image 52 = .ok (.bipush 6, 2) := dk_16 6 (dk_at dksX0_image_2 4 rfl rfl)
theorem dX0_image_54 : decode cX0_image 54 = .ok (.invokestatic 249, 3) := dk_184 0 249 (dk_at dksX0_image_2 6 rfl rfl)
theorem dX0_image_57 : decode cX0_image 57 = .ok (.aload_n 0, 1) := dk_42 (dk_at dksX0_image_2 9 rfl rfl)
theorem dX0_image_58 : decode cX0_image 58 = .ok (.getfield 59, 3) := dk_180 0 59 (dk_at dksX0_image_2 10 rfl rfl)
theorem dX0_image_61 : decode cX0_image 61 = .ok (.iconst 0, 1) := dk_3 (dk_at dksX0_image_2 13 rfl rfl)
theorem dX0_image_62 : decode cX0_image 62 = .ok (.aload_n 0, 1) := dk_42 (dk_at dksX0_image_2 14 rfl rfl)
theorem dX0_image_63 : decode cX0_image 63 = .ok (.getfield 84, 3) := dk_180 0 84 (dk_at dksX0_image_2 15 rfl rfl)
theorem dX0_image_66 : decode cX0_image 66 = .ok (.iconst 0, 1) := dk_3 (dk_at dksX0_image_2 18 rfl rfl)
theorem dX0_image_67 : decode cX0_image 67 = .ok (.bipush 6, 2) := dk_16 6 (dk_at dksX0_image_2 19 rfl rfl)
theorem dX0_image_69 : decode cX0_image 69 = .ok (.invokestatic 249, 3) := dk_184 0 249 (dk_at dksX0_image_2 21 rfl rfl)
theorem dX0_image_72 : decode cX0_image 72 = .ok (.aload_n 0, 1) := dk_42 (dk_at dksX0_image_3 0 rfl rfl)
theorem dX0_image_73 : decode cX0_image 73 = .ok (.getfield 62, 3) := dk_180 0 62 (dk_at dksX0_image_3 1 rfl rfl)
theorem dX0_image_76 : decode cX0_image 76 = .ok (.iconst 0, 1) := dk_3 (dk_at dksX0_image_3 4 rfl rfl)
theorem dX0_image_77 : decode cX0_image 77 = .ok (.aload_n 0, 1) := dk_42 (dk_at dksX0_image_3 5 rfl rfl)
theorem dX0_image_78 : decode cX0_image 78 = .ok (.getfield 87, 3) := dk_180 0 87 (dk_at dksX0_image_3 6 rfl rfl)
theorem dX0_image_81 : decode cX0_image 81 = .ok (.iconst 0, 1) := dk_3 (dk_at dksX0_image_3 9 rfl rfl)
theorem dX0_image_82 : decode cX0_image 82 = .ok (.bipush 6, 2) := dk_16 6 (dk_at dksX0_image_3 10 rfl rfl)
theorem dX0_image_84 : decode cX0_image 84 = .ok (.invokestatic 249, 3) := dk_184 0 249 (dk_at dksX0_image_3 12 rfl rfl)
theorem dX0_image_87 : decode cX0_image 87 = .ok (.iconst 0, 1) := dk_3 (dk_at dksX0_image_3 15 rfl rfl)
theorem dX0_image_88 : decode cX0_image 88 = .ok (.istore_n 1, 1) := dk_60 (dk_at dksX0_image_3 16 rfl rfl)
theorem dX0_image_89 : decode cX0_image 89 = .ok (.iload_n 1, 1) := dk_27 (dk_at dksX0_image_3 17 rfl rfl)
theorem dX0_image_90 : decode cX0_image 90 = .ok (.aload_n 0, 1) := dk_42 (dk_at dksX0_image_3 18 rfl rfl)
theorem dX0_image_91 : decode cX0_image 91 = .ok (.getfield 130, 3) := dk_180 0 130 (dk_at dksX0_image_3 19 rfl rfl)
theorem dX0_image_94 : decode cX0_image 94 = .ok (.if_icmp .ge 45, 3) := dk_162 0 45 (dk_at dksX0_image_4 0 rfl rfl)
theorem dX0_image_97 : decode cX0_image 97 = .ok (.aload_n 0, 1) := dk_42 (dk_at dksX0_image_4 3 rfl rfl)
theorem dX0_image_98 : decode cX0_image 98 = .ok (.getfield 34, 3) := dk_180 0 34 (dk_at dksX0_image_4 4 rfl rfl)
theorem dX0_image_101 : decode cX0_image 101 = .ok (.iload_n 1, 1) := dk_27 (dk_at dksX0_image_4 7 rfl rfl)
theorem dX0_image_102 : decode cX0_image 102 = .ok (.aaload, 1) := dk_50 (dk_at dksX0_image_4 8 rfl rfl)
theorem dX0_image_103 : decode cX0_image 103 = .ok (.aload_n 0, 1) := dk_42 (dk_at dksX0_image_4 9 rfl rfl)
theorem dX0_image_104 : decode cX0_image 104 = .ok (.getfield 34, 3) := dk_180 0 34 (dk_at dksX0_image_4 10 rfl rfl)
theorem dX0_image_107 : decode cX0_image 107 = .ok (.iload_n 1, 1) := dk_27 (dk_at dksX0_image_4 13 rfl rfl)
theorem dX0_image_108 : decode cX0_image 108 = .ok (.aaload, 1) := dk_50 (dk_at dksX0_image_4 14 rfl rfl)
theorem dX0_image_109 : decode cX0_image 109 = .ok (.getfield 180, 3) := dk_180 0 180 (dk_at dksX0_image_4 15 rfl rfl)
theorem dX0_image_112 : decode cX0_image 112 = .ok (.putfield 339, 3) := dk_181 1 83 (dk_at dksX0_image_4 18 rfl rfl)
theorem dX0_image_115 : decode cX0_image 115 = .ok (.aload_n 0, 1) := dk_42 (dk_at dksX0_image_4 21 rfl rfl)
theorem dX0_image_116 : decode cX0_image 116 = .ok (.getfield 34, 3) := dk_180 0 34 (dk_at dksX0_image_5 0 rfl rfl)
theorem dX0_image_119 : decode cX0_image 119 = .ok (.iload_n 1, 1) := dk_27 (dk_at dksX0_image_5 3 rfl rfl)
theorem dX0_image_120 : decode cX0_image 120 = .ok (.aaload, 1) := dk_50 (dk_at dksX0_image_5 4 rfl rfl)
theorem dX0_image_121 : decode cX0_image 121 = .ok (.aload_n 0, 1) := dk_42 (dk_at dksX0_image_5 5 rfl rfl)
theorem dX0_image_122 : decode cX0_image 122 = .ok (.getfield 34, 3) := dk_180 0 34 (dk_at dksX0_image_5 6 rfl rfl)
theorem dX0_image_125 : decode cX0_image 125 = .ok (.iload_n 1, 1) := dk_27 (dk_at dksX0_image_5 9 rfl rfl)
theorem dX0_image_126 : decode cX0_image 126 = .ok (.aaload, 1) := dk_50 (dk_at dksX0_image_5 10 rfl rfl)
theorem dX0_image_127 : decode cX0_image 127 = .ok (.getfield 141, 3) := dk_180 0 141 (dk_at dksX0_image_5 11 rfl rfl)
theorem dX0_image_130 : decode cX0_image 130 = .ok (.putfield 342, 3) := dk_181 1 86 (dk_at dksX0_image_5 14 rfl rfl)
theorem dX0_image_133 : decode cX0_image 133 = .ok (.iinc 1 1, 3) := dk_132 1 1 (dk_at dksX0_image_5 17 rfl rfl)
theorem dX0_image_136 : decode cX0_image 136 = .ok (.goto (-47), 3) := dk_167 255 209 (dk_at dksX0_image_5 20 rfl rfl)
theorem dX0_image_139 : decode cX0_image 139 = .ok (.aload_n 0, 1) := dk_42 (dk_at dksX0_image_5 23 rfl rfl)
theorem dX0_image_140 : decode cX0_image 140 = .ok (.aload_n 0, 1) := dk_42 (dk_at dksX0_image_6 0 rfl rfl)
theorem dX0_image_141 : decode cX0_image 141 = .ok (.getfield 133, 3) := dk_180 0 133 (dk_at dksX0_image_6 1 rfl rfl)
theorem dX0_image_144 : decode cX0_image 144 = .ok (.putfield 345, 3) := dk_181 1 89 (dk_at dksX0_image_6 4 rfl rfl)
theorem dX0_image_147 : decode cX0_image 147 = .ok (.aload_n 0, 1) := dk_42 (dk_at dksX0_image_6 7 rfl rfl)
theorem dX0_image_148 : decode cX0_image 148 = .ok (.aload_n 0, 1) := dk_42 (dk_at dksX0_image_6 8 rfl rfl)
theorem dX0_image_149 : decode cX0_image 149 = .ok (.getfield 130, 3) := dk_180 0 130 (dk_at dksX0_image_6 9 rfl rfl)
theorem dX0_image_152 : decode cX0_image 152 = .ok (.putfield 348, 3) := dk_181 1 92 (dk_at dksX0_image_6 12 rfl rfl)
theorem dX0_image_155 : decode cX0_image 155 = .ok (.aload_n 0, 1) := dk_42 (dk_at dksX0_image_6 15 rfl rfl)
theorem dX0_image_156 : decode cX0_image 156 = .ok (.aload_n 0, 1) := dk_42 (dk_at dksX0_image_6 16 rfl rfl)
theorem dX0_image_157 : decode cX0_image 157 = .ok (.getfield 136, 3) := dk_180 0 136 (dk_at dksX0_image_6 17 rfl rfl)
theorem dX0_image_160 : decode cX0_image 160 = .ok (.putfield 90, 3) := dk_181 0 90 (dk_at dksX0_image_6 20 rfl rfl)
theorem dX0_image_163 : decode cX0_image 163 = .ok (.aload_n 0, 1) := dk_42 (dk_at dksX0_image_6 23 rfl rfl)
theorem dX0_image_164 : decode cX0_image 164 = .ok (.invokevirtual 323, 3) := dk_182 1 67 (dk_at dksX0_image_7 0 rfl rfl)
theorem dX0_image_167 : decode cX0_image 167 = .ok (.ireturn, 1) := dk_172 (dk_at dksX0_image_7 3 rfl rfl)
abbrev cX0_restore : ByteArray := prog_1_method_58_code
def yX0_restore : MethodName := ⟨RX0, "restore", "()I"⟩
def dkwX0_restore_6 : List UInt8 := [42, 180, 0, 34, 27, 50, 180, 1, 86, 181, 0, 141, 132, 1, 1, 167, 255, 209, 42, 182, 1, 67, 172]
abbrev dktX0_restore_6 : List UInt8 := dkwX0_restore_6 ++ []
def dkwX0_restore_5 : List UInt8 := [42, 180, 0, 34, 27, 50, 42, 180, 0, 34, 27, 50, 180, 1, 83, 181, 0, 180, 42, 180, 0, 34, 27, 50]
abbrev dktX0_restore_5 : List UInt8 := dkwX0_restore_5 ++ dktX0_restore_6
def dkwX0_restore_4 : List UInt8 := [180, 1, 89, 181, 0, 133, 42, 42, 180, 1, 92, 181, 0, 130, 3, 60, 27, 42, 180, 0, 130, 162, 0, 45]
abbrev dktX0_restore_4 : List UInt8 := dkwX0_restore_4 ++ dktX0_restore_5
def dkwX0_restore_3 : List UInt8 := [16, 6, 184, 0, 249, 42, 180, 0, 87, 3, 42, 180, 0, 62, 3, 16, 6, 184, 0, 249, 42, 42]
abbrev dktX0_restore_3 : List UInt8 := dkwX0_restore_3 ++ dktX0_restore_4
def dkwX0_restore_2 : List UInt8 := [180, 0, 81, 3, 42, 180, 0, 56, 3, 16, 6, 184, 0, 249, 42, 180, 0, 84, 3, 42, 180, 0, 59, 3]
abbrev dktX0_restore_2 : List UInt8 := dkwX0_restore_2 ++ dktX0_restore_3
def dkwX0_restore_1 : List UInt8 := [42, 180, 0, 38, 190, 184, 0, 249, 42, 180, 0, 78, 3, 42, 180, 0, 31, 3, 6, 184, 0, 249, 42]
abbrev dktX0_restore_1 : List UInt8 := dkwX0_restore_1 ++ dktX0_restore_2
def dkwX0_restore_0 : List UInt8 := [42, 180, 0, 90, 42, 180, 0, 136, 159, 0, 6, 16, 153, 172, 42, 180, 0, 75, 3, 42, 180, 0, 38, 3]
abbrev dktX0_restore_0 : List UInt8 := dkwX0_restore_0 ++ dktX0_restore_1
theorem dksX0_restore_0 : cX0_restore.data.toList.drop 0 = dktX0_restore_0 := by decide +kernel
theorem dksX0_restore_1 : cX0_restore.data.toList.drop 24 = dktX0_restore_1 := dk_seg dksX0_restore_0 24 rfl rfl
theorem dksX0_restore_2 : cX0_restore.data.toList.drop 47 = dktX0_restore_2 := dk_seg dksX0_restore_1 23 rfl rfl
theorem dksX0_restore_3 : cX0_restore.data.toList.drop 71 = dktX0_restore_3 := dk_seg dksX0_restore_2 24 rfl rfl
theorem dksX0_restore_4 : cX0_restore.data.toList.drop 93 = dktX0_restore_4 := dk_seg dksX0_restore_3 22 rfl rfl
theorem dksX0_restore_5 : cX0_restore.data.toList.drop 117 = dktX0_restore_5 := dk_seg dksX0_restore_4 24 rfl rfl
theorem dksX0_restore_6 : cX0_restore.data.toList.drop 141 = dktX0_restore_6 := dk_seg dksX0_restore_5 24 rfl rfl
theorem dX0_restore_0 : decode cX0_restore 0 = .ok (.aload_n 0, 1) := dk_42 (dk_at dksX0_restore_0 0 rfl rfl)
theorem dX0_restore_1 : decode cX0_restore 1 = .ok (.getfield 90, 3) := dk_180 0 90 (dk_at dksX0_restore_0 1 rfl rfl)
theorem dX0_restore_4 : decode cX0_restore 4 = .ok (.aload_n 0, 1) := dk_42 (dk_at dksX0_restore_0 4 rfl rfl)
theorem dX0_restore_5 : decode cX0_restore 5 = .ok (.getfield 136, 3) := dk_180 0 136 (dk_at dksX0_restore_0 5 rfl rfl)
theorem dX0_restore_8 : decode cX0_restore 8 = .ok (.if_icmp .eq 6, 3) := dk_159 0 6 (dk_at dksX0_restore_0 8 rfl rfl)
theorem dX0_restore_11 : decode cX0_restore 11 = .ok (.bipush (-103), 2) := dk_16 153 (dk_at dksX0_restore_0 11 rfl rfl)
theorem dX0_restore_13 : decode cX0_restore 13 = .ok (.ireturn, 1) := dk_172 (dk_at dksX0_restore_0 13 rfl rfl)
theorem dX0_restore_14 : decode cX0_restore 14 = .ok (.aload_n 0, 1) := dk_42 (dk_at dksX0_restore_0 14 rfl rfl)
theorem dX0_restore_15 : decode cX0_restore 15 = .ok (.getfield 75, 3) := dk_180 0 75 (dk_at dksX0_restore_0 15 rfl rfl)
theorem dX0_restore_18 : decode cX0_restore 18 = .ok (.iconst 0, 1) := dk_3 (dk_at dksX0_restore_0 18 rfl rfl)
theorem dX0_restore_19 : decode cX0_restore 19 = .ok (.aload_n 0, 1) := dk_42 (dk_at dksX0_restore_0 19 rfl rfl)
theorem dX0_restore_20 : decode cX0_restore 20 = .ok (.getfield 38, 3) := dk_180 0 38 (dk_at dksX0_restore_0 20 rfl rfl)
theorem dX0_restore_23 : decode cX0_restore 23 = .ok (.iconst 0, 1) := dk_3 (dk_at dksX0_restore_0 23 rfl rfl)
theorem dX0_restore_24 : decode cX0_restore 24 = .ok (.aload_n 0, 1) := dk_42 (dk_at dksX0_restore_1 0 rfl rfl)
theorem dX0_restore_25 : decode cX0_restore 25 = .ok (.getfield 38, 3) := dk_180 0 38 (dk_at dksX0_restore_1 1 rfl rfl)
theorem dX0_restore_28 : decode cX0_restore 28 = .ok (.arraylength, 1) := dk_190 (dk_at dksX0_restore_1 4 rfl rfl)
theorem dX0_restore_29 : decode cX0_restore 29 = .ok (.invokestatic 249, 3) := dk_184 0 249 (dk_at dksX0_restore_1 5 rfl rfl)
theorem dX0_restore_32 : decode cX0_restore 32 = .ok (.aload_n 0, 1) := dk_42 (dk_at dksX0_restore_1 8 rfl rfl)
theorem dX0_restore_33 : decode cX0_restore 33 = .ok (.getfield 78, 3) := dk_180 0 78 (dk_at dksX0_restore_1 9 rfl rfl)
theorem dX0_restore_36 : decode cX0_restore 36 = .ok (.iconst 0, 1) := dk_3 (dk_at dksX0_restore_1 12 rfl rfl)
theorem dX0_restore_37 : decode cX0_restore 37 = .ok (.aload_n 0, 1) := dk_42 (dk_at dksX0_restore_1 13 rfl rfl)
theorem dX0_restore_38 : decode cX0_restore 38 = .ok (.getfield 31, 3) := dk_180 0 31 (dk_at dksX0_restore_1 14 rfl rfl)
theorem dX0_restore_41 : decode cX0_restore 41 = .ok (.iconst 0, 1) := dk_3 (dk_at dksX0_restore_1 17 rfl rfl)
theorem dX0_restore_42 : decode cX0_restore 42 = .ok (.iconst 3, 1) := dk_6 (dk_at dksX0_restore_1 18 rfl rfl)
theorem dX0_restore_43 : decode cX0_restore 43 = .ok (.invokestatic 249, 3) := dk_184 0 249 (dk_at dksX0_restore_1 19 rfl rfl)
theorem dX0_restore_46 : decode cX0_restore 46 = .ok (.aload_n 0, 1) := dk_42 (dk_at dksX0_restore_1 22 rfl rfl)
theorem dX0_restore_47 : decode cX0_restore 47 = .ok (.getfield 81, 3) := dk_180 0 81 (dk_at dksX0_restore_2 0 rfl rfl)
theorem dX0_restore_50 : decode cX0_restore 50 = .ok (.iconst 0, 1) := dk_3 (dk_at dksX0_restore_2 3 rfl rfl)
theorem dX0_restore_51 : decode cX0_restore 51 = .ok (.aload_n 0, 1) := dk_42 (dk_at dksX0_restore_2 4 rfl rfl)
theorem dX0_restore_52 : decode cX0_restore 52 = .ok (.getfield 56, 3) := dk_180 0 56 (dk_at dksX0_restore_2 5 rfl rfl)
theorem dX0_restore_55 : decode cX0_restore 55 = .ok (.iconst 0, 1) := dk_3 (dk_at dksX0_restore_2 8 rfl rfl)
theorem dX0_restore_56 : decode cX0_restore 56 = .ok (.bipush 6, 2) := dk_16 6 (dk_at dksX0_restore_2 9 rfl rfl)
theorem dX0_restore_58 : decode cX0_restore 58 = .ok (.invokestatic 249, 3) := dk_184 0 249 (dk_at dksX0_restore_2 11 rfl rfl)
theorem dX0_restore_61 : decode cX0_restore 61 = .ok (.aload_n 0, 1) := dk_42 (dk_at dksX0_restore_2 14 rfl rfl)
theorem dX0_restore_62 : decode cX0_restore 62 = .ok (.getfield 84, 3) := dk_180 0 84 (dk_at dksX0_restore_2 15 rfl rfl)
theorem dX0_restore_65 : decode cX0_restore 65 = .ok (.iconst 0, 1) := dk_3 (dk_at dksX0_restore_2 18 rfl rfl)
theorem dX0_restore_66 : decode cX0_restore 66 = .ok (.aload_n 0, 1) := dk_42 (dk_at dksX0_restore_2 19 rfl rfl)
theorem dX0_restore_67 : decode cX0_restore 67 = .ok (.getfield 59, 3) := dk_180 0 59 (dk_at dksX0_restore_2 20 rfl rfl)
theorem dX0_restore_70 : decode cX0_restore 70 = .ok (.iconst 0, 1) := dk_3 (dk_at dksX0_restore_2 23 rfl rfl)
theorem dX0_restore_71 : decode cX0_restore 71 = .ok (.bipush 6, 2) := dk_16 6 (dk_at dksX0_restore_3 0 rfl rfl)
theorem dX0_restore_73 : decode cX0_restore 73 = .ok (.invokestatic 249, 3) := dk_184 0 249 (dk_at dksX0_restore_3 2 rfl rfl)
theorem dX0_restore_76 : decode cX0_restore 76 = .ok (.aload_n 0, 1) := dk_42 (dk_at dksX0_restore_3 5 rfl rfl)
theorem dX0_restore_77 : decode cX0_restore 77 = .ok (.getfield 87, 3) := dk_180 0 87 (dk_at dksX0_restore_3 6 rfl rfl)
theorem dX0_restore_80 : decode cX0_restore 80 = .ok (.iconst 0, 1) := dk_3 (dk_at dksX0_restore_3 9 rfl rfl)
theorem dX0_restore_81 : decode cX0_restore 81 = .ok (.aload_n 0, 1) := dk_42 (dk_at dksX0_restore_3 10 rfl rfl)
theorem dX0_restore_82 : decode cX0_restore 82 = .ok (.getfield 62, 3) := dk_180 0 62 (dk_at dksX0_restore_3 11 rfl rfl)
theorem dX0_restore_85 : decode cX0_restore 85 = .ok (.iconst 0, 1) := dk_3 (dk_at dksX0_restore_3 14 rfl rfl)
theorem dX0_restore_86 : decode cX0_restore 86 = .ok (.bipush 6, 2) := dk_16 6 (dk_at dksX0_restore_3 15 rfl rfl)
theorem dX0_restore_88 : decode cX0_restore 88 = .ok (.invokestatic 249, 3) := dk_184 0 249 (dk_at dksX0_restore_3 17 rfl rfl)
theorem dX0_restore_91 : decode cX0_restore 91 = .ok (.aload_n 0, 1) := dk_42 (dk_at dksX0_restore_3 20 rfl rfl)
theorem dX0_restore_92 : decode cX0_restore 92 = .ok (.aload_n 0, 1) := dk_42 (dk_at dksX0_restore_3 21 rfl rfl)
theorem dX0_restore_93 : decode cX0_restore 93 = .ok (.getfield 345, 3) := dk_180 1 89 (dk_at dksX0_restore_4 0 rfl rfl)
theorem dX0_restore_96 : decode cX0_restore 96 = .ok (.putfield 133, 3) := dk_181 0 133 (dk_at dksX0_restore_4 3 rfl rfl)
theorem dX0_restore_99 : decode cX0_restore 99 = .ok (.aload_n 0, 1) := dk_42 (dk_at dksX0_restore_4 6 rfl rfl)
theorem dX0_restore_100 : decode cX0_restore 100 = .ok (.aload_n 0, 1) := dk_42 (dk_at dksX0_restore_4 7 rfl rfl)
theorem dX0_restore_101 : decode cX0_restore 101 = .ok (.getfield 348, 3) := dk_180 1 92 (dk_at dksX0_restore_4 8 rfl rfl)
theorem dX0_restore_104 : decode cX0_restore 104 = .ok (.putfield 130, 3) := dk_181 0 130 (dk_at dksX0_restore_4 11 rfl rfl)
theorem dX0_restore_107 : decode cX0_restore 107 = .ok (.iconst 0, 1) := dk_3 (dk_at dksX0_restore_4 14 rfl rfl)
theorem dX0_restore_108 : decode cX0_restore 108 = .ok (.istore_n 1, 1) := dk_60 (dk_at dksX0_restore_4 15 rfl rfl)
theorem dX0_restore_109 : decode cX0_restore 109 = .ok (.iload_n 1, 1) := dk_27 (dk_at dksX0_restore_4 16 rfl rfl)
theorem dX0_restore_110 : decode cX0_restore 110 = .ok (.aload_n 0, 1) := dk_42 (dk_at dksX0_restore_4 17 rfl rfl)
theorem dX0_restore_111 : decode cX0_restore 111 = .ok (.getfield 130, 3) := dk_180 0 130 (dk_at dksX0_restore_4 18 rfl rfl)
theorem dX0_restore_114 : decode cX0_restore 114 = .ok (.if_icmp .ge 45, 3) := dk_162 0 45 (dk_at dksX0_restore_4 21 rfl rfl)
theorem dX0_restore_117 : decode cX0_restore 117 = .ok (.aload_n 0, 1) := dk_42 (dk_at dksX0_restore_5 0 rfl rfl)
theorem dX0_restore_118 : decode cX0_restore 118 = .ok (.getfield 34, 3) := dk_180 0 34 (dk_at dksX0_restore_5 1 rfl rfl)
theorem dX0_restore_121 : decode cX0_restore 121 = .ok (.iload_n 1, 1) := dk_27 (dk_at dksX0_restore_5 4 rfl rfl)
theorem dX0_restore_122 : decode cX0_restore 122 = .ok (.aaload, 1) := dk_50 (dk_at dksX0_restore_5 5 rfl rfl)
theorem dX0_restore_123 : decode cX0_restore 123 = .ok (.aload_n 0, 1) := dk_42 (dk_at dksX0_restore_5 6 rfl rfl)
theorem dX0_restore_124 : decode cX0_restore 124 = .ok (.getfield 34, 3) := dk_180 0 34 (dk_at dksX0_restore_5 7 rfl rfl)
theorem dX0_restore_127 : decode cX0_restore 127 = .ok (.iload_n 1, 1) := dk_27 (dk_at dksX0_restore_5 10 rfl rfl)
theorem dX0_restore_128 : decode cX0_restore 128 = .ok (.aaload, 1) := dk_50 (dk_at dksX0_restore_5 11 rfl rfl)
theorem dX0_restore_129 : decode cX0_restore 129 = .ok (.getfield 339, 3) := dk_180 1 83 (dk_at dksX0_restore_5 12 rfl rfl)
theorem dX0_restore_132 : decode cX0_restore 132 = .ok (.putfield 180, 3) := dk_181 0 180 (dk_at dksX0_restore_5 15 rfl rfl)
theorem dX0_restore_135 : decode cX0_restore 135 = .ok (.aload_n 0, 1) := dk_42 (dk_at dksX0_restore_5 18 rfl rfl)
theorem dX0_restore_136 : decode cX0_restore 136 = .ok (.getfield 34, 3) := dk_180 0 34 (dk_at dksX0_restore_5 19 rfl rfl)
theorem dX0_restore_139 : decode cX0_restore 139 = .ok (.iload_n 1, 1) := dk_27 (dk_at dksX0_restore_5 22 rfl rfl)
theorem dX0_restore_140 : decode cX0_restore 140 = .ok (.aaload, 1) := dk_50 (dk_at dksX0_restore_5 23 rfl rfl)
theorem dX0_restore_141 : decode cX0_restore 141 = .ok (.aload_n 0, 1) := dk_42 (dk_at dksX0_restore_6 0 rfl rfl)
theorem dX0_restore_142 : decode cX0_restore 142 = .ok (.getfield 34, 3) := dk_180 0 34 (dk_at dksX0_restore_6 1 rfl rfl)
theorem dX0_restore_145 : decode cX0_restore 145 = .ok (.iload_n 1, 1) := dk_27 (dk_at dksX0_restore_6 4 rfl rfl)
theorem dX0_restore_146 : decode cX0_restore 146 = .ok (.aaload, 1) := dk_50 (dk_at dksX0_restore_6 5 rfl rfl)
theorem dX0_restore_147 : decode cX0_restore 147 = .ok (.getfield 342, 3) := dk_180 1 86 (dk_at dksX0_restore_6 6 rfl rfl)
theorem dX0_restore_150 : decode cX0_restore 150 = .ok (.putfield 141, 3) := dk_181 0 141 (dk_at dksX0_restore_6 9 rfl rfl)
theorem dX0_restore_153 : decode cX0_restore 153 = .ok (.iinc 1 1, 3) := dk_132 1 1 (dk_at dksX0_restore_6 12 rfl rfl)
theorem dX0_restore_156 : decode cX0_restore 156 = .ok (.goto (-47), 3) := dk_167 255 209 (dk_at dksX0_restore_6 15 rfl rfl)
theorem dX0_restore_159 : decode cX0_restore 159 = .ok (.aload_n 0, 1) := dk_42 (dk_at dksX0_restore_6 18 rfl rfl)
theorem dX0_restore_160 : decode cX0_restore 160 = .ok (.invokevirtual 323, 3) := dk_182 1 67 (dk_at dksX0_restore_6 19 rfl rfl)
theorem dX0_restore_163 : decode cX0_restore 163 = .ok (.ireturn, 1) := dk_172 (dk_at dksX0_restore_6 22 rfl rfl)
abbrev cX0_count : ByteArray := prog_1_method_59_code
def yX0_count : MethodName := ⟨RX0, "count", "(I)I"⟩
def dkwX0_count_3 : List UInt8 := [172, 42, 180, 0, 133, 172, 42, 180, 0, 102, 172, 42, 180, 0, 136, 172, 42, 180, 1, 21, 172, 16, 154, 172]
abbrev dktX0_count_3 : List UInt8 := dkwX0_count_3 ++ []
def dkwX0_count_2 : List UInt8 := [42, 180, 0, 124, 172, 42, 180, 0, 127, 172, 42, 180, 0, 130, 172, 42, 182, 1, 67, 172, 42, 182, 1, 74]
abbrev dktX0_count_2 : List UInt8 := dkwX0_count_2 ++ dktX0_count_3
def dkwX0_count_1 : List UInt8 := [170, 0, 0, 0, 0, 0, 96, 0, 0, 0, 0, 0, 0, 0, 8, 0, 0, 0, 51, 0, 0, 0, 56, 0, 0, 0, 61, 0, 0, 0, 66, 0, 0, 0, 71, 0, 0, 0, 76, 0, 0, 0, 81, 0, 0, 0, 86, 0, 0, 0, 91]
abbrev dktX0_count_1 : List UInt8 := dkwX0_count_1 ++ dktX0_count_2
def dkwX0_count_0 : List UInt8 := [27]
abbrev dktX0_count_0 : List UInt8 := dkwX0_count_0 ++ dktX0_count_1
theorem dksX0_count_0 : cX0_count.data.toList.drop 0 = dktX0_count_0 := by decide +kernel
theorem dksX0_count_1 : cX0_count.data.toList.drop 1 = dktX0_count_1 := dk_seg dksX0_count_0 1 rfl rfl
theorem dksX0_count_2 : cX0_count.data.toList.drop 52 = dktX0_count_2 := dk_seg dksX0_count_1 51 rfl rfl
theorem dksX0_count_3 : cX0_count.data.toList.drop 76 = dktX0_count_3 := dk_seg dksX0_count_2 24 rfl rfl
theorem dX0_count_0 : decode cX0_count 0 = .ok (.iload_n 1, 1) := dk_27 (dk_at dksX0_count_0 0 rfl rfl)
theorem dX0_count_1 : decode cX0_count 1 = .ok (.tableswitch 96 0 8 #[51, 56, 61, 66, 71, 76, 81, 86, 91], 51) := by decide +kernel
theorem dX0_count_52 : decode cX0_count 52 = .ok (.aload_n 0, 1) := dk_42 (dk_at dksX0_count_2 0 rfl rfl)
theorem dX0_count_53 : decode cX0_count 53 = .ok (.getfield 124, 3) := dk_180 0 124 (dk_at dksX0_count_2 1 rfl rfl)
theorem dX0_count_56 : decode cX0_count 56 = .ok (.ireturn, 1) := dk_172 (dk_at dksX0_count_2 4 rfl rfl)
theorem dX0_count_57 : decode cX0_count 57 = .ok (.aload_n 0, 1) := dk_42 (dk_at dksX0_count_2 5 rfl rfl)
theorem dX0_count_58 : decode cX0_count 58 = .ok (.getfield 127, 3) := dk_180 0 127 (dk_at dksX0_count_2 6 rfl rfl)
theorem dX0_count_61 : decode cX0_count 61 = .ok (.ireturn, 1) := dk_172 (dk_at dksX0_count_2 9 rfl rfl)
theorem dX0_count_62 : decode cX0_count 62 = .ok (.aload_n 0, 1) := dk_42 (dk_at dksX0_count_2 10 rfl rfl)
theorem dX0_count_63 : decode cX0_count 63 = .ok (.getfield 130, 3) := dk_180 0 130 (dk_at dksX0_count_2 11 rfl rfl)
theorem dX0_count_66 : decode cX0_count 66 = .ok (.ireturn, 1) := dk_172 (dk_at dksX0_count_2 14 rfl rfl)
theorem dX0_count_67 : decode cX0_count 67 = .ok (.aload_n 0, 1) := dk_42 (dk_at dksX0_count_2 15 rfl rfl)
theorem dX0_count_68 : decode cX0_count 68 = .ok (.invokevirtual 323, 3) := dk_182 1 67 (dk_at dksX0_count_2 16 rfl rfl)
theorem dX0_count_71 : decode cX0_count 71 = .ok (.ireturn, 1) := dk_172 (dk_at dksX0_count_2 19 rfl rfl)
theorem dX0_count_72 : decode cX0_count 72 = .ok (.aload_n 0, 1) := dk_42 (dk_at dksX0_count_2 20 rfl rfl)
theorem dX0_count_73 : decode cX0_count 73 = .ok (.invokevirtual 330, 3) := dk_182 1 74 (dk_at dksX0_count_2 21 rfl rfl)
theorem dX0_count_76 : decode cX0_count 76 = .ok (.ireturn, 1) := dk_172 (dk_at dksX0_count_3 0 rfl rfl)
theorem dX0_count_77 : decode cX0_count 77 = .ok (.aload_n 0, 1) := dk_42 (dk_at dksX0_count_3 1 rfl rfl)
theorem dX0_count_78 : decode cX0_count 78 = .ok (.getfield 133, 3) := dk_180 0 133 (dk_at dksX0_count_3 2 rfl rfl)
theorem dX0_count_81 : decode cX0_count 81 = .ok (.ireturn, 1) := dk_172 (dk_at dksX0_count_3 5 rfl rfl)
theorem dX0_count_82 : decode cX0_count 82 = .ok (.aload_n 0, 1) := dk_42 (dk_at dksX0_count_3 6 rfl rfl)
theorem dX0_count_83 : decode cX0_count 83 = .ok (.getfield 102, 3) := dk_180 0 102 (dk_at dksX0_count_3 7 rfl rfl)
theorem dX0_count_86 : decode cX0_count 86 = .ok (.ireturn, 1) := dk_172 (dk_at dksX0_count_3 10 rfl rfl)
theorem dX0_count_87 : decode cX0_count 87 = .ok (.aload_n 0, 1) := dk_42 (dk_at dksX0_count_3 11 rfl rfl)
theorem dX0_count_88 : decode cX0_count 88 = .ok (.getfield 136, 3) := dk_180 0 136 (dk_at dksX0_count_3 12 rfl rfl)
theorem dX0_count_91 : decode cX0_count 91 = .ok (.ireturn, 1) := dk_172 (dk_at dksX0_count_3 15 rfl rfl)
theorem dX0_count_92 : decode cX0_count 92 = .ok (.aload_n 0, 1) := dk_42 (dk_at dksX0_count_3 16 rfl rfl)
theorem dX0_count_93 : decode cX0_count 93 = .ok (.getfield 277, 3) := dk_180 1 21 (dk_at dksX0_count_3 17 rfl rfl)
theorem dX0_count_96 : decode cX0_count 96 = .ok (.ireturn, 1) := dk_172 (dk_at dksX0_count_3 20 rfl rfl)
theorem dX0_count_97 : decode cX0_count 97 = .ok (.bipush (-102), 2) := dk_16 154 (dk_at dksX0_count_3 21 rfl rfl)
theorem dX0_count_99 : decode cX0_count 99 = .ok (.ireturn, 1) := dk_172 (dk_at dksX0_count_3 23 rfl rfl)
abbrev cX0_digest : ByteArray := prog_1_method_63_code
def yX0_digest : MethodName := ⟨RX0, "digest", "()J"⟩
def dkwX0_digest_6 : List UInt8 := [180, 1, 97, 173]
abbrev dktX0_digest_6 : List UInt8 := dkwX0_digest_6 ++ []
def dkwX0_digest_5 : List UInt8 := [16, 9, 162, 0, 19, 42, 42, 27, 182, 1, 113, 133, 182, 1, 100, 132, 1, 1, 167, 255, 237, 42]
abbrev dktX0_digest_5 : List UInt8 := dkwX0_digest_5 ++ dktX0_digest_6
def dkwX0_digest_4 : List UInt8 := [162, 0, 20, 42, 42, 180, 0, 41, 27, 46, 133, 182, 1, 100, 132, 1, 1, 167, 255, 234, 3, 60, 27]
abbrev dktX0_digest_4 : List UInt8 := dkwX0_digest_4 ++ dktX0_digest_5
def dkwX0_digest_3 : List UInt8 := [42, 42, 180, 0, 34, 27, 50, 182, 1, 110, 132, 1, 1, 167, 255, 235, 3, 60, 27, 42, 180, 0, 102]
abbrev dktX0_digest_3 : List UInt8 := dkwX0_digest_3 ++ dktX0_digest_4
def dkwX0_digest_2 : List UInt8 := [162, 0, 14, 42, 27, 182, 1, 106, 132, 1, 1, 167, 255, 240, 3, 60, 27, 42, 180, 0, 130, 162, 0, 19]
abbrev dktX0_digest_2 : List UInt8 := dkwX0_digest_2 ++ dktX0_digest_3
def dkwX0_digest_1 : List UInt8 := [180, 0, 31, 27, 46, 133, 182, 1, 100, 132, 1, 1, 167, 255, 230, 3, 60, 27, 42, 180, 0, 124]
abbrev dktX0_digest_1 : List UInt8 := dkwX0_digest_1 ++ dktX0_digest_2
def dkwX0_digest_0 : List UInt8 := [42, 20, 1, 104, 181, 1, 97, 3, 60, 27, 6, 162, 0, 27, 42, 182, 0, 159, 153, 0, 20, 42, 42]
abbrev dktX0_digest_0 : List UInt8 := dkwX0_digest_0 ++ dktX0_digest_1
theorem dksX0_digest_0 : cX0_digest.data.toList.drop 0 = dktX0_digest_0 := by decide +kernel
theorem dksX0_digest_1 : cX0_digest.data.toList.drop 23 = dktX0_digest_1 := dk_seg dksX0_digest_0 23 rfl rfl
theorem dksX0_digest_2 : cX0_digest.data.toList.drop 45 = dktX0_digest_2 := dk_seg dksX0_digest_1 22 rfl rfl
theorem dksX0_digest_3 : cX0_digest.data.toList.drop 69 = dktX0_digest_3 := dk_seg dksX0_digest_2 24 rfl rfl
theorem dksX0_digest_4 : cX0_digest.data.toList.drop 92 = dktX0_digest_4 := dk_seg dksX0_digest_3 23 rfl rfl
theorem dksX0_digest_5 : cX0_digest.data.toList.drop 115 = dktX0_digest_5 := dk_seg dksX0_digest_4 23 rfl rfl
theorem dksX0_digest_6 : cX0_digest.data.toList.drop 137 = dktX0_digest_6 := dk_seg dksX0_digest_5 22 rfl rfl
theorem dX0_digest_0 : decode cX0_digest 0 = .ok (.aload_n 0, 1) := dk_42 (dk_at dksX0_digest_0 0 rfl rfl)
theorem dX0_digest_1 : decode cX0_digest 1 = .ok (.ldc2_w 360, 3) := dk_20 1 104 (dk_at dksX0_digest_0 1 rfl rfl)
theorem dX0_digest_4 : decode cX0_digest 4 = .ok (.putfield 353, 3) := dk_181 1 97 (dk_at dksX0_digest_0 4 rfl rfl)
theorem dX0_digest_7 : decode cX0_digest 7 = .ok (.iconst 0, 1) := dk_3 (dk_at dksX0_digest_0 7 rfl rfl)
theorem dX0_digest_8 : decode cX0_digest 8 = .ok (.istore_n 1, 1) := dk_60 (dk_at dksX0_digest_0 8 rfl rfl)
theorem dX0_digest_9 : decode cX0_digest 9 = .ok (.iload_n 1, 1) := dk_27 (dk_at dksX0_digest_0 9 rfl rfl)
theorem dX0_digest_10 : decode cX0_digest 10 = .ok (.iconst 3, 1) := dk_6 (dk_at dksX0_digest_0 10 rfl rfl)
theorem dX0_digest_11 : decode cX0_digest 11 = .ok (.if_icmp .ge 27, 3) := dk_162 0 27 (dk_at dksX0_digest_0 11 rfl rfl)
theorem dX0_digest_14 : decode cX0_digest 14 = .ok (.aload_n 0, 1) := dk_42 (dk_at dksX0_digest_0 14 rfl rfl)
theorem dX0_digest_15 : decode cX0_digest 15 = .ok (.invokevirtual 159, 3) := dk_182 0 159 (dk_at dksX0_digest_0 15 rfl rfl)
theorem dX0_digest_18 : decode cX0_digest 18 = .ok (.ifCond .eq 20, 3) := dk_153 0 20 (dk_at dksX0_digest_0 18 rfl rfl)
theorem dX0_digest_21 : decode cX0_digest 21 = .ok (.aload_n 0, 1) := dk_42 (dk_at dksX0_digest_0 21 rfl rfl)
theorem dX0_digest_22 : decode cX0_digest 22 = .ok (.aload_n 0, 1) := dk_42 (dk_at dksX0_digest_0 22 rfl rfl)
theorem dX0_digest_23 : decode cX0_digest 23 = .ok (.getfield 31, 3) := dk_180 0 31 (dk_at dksX0_digest_1 0 rfl rfl)
theorem dX0_digest_26 : decode cX0_digest 26 = .ok (.iload_n 1, 1) := dk_27 (dk_at dksX0_digest_1 3 rfl rfl)
theorem dX0_digest_27 : decode cX0_digest 27 = .ok (.iaload, 1) := dk_46 (dk_at dksX0_digest_1 4 rfl rfl)
theorem dX0_digest_28 : decode cX0_digest 28 = .ok (.i2l, 1) := dk_133 (dk_at dksX0_digest_1 5 rfl rfl)
theorem dX0_digest_29 : decode cX0_digest 29 = .ok (.invokevirtual 356, 3) := dk_182 1 100 (dk_at dksX0_digest_1 6 rfl rfl)
theorem dX0_digest_32 : decode cX0_digest 32 = .ok (.iinc 1 1, 3) := dk_132 1 1 (dk_at dksX0_digest_1 9 rfl rfl)
theorem dX0_digest_35 : decode cX0_digest 35 = .ok (.goto (-26), 3) := dk_167 255 230 (dk_at dksX0_digest_1 12 rfl rfl)
theorem dX0_digest_38 : decode cX0_digest 38 = .ok (.iconst 0, 1) := dk_3 (dk_at dksX0_digest_1 15 rfl rfl)
theorem dX0_digest_39 : decode cX0_digest 39 = .ok (.istore_n 1, 1) := dk_60 (dk_at dksX0_digest_1 16 rfl rfl)
theorem dX0_digest_40 : decode cX0_digest 40 = .ok (.iload_n 1, 1) := dk_27 (dk_at dksX0_digest_1 17 rfl rfl)
theorem dX0_digest_41 : decode cX0_digest 41 = .ok (.aload_n 0, 1) := dk_42 (dk_at dksX0_digest_1 18 rfl rfl)
theorem dX0_digest_42 : decode cX0_digest 42 = .ok (.getfield 124, 3) := dk_180 0 124 (dk_at dksX0_digest_1 19 rfl rfl)
theorem dX0_digest_45 : decode cX0_digest 45 = .ok (.if_icmp .ge 14, 3) := dk_162 0 14 (dk_at dksX0_digest_2 0 rfl rfl)
theorem dX0_digest_48 : decode cX0_digest 48 = .ok (.aload_n 0, 1) := dk_42 (dk_at dksX0_digest_2 3 rfl rfl)
theorem dX0_digest_49 : decode cX0_digest 49 = .ok (.iload_n 1, 1) := dk_27 (dk_at dksX0_digest_2 4 rfl rfl)
theorem dX0_digest_50 : decode cX0_digest 50 = .ok (.invokevirtual 362, 3) := dk_182 1 106 (dk_at dksX0_digest_2 5 rfl rfl)
theorem dX0_digest_53 : decode cX0_digest 53 = .ok (.iinc 1 1, 3) := dk_132 1 1 (dk_at dksX0_digest_2 8 rfl rfl)
theorem dX0_digest_56 : decode cX0_digest 56 = .ok (.goto (-16), 3) := dk_167 255 240 (dk_at dksX0_digest_2 11 rfl rfl)
theorem dX0_digest_59 : decode cX0_digest 59 = .ok (.iconst 0, 1) := dk_3 (dk_at dksX0_digest_2 14 rfl rfl)
theorem dX0_digest_60 : decode cX0_digest 60 = .ok (.istore_n 1, 1) := dk_60 (dk_at dksX0_digest_2 15 rfl rfl)
theorem dX0_digest_61 : decode cX0_digest 61 = .ok (.iload_n 1, 1) := dk_27 (dk_at dksX0_digest_2 16 rfl rfl)
theorem dX0_digest_62 : decode cX0_digest 62 = .ok (.aload_n 0, 1) := dk_42 (dk_at dksX0_digest_2 17 rfl rfl)
theorem dX0_digest_63 : decode cX0_digest 63 = .ok (.getfield 130, 3) := dk_180 0 130 (dk_at dksX0_digest_2 18 rfl rfl)
theorem dX0_digest_66 : decode cX0_digest 66 = .ok (.if_icmp .ge 19, 3) := dk_162 0 19 (dk_at dksX0_digest_2 21 rfl rfl)
theorem dX0_digest_69 : decode cX0_digest 69 = .ok (.aload_n 0, 1) := dk_42 (dk_at dksX0_digest_3 0 rfl rfl)
theorem dX0_digest_70 : decode cX0_digest 70 = .ok (.aload_n 0, 1) := dk_42 (dk_at dksX0_digest_3 1 rfl rfl)
theorem dX0_digest_71 : decode cX0_digest 71 = .ok (.getfield 34, 3) := dk_180 0 34 (dk_at dksX0_digest_3 2 rfl rfl)
theorem dX0_digest_74 : decode cX0_digest 74 = .ok (.iload_n 1, 1) := dk_27 (dk_at dksX0_digest_3 5 rfl rfl)
theorem dX0_digest_75 : decode cX0_digest 75 = .ok (.aaload, 1) := dk_50 (dk_at dksX0_digest_3 6 rfl rfl)
theorem dX0_digest_76 : decode cX0_digest 76 = .ok (.invokevirtual 366, 3) := dk_182 1 110 (dk_at dksX0_digest_3 7 rfl rfl)
theorem dX0_digest_79 : decode cX0_digest 79 = .ok (.iinc 1 1, 3) := dk_132 1 1 (dk_at dksX0_digest_3 10 rfl rfl)
theorem dX0_digest_82 : decode cX0_digest 82 = .ok (.goto (-21), 3) := dk_167 255 235 (dk_at dksX0_digest_3 13 rfl rfl)
theorem dX0_digest_85 : decode cX0_digest 85 = .ok (.iconst 0, 1) := dk_3 (dk_at dksX0_digest_3 16 rfl rfl)
theorem dX0_digest_86 : decode cX0_digest 86 = .ok (.istore_n 1, 1) := dk_60 (dk_at dksX0_digest_3 17 rfl rfl)
theorem dX0_digest_87 : decode cX0_digest 87 = .ok (.iload_n 1, 1) := dk_27 (dk_at dksX0_digest_3 18 rfl rfl)
theorem dX0_digest_88 : decode cX0_digest 88 = .ok (.aload_n 0, 1) := dk_42 (dk_at dksX0_digest_3 19 rfl rfl)
theorem dX0_digest_89 : decode cX0_digest 89 = .ok (.getfield 102, 3) := dk_180 0 102 (dk_at dksX0_digest_3 20 rfl rfl)
theorem dX0_digest_92 : decode cX0_digest 92 = .ok (.if_icmp .ge 20, 3) := dk_162 0 20 (dk_at dksX0_digest_4 0 rfl rfl)
theorem dX0_digest_95 : decode cX0_digest 95 = .ok (.aload_n 0, 1) := dk_42 (dk_at dksX0_digest_4 3 rfl rfl)
theorem dX0_digest_96 : decode cX0_digest 96 = .ok (.aload_n 0, 1) := dk_42 (dk_at dksX0_digest_4 4 rfl rfl)
theorem dX0_digest_97 : decode cX0_digest 97 = .ok (.getfield 41, 3) := dk_180 0 41 (dk_at dksX0_digest_4 5 rfl rfl)
theorem dX0_digest_100 : decode cX0_digest 100 = .ok (.iload_n 1, 1) := dk_27 (dk_at dksX0_digest_4 8 rfl rfl)
theorem dX0_digest_101 : decode cX0_digest 101 = .ok (.iaload, 1) := dk_46 (dk_at dksX0_digest_4 9 rfl rfl)
theorem dX0_digest_102 : decode cX0_digest 102 = .ok (.i2l, 1) := dk_133 (dk_at dksX0_digest_4 10 rfl rfl)
theorem dX0_digest_103 : decode cX0_digest 103 = .ok (.invokevirtual 356, 3) := dk_182 1 100 (dk_at dksX0_digest_4 11 rfl rfl)
theorem dX0_digest_106 : decode cX0_digest 106 = .ok (.iinc 1 1, 3) := dk_132 1 1 (dk_at dksX0_digest_4 14 rfl rfl)
theorem dX0_digest_109 : decode cX0_digest 109 = .ok (.goto (-22), 3) := dk_167 255 234 (dk_at dksX0_digest_4 17 rfl rfl)
theorem dX0_digest_112 : decode cX0_digest 112 = .ok (.iconst 0, 1) := dk_3 (dk_at dksX0_digest_4 20 rfl rfl)
theorem dX0_digest_113 : decode cX0_digest 113 = .ok (.istore_n 1, 1) := dk_60 (dk_at dksX0_digest_4 21 rfl rfl)
theorem dX0_digest_114 : decode cX0_digest 114 = .ok (.iload_n 1, 1) := dk_27 (dk_at dksX0_digest_4 22 rfl rfl)
theorem dX0_digest_115 : decode cX0_digest 115 = .ok (.bipush 9, 2) := dk_16 9 (dk_at dksX0_digest_5 0 rfl rfl)
theorem dX0_digest_117 : decode cX0_digest 117 = .ok (.if_icmp .ge 19, 3) := dk_162 0 19 (dk_at dksX0_digest_5 2 rfl rfl)
theorem dX0_digest_120 : decode cX0_digest 120 = .ok (.aload_n 0, 1) := dk_42 (dk_at dksX0_digest_5 5 rfl rfl)
theorem dX0_digest_121 : decode cX0_digest 121 = .ok (.aload_n 0, 1) := dk_42 (dk_at dksX0_digest_5 6 rfl rfl)
theorem dX0_digest_122 : decode cX0_digest 122 = .ok (.iload_n 1, 1) := dk_27 (dk_at dksX0_digest_5 7 rfl rfl)
theorem dX0_digest_123 : decode cX0_digest 123 = .ok (.invokevirtual 369, 3) := dk_182 1 113 (dk_at dksX0_digest_5 8 rfl rfl)
theorem dX0_digest_126 : decode cX0_digest 126 = .ok (.i2l, 1) := dk_133 (dk_at dksX0_digest_5 11 rfl rfl)
theorem dX0_digest_127 : decode cX0_digest 127 = .ok (.invokevirtual 356, 3) := dk_182 1 100 (dk_at dksX0_digest_5 12 rfl rfl)
theorem dX0_digest_130 : decode cX0_digest 130 = .ok (.iinc 1 1, 3) := dk_132 1 1 (dk_at dksX0_digest_5 15 rfl rfl)
theorem dX0_digest_133 : decode cX0_digest 133 = .ok (.goto (-19), 3) := dk_167 255 237 (dk_at dksX0_digest_5 18 rfl rfl)
theorem dX0_digest_136 : decode cX0_digest 136 = .ok (.aload_n 0, 1) := dk_42 (dk_at dksX0_digest_5 21 rfl rfl)
theorem dX0_digest_137 : decode cX0_digest 137 = .ok (.getfield 353, 3) := dk_180 1 97 (dk_at dksX0_digest_6 0 rfl rfl)
theorem dX0_digest_140 : decode cX0_digest 140 = .ok (.lreturn, 1) := dk_173 (dk_at dksX0_digest_6 3 rfl rfl)
abbrev cX0_note : ByteArray := prog_1_method_60_code
def yX0_note : MethodName := ⟨RX0, "note", "(J)V"⟩
def dkwX0_note_0 : List UInt8 := [42, 20, 1, 95, 42, 180, 1, 97, 105, 31, 97, 181, 1, 97, 177]
abbrev dktX0_note_0 : List UInt8 := dkwX0_note_0 ++ []
theorem dksX0_note_0 : cX0_note.data.toList.drop 0 = dktX0_note_0 := by decide +kernel
theorem dX0_note_0 : decode cX0_note 0 = .ok (.aload_n 0, 1) := dk_42 (dk_at dksX0_note_0 0 rfl rfl)
theorem dX0_note_1 : decode cX0_note 1 = .ok (.ldc2_w 351, 3) := dk_20 1 95 (dk_at dksX0_note_0 1 rfl rfl)
theorem dX0_note_4 : decode cX0_note 4 = .ok (.aload_n 0, 1) := dk_42 (dk_at dksX0_note_0 4 rfl rfl)
theorem dX0_note_5 : decode cX0_note 5 = .ok (.getfield 353, 3) := dk_180 1 97 (dk_at dksX0_note_0 5 rfl rfl)
theorem dX0_note_8 : decode cX0_note 8 = .ok (.lmul, 1) := dk_105 (dk_at dksX0_note_0 8 rfl rfl)
theorem dX0_note_9 : decode cX0_note 9 = .ok (.lload_n 1, 1) := dk_31 (dk_at dksX0_note_0 9 rfl rfl)
theorem dX0_note_10 : decode cX0_note 10 = .ok (.ladd, 1) := dk_97 (dk_at dksX0_note_0 10 rfl rfl)
theorem dX0_note_11 : decode cX0_note 11 = .ok (.putfield 353, 3) := dk_181 1 97 (dk_at dksX0_note_0 11 rfl rfl)
theorem dX0_note_14 : decode cX0_note 14 = .ok (.return_, 1) := dk_177 (dk_at dksX0_note_0 14 rfl rfl)
abbrev cX0_noteLesson : ByteArray := prog_1_method_61_code
def yX0_noteLesson : MethodName := ⟨RX0, "noteLesson", "(I)V"⟩
def dkwX0_noteLesson_2 : List UInt8 := [182, 1, 36, 133, 182, 1, 100, 132, 2, 1, 167, 255, 225, 177]
abbrev dktX0_noteLesson_2 : List UInt8 := dkwX0_noteLesson_2 ++ []
def dkwX0_noteLesson_1 : List UInt8 := [3, 61, 28, 16, 13, 162, 0, 31, 28, 5, 161, 0, 9, 28, 16, 9, 164, 0, 14, 42, 42, 27, 28]
abbrev dktX0_noteLesson_1 : List UInt8 := dkwX0_noteLesson_1 ++ dktX0_noteLesson_2
def dkwX0_noteLesson_0 : List UInt8 := [3, 61, 28, 6, 162, 0, 20, 42, 42, 27, 28, 182, 0, 155, 133, 182, 1, 100, 132, 2, 1, 167, 255, 237]
abbrev dktX0_noteLesson_0 : List UInt8 := dkwX0_noteLesson_0 ++ dktX0_noteLesson_1
theorem dksX0_noteLesson_0 : cX0_noteLesson.data.toList.drop 0 = dktX0_noteLesson_0 := by decide +kernel
theorem dksX0_noteLesson_1 : cX0_noteLesson.data.toList.drop 24 = dktX0_noteLesson_1 := dk_seg dksX0_noteLesson_0 24 rfl rfl
theorem dksX0_noteLesson_2 : cX0_noteLesson.data.toList.drop 47 = dktX0_noteLesson_2 := dk_seg dksX0_noteLesson_1 23 rfl rfl
theorem dX0_noteLesson_0 : decode cX0_noteLesson 0 = .ok (.iconst 0, 1) := dk_3 (dk_at dksX0_noteLesson_0 0 rfl rfl)
theorem dX0_noteLesson_1 : decode cX0_noteLesson 1 = .ok (.istore_n 2, 1) := dk_61 (dk_at dksX0_noteLesson_0 1 rfl rfl)
theorem dX0_noteLesson_2 : decode cX0_noteLesson 2 = .ok (.iload_n 2, 1) := dk_28 (dk_at dksX0_noteLesson_0 2 rfl rfl)
theorem dX0_noteLesson_3 : decode cX0_noteLesson 3 = .ok (.iconst 3, 1) := dk_6 (dk_at dksX0_noteLesson_0 3 rfl rfl)
theorem dX0_noteLesson_4 : decode cX0_noteLesson 4 = .ok (.if_icmp .ge 20, 3) := dk_162 0 20 (dk_at dksX0_noteLesson_0 4 rfl rfl)
theorem dX0_noteLesson_7 : decode cX0_noteLesson 7 = .ok (.aload_n 0, 1) := dk_42 (dk_at dksX0_noteLesson_0 7 rfl rfl)
theorem dX0_noteLesson_8 : decode cX0_noteLesson 8 = .ok (.aload_n 0, 1) := dk_42 (dk_at dksX0_noteLesson_0 8 rfl rfl)
theorem dX0_noteLesson_9 : decode cX0_noteLesson 9 = .ok (.iload_n 1, 1) := dk_27 (dk_at dksX0_noteLesson_0 9 rfl rfl)
theorem dX0_noteLesson_10 : decode cX0_noteLesson 10 = .ok (.iload_n 2, 1) := dk_28 (dk_at dksX0_noteLesson_0 10 rfl rfl)
theorem dX0_noteLesson_11 : decode cX0_noteLesson 11 = .ok (.invokevirtual 155, 3) := dk_182 0 155 (dk_at dksX0_noteLesson_0 11 rfl rfl)
theorem dX0_noteLesson_14 : decode cX0_noteLesson 14 = .ok (.i2l, 1) := dk_133 (dk_at dksX0_noteLesson_0 14 rfl rfl)
theorem dX0_noteLesson_15 : decode cX0_noteLesson 15 = .ok (.invokevirtual 356, 3) := dk_182 1 100 (dk_at dksX0_noteLesson_0 15 rfl rfl)
theorem dX0_noteLesson_18 : decode cX0_noteLesson 18 = .ok (.iinc 2 1, 3) := dk_132 2 1 (dk_at dksX0_noteLesson_0 18 rfl rfl)
theorem dX0_noteLesson_21 : decode cX0_noteLesson 21 = .ok (.goto (-19), 3) := dk_167 255 237 (dk_at dksX0_noteLesson_0 21 rfl rfl)
theorem dX0_noteLesson_24 : decode cX0_noteLesson 24 = .ok (.iconst 0, 1) := dk_3 (dk_at dksX0_noteLesson_1 0 rfl rfl)
theorem dX0_noteLesson_25 : decode cX0_noteLesson 25 = .ok (.istore_n 2, 1) := dk_61 (dk_at dksX0_noteLesson_1 1 rfl rfl)
theorem dX0_noteLesson_26 : decode cX0_noteLesson 26 = .ok (.iload_n 2, 1) := dk_28 (dk_at dksX0_noteLesson_1 2 rfl rfl)
theorem dX0_noteLesson_27 : decode cX0_noteLesson 27 = .ok (.bipush 13, 2) := dk_16 13 (dk_at dksX0_noteLesson_1 3 rfl rfl)
theorem dX0_noteLesson_29 : decode cX0_noteLesson 29 = .ok (.if_icmp .ge 31, 3) := dk_162 0 31 (dk_at dksX0_noteLesson_1 5 rfl rfl)
theorem dX0_noteLesson_32 : decode cX0_noteLesson 32 = .ok (.iload_n 2, 1) := dk_28 (dk_at dksX0_noteLesson_1 8 rfl rfl)
theorem dX0_noteLesson_33 : decode cX0_noteLesson 33 = .ok (.iconst 2, 1) := dk_5 (dk_at dksX0_noteLesson_1 9 rfl rfl)
theorem dX0_noteLesson_34 : decode cX0_noteLesson 34 = .ok (.if_icmp .lt 9, 3) := dk_161 0 9 (dk_at dksX0_noteLesson_1 10 rfl rfl)
theorem dX0_noteLesson_37 : decode cX0_noteLesson 37 = .ok (.iload_n 2, 1) := dk_28 (dk_at dksX0_noteLesson_1 13 rfl rfl)
theorem dX0_noteLesson_38 : decode cX0_noteLesson 38 = .ok (.bipush 9, 2) := dk_16 9 (dk_at dksX0_noteLesson_1 14 rfl rfl)
theorem dX0_noteLesson_40 : decode cX0_noteLesson 40 = .ok (.if_icmp .le 14, 3) := dk_164 0 14 (dk_at dksX0_noteLesson_1 16 rfl rfl)
theorem dX0_noteLesson_43 : decode cX0_noteLesson 43 = .ok (.aload_n 0, 1) := dk_42 (dk_at dksX0_noteLesson_1 19 rfl rfl)
theorem dX0_noteLesson_44 : decode cX0_noteLesson 44 = .ok (.aload_n 0, 1) := dk_42 (dk_at dksX0_noteLesson_1 20 rfl rfl)
theorem dX0_noteLesson_45 : decode cX0_noteLesson 45 = .ok (.iload_n 1, 1) := dk_27 (dk_at dksX0_noteLesson_1 21 rfl rfl)
theorem dX0_noteLesson_46 : decode cX0_noteLesson 46 = .ok (.iload_n 2, 1) := dk_28 (dk_at dksX0_noteLesson_1 22 rfl rfl)
theorem dX0_noteLesson_47 : decode cX0_noteLesson 47 = .ok (.invokevirtual 292, 3) := dk_182 1 36 (dk_at dksX0_noteLesson_2 0 rfl rfl)
theorem dX0_noteLesson_50 : decode cX0_noteLesson 50 = .ok (.i2l, 1) := dk_133 (dk_at dksX0_noteLesson_2 3 rfl rfl)
theorem dX0_noteLesson_51 : decode cX0_noteLesson 51 = .ok (.invokevirtual 356, 3) := dk_182 1 100 (dk_at dksX0_noteLesson_2 4 rfl rfl)
theorem dX0_noteLesson_54 : decode cX0_noteLesson 54 = .ok (.iinc 2 1, 3) := dk_132 2 1 (dk_at dksX0_noteLesson_2 7 rfl rfl)
theorem dX0_noteLesson_57 : decode cX0_noteLesson 57 = .ok (.goto (-31), 3) := dk_167 255 225 (dk_at dksX0_noteLesson_2 10 rfl rfl)
theorem dX0_noteLesson_60 : decode cX0_noteLesson 60 = .ok (.return_, 1) := dk_177 (dk_at dksX0_noteLesson_2 13 rfl rfl)
abbrev cX0_notePrince : ByteArray := prog_1_method_62_code
def yX0_notePrince : MethodName := ⟨RX0, "notePrince", "(LBeatenInstead$Prince;)V"⟩
def dkwX0_notePrince_3 : List UInt8 := [182, 1, 100, 177]
abbrev dktX0_notePrince_3 : List UInt8 := dkwX0_notePrince_3 ++ []
def dkwX0_notePrince_2 : List UInt8 := [42, 43, 28, 182, 0, 226, 133, 182, 1, 100, 132, 2, 1, 167, 255, 234, 42, 42, 43, 182, 1, 51, 133]
abbrev dktX0_notePrince_2 : List UInt8 := dkwX0_notePrince_2 ++ dktX0_notePrince_3
def dkwX0_notePrince_1 : List UInt8 := [182, 0, 200, 133, 182, 1, 100, 132, 2, 1, 167, 255, 225, 3, 61, 28, 42, 180, 0, 124, 162, 0, 20, 42]
abbrev dktX0_notePrince_1 : List UInt8 := dkwX0_notePrince_1 ++ dktX0_notePrince_2
def dkwX0_notePrince_0 : List UInt8 := [3, 61, 28, 16, 13, 162, 0, 31, 28, 8, 161, 0, 9, 28, 16, 9, 164, 0, 14, 42, 42, 43, 28]
abbrev dktX0_notePrince_0 : List UInt8 := dkwX0_notePrince_0 ++ dktX0_notePrince_1
theorem dksX0_notePrince_0 : cX0_notePrince.data.toList.drop 0 = dktX0_notePrince_0 := by decide +kernel
theorem dksX0_notePrince_1 : cX0_notePrince.data.toList.drop 23 = dktX0_notePrince_1 := dk_seg dksX0_notePrince_0 23 rfl rfl
theorem dksX0_notePrince_2 : cX0_notePrince.data.toList.drop 47 = dktX0_notePrince_2 := dk_seg dksX0_notePrince_1 24 rfl rfl
theorem dksX0_notePrince_3 : cX0_notePrince.data.toList.drop 70 = dktX0_notePrince_3 := dk_seg dksX0_notePrince_2 23 rfl rfl
theorem dX0_notePrince_0 : decode cX0_notePrince 0 = .ok (.iconst 0, 1) := dk_3 (dk_at dksX0_notePrince_0 0 rfl rfl)
theorem dX0_notePrince_1 : decode cX0_notePrince 1 = .ok (.istore_n 2, 1) := dk_61 (dk_at dksX0_notePrince_0 1 rfl rfl)
theorem dX0_notePrince_2 : decode cX0_notePrince 2 = .ok (.iload_n 2, 1) := dk_28 (dk_at dksX0_notePrince_0 2 rfl rfl)
theorem dX0_notePrince_3 : decode cX0_notePrince 3 = .ok (.bipush 13, 2) := dk_16 13 (dk_at dksX0_notePrince_0 3 rfl rfl)
theorem dX0_notePrince_5 : decode cX0_notePrince 5 = .ok (.if_icmp .ge 31, 3) := dk_162 0 31 (dk_at dksX0_notePrince_0 5 rfl rfl)
theorem dX0_notePrince_8 : decode cX0_notePrince 8 = .ok (.iload_n 2, 1) := dk_28 (dk_at dksX0_notePrince_0 8 rfl rfl)
theorem dX0_notePrince_9 : decode cX0_notePrince 9 = .ok (.iconst 5, 1) := dk_8 (dk_at dksX0_notePrince_0 9 rfl rfl)
theorem dX0_notePrince_10 : decode cX0_notePrince 10 = .ok (.if_icmp .lt 9, 3) := dk_161 0 9 (dk_at dksX0_notePrince_0 10 rfl rfl)
theorem dX0_notePrince_13 : decode cX0_notePrince 13 = .ok (.iload_n 2, 1) := dk_28 (dk_at dksX0_notePrince_0 13 rfl rfl)
theorem dX0_notePrince_14 : decode cX0_notePrince 14 = .ok (.bipush 9, 2) := dk_16 9 (dk_at dksX0_notePrince_0 14 rfl rfl)
theorem dX0_notePrince_16 : decode cX0_notePrince 16 = .ok (.if_icmp .le 14, 3) := dk_164 0 14 (dk_at dksX0_notePrince_0 16 rfl rfl)
theorem dX0_notePrince_19 : decode cX0_notePrince 19 = .ok (.aload_n 0, 1) := dk_42 (dk_at dksX0_notePrince_0 19 rfl rfl)
theorem dX0_notePrince_20 : decode cX0_notePrince 20 = .ok (.aload_n 0, 1) := dk_42 (dk_at dksX0_notePrince_0 20 rfl rfl)
theorem dX0_notePrince_21 : decode cX0_notePrince 21 = .ok (.aload_n 1, 1) := dk_43 (dk_at dksX0_notePrince_0 21 rfl rfl)
theorem dX0_notePrince_22 : decode cX0_notePrince 22 = .ok (.iload_n 2, 1) := dk_28 (dk_at dksX0_notePrince_0 22 rfl rfl)
theorem dX0_notePrince_23 : decode cX0_notePrince 23 = .ok (.invokevirtual 200, 3) := dk_182 0 200 (dk_at dksX0_notePrince_1 0 rfl rfl)
theorem dX0_notePrince_26 : decode cX0_notePrince 26 = .ok (.i2l, 1) := dk_133 (dk_at dksX0_notePrince_1 3 rfl rfl)
theorem dX0_notePrince_27 : decode cX0_notePrince 27 = .ok (.invokevirtual 356, 3) := dk_182 1 100 (dk_at dksX0_notePrince_1 4 rfl rfl)
theorem dX0_notePrince_30 : decode cX0_notePrince 30 = .ok (.iinc 2 1, 3) := dk_132 2 1 (dk_at dksX0_notePrince_1 7 rfl rfl)
theorem dX0_notePrince_33 : decode cX0_notePrince 33 = .ok (.goto (-31), 3) := dk_167 255 225 (dk_at dksX0_notePrince_1 10 rfl rfl)
theorem dX0_notePrince_36 : decode cX0_notePrince 36 = .ok (.iconst 0, 1) := dk_3 (dk_at dksX0_notePrince_1 13 rfl rfl)
theorem dX0_notePrince_37 : decode cX0_notePrince 37 = .ok (.istore_n 2, 1) := dk_61 (dk_at dksX0_notePrince_1 14 rfl rfl)
theorem dX0_notePrince_38 : decode cX0_notePrince 38 = .ok (.iload_n 2, 1) := dk_28 (dk_at dksX0_notePrince_1 15 rfl rfl)
theorem dX0_notePrince_39 : decode cX0_notePrince 39 = .ok (.aload_n 0, 1) := dk_42 (dk_at dksX0_notePrince_1 16 rfl rfl)
theorem dX0_notePrince_40 : decode cX0_notePrince 40 = .ok (.getfield 124, 3) := dk_180 0 124 (dk_at dksX0_notePrince_1 17 rfl rfl)
theorem dX0_notePrince_43 : decode cX0_notePrince 43 = .ok (.if_icmp .ge 20, 3) := dk_162 0 20 (dk_at dksX0_notePrince_1 20 rfl rfl)
theorem dX0_notePrince_46 : decode cX0_notePrince 46 = .ok (.aload_n 0, 1) := dk_42 (dk_at dksX0_notePrince_1 23 rfl rfl)
theorem dX0_notePrince_47 : decode cX0_notePrince 47 = .ok (.aload_n 0, 1) := dk_42 (dk_at dksX0_notePrince_2 0 rfl rfl)
theorem dX0_notePrince_48 : decode cX0_notePrince 48 = .ok (.aload_n 1, 1) := dk_43 (dk_at dksX0_notePrince_2 1 rfl rfl)
theorem dX0_notePrince_49 : decode cX0_notePrince 49 = .ok (.iload_n 2, 1) := dk_28 (dk_at dksX0_notePrince_2 2 rfl rfl)
theorem dX0_notePrince_50 : decode cX0_notePrince 50 = .ok (.invokevirtual 226, 3) := dk_182 0 226 (dk_at dksX0_notePrince_2 3 rfl rfl)
theorem dX0_notePrince_53 : decode cX0_notePrince 53 = .ok (.i2l, 1) := dk_133 (dk_at dksX0_notePrince_2 6 rfl rfl)
theorem dX0_notePrince_54 : decode cX0_notePrince 54 = .ok (.invokevirtual 356, 3) := dk_182 1 100 (dk_at dksX0_notePrince_2 7 rfl rfl)
theorem dX0_notePrince_57 : decode cX0_notePrince 57 = .ok (.iinc 2 1, 3) := dk_132 2 1 (dk_at dksX0_notePrince_2 10 rfl rfl)
theorem dX0_notePrince_60 : decode cX0_notePrince 60 = .ok (.goto (-22), 3) := dk_167 255 234 (dk_at dksX0_notePrince_2 13 rfl rfl)
theorem dX0_notePrince_63 : decode cX0_notePrince 63 = .ok (.aload_n 0, 1) := dk_42 (dk_at dksX0_notePrince_2 16 rfl rfl)
theorem dX0_notePrince_64 : decode cX0_notePrince 64 = .ok (.aload_n 0, 1) := dk_42 (dk_at dksX0_notePrince_2 17 rfl rfl)
theorem dX0_notePrince_65 : decode cX0_notePrince 65 = .ok (.aload_n 1, 1) := dk_43 (dk_at dksX0_notePrince_2 18 rfl rfl)
theorem dX0_notePrince_66 : decode cX0_notePrince 66 = .ok (.invokevirtual 307, 3) := dk_182 1 51 (dk_at dksX0_notePrince_2 19 rfl rfl)
theorem dX0_notePrince_69 : decode cX0_notePrince 69 = .ok (.i2l, 1) := dk_133 (dk_at dksX0_notePrince_2 22 rfl rfl)
theorem dX0_notePrince_70 : decode cX0_notePrince 70 = .ok (.invokevirtual 356, 3) := dk_182 1 100 (dk_at dksX0_notePrince_3 0 rfl rfl)
theorem dX0_notePrince_73 : decode cX0_notePrince 73 = .ok (.return_, 1) := dk_177 (dk_at dksX0_notePrince_3 3 rfl rfl)
theorem q72 : (Jvm.Cond.initialized "BeatenInstead") ∈ lw_all := lw_g (lw_at lw_m1 1 rfl) rfl
theorem q88 : (Jvm.Cond.instantiable "BeatenInstead" (35 : Nat)) ∈ lw_all := lw_g (lw_at lw_m1 17 rfl) rfl
theorem q90 : (Jvm.Cond.instanceMethod ({ cls := "BeatenInstead", name := "<init>", desc := "()V" } : Jvm.MethodName)) ∈ lw_all := lw_g (lw_at lw_m1 19 rfl) rfl
theorem q91 : (Jvm.Cond.code ({ cls := "BeatenInstead", name := "<init>", desc := "()V" } : Jvm.MethodName) prog_1_method_4_code (1 : Nat) (Option.none : Option Jvm.ClassFile.FieldType)) ∈ lw_all := lw_g (lw_at lw_m1 20 rfl) rfl
theorem q92 : (Jvm.Cond.methodLink "BeatenInstead" (19 : Nat) ({ cls := "java/lang/Object", name := "<init>", desc := "()V" } : Jvm.MethodName)) ∈ lw_all := lw_g (lw_at lw_m1 21 rfl) rfl
theorem q95 : (Jvm.Cond.classLink "BeatenInstead" (1 : Nat) "BeatenInstead$Prince") ∈ lw_all := lw_g (lw_at lw_m1 24 rfl) rfl
theorem q97 : (Jvm.Cond.fieldLink "BeatenInstead" (124 : Nat) "BeatenInstead" "lessons" "I") ∈ lw_all := lw_g (lw_at lw_m1 26 rfl) rfl
theorem q98 : (Jvm.Cond.fieldLink "BeatenInstead" (127 : Nat) "BeatenInstead" "limit" "I") ∈ lw_all := lw_g (lw_at lw_m1 27 rfl) rfl
theorem q99 : (Jvm.Cond.fieldLink "BeatenInstead" (136 : Nat) "BeatenInstead" "schoolsRead" "I") ∈ lw_all := lw_g (lw_at lw_m1 28 rfl) rfl
theorem q100 : (Jvm.Cond.fieldLink "BeatenInstead" (24 : Nat) "BeatenInstead" "hard" "[I") ∈ lw_all := lw_g (lw_at lw_m1 29 rfl) rfl
theorem q101 : (Jvm.Cond.fieldLink "BeatenInstead" (28 : Nat) "BeatenInstead" "blows" "[I") ∈ lw_all := lw_g (lw_at lw_m1 30 rfl) rfl
theorem q102 : (Jvm.Cond.fieldLink "BeatenInstead" (31 : Nat) "BeatenInstead" "stripes" "[I") ∈ lw_all := lw_g (lw_at lw_m1 31 rfl) rfl
theorem q103 : (Jvm.Cond.fieldLink "BeatenInstead" (34 : Nat) "BeatenInstead" "princes" "[LBeatenInstead$Prince;") ∈ lw_all := lw_g (lw_at lw_m1 32 rfl) rfl
theorem q104 : (Jvm.Cond.fieldLink "BeatenInstead" (130 : Nat) "BeatenInstead" "many" "I") ∈ lw_all := lw_g (lw_at lw_m1 33 rfl) rfl
theorem q105 : (Jvm.Cond.fieldLink "BeatenInstead" (38 : Nat) "BeatenInstead" "fond" "[I") ∈ lw_all := lw_g (lw_at lw_m1 34 rfl) rfl
theorem q106 : (Jvm.Cond.fieldLink "BeatenInstead" (41 : Nat) "BeatenInstead" "page" "[I") ∈ lw_all := lw_g (lw_at lw_m1 35 rfl) rfl
theorem q107 : (Jvm.Cond.fieldLink "BeatenInstead" (102 : Nat) "BeatenInstead" "pageMany" "I") ∈ lw_all := lw_g (lw_at lw_m1 36 rfl) rfl
theorem q108 : (Jvm.Cond.fieldLink "BeatenInstead" (277 : Nat) "BeatenInstead" "orderDone" "I") ∈ lw_all := lw_g (lw_at lw_m1 37 rfl) rfl
theorem q109 : (Jvm.Cond.fieldLink "BeatenInstead" (44 : Nat) "BeatenInstead" "order" "[I") ∈ lw_all := lw_g (lw_at lw_m1 38 rfl) rfl
theorem q110 : (Jvm.Cond.fieldLink "BeatenInstead" (47 : Nat) "BeatenInstead" "bestOrder" "[I") ∈ lw_all := lw_g (lw_at lw_m1 39 rfl) rfl
theorem q111 : (Jvm.Cond.fieldLink "BeatenInstead" (236 : Nat) "BeatenInstead" "orderMany" "I") ∈ lw_all := lw_g (lw_at lw_m1 40 rfl) rfl
theorem q112 : (Jvm.Cond.fieldLink "BeatenInstead" (243 : Nat) "BeatenInstead" "bestMean" "J") ∈ lw_all := lw_g (lw_at lw_m1 41 rfl) rfl
theorem q113 : (Jvm.Cond.fieldLink "BeatenInstead" (50 : Nat) "BeatenInstead" "matched" "[I") ∈ lw_all := lw_g (lw_at lw_m1 42 rfl) rfl
theorem q114 : (Jvm.Cond.fieldLink "BeatenInstead" (53 : Nat) "BeatenInstead" "bestMatch" "[I") ∈ lw_all := lw_g (lw_at lw_m1 43 rfl) rfl
theorem q115 : (Jvm.Cond.fieldLink "BeatenInstead" (56 : Nat) "BeatenInstead" "heardPrince" "[I") ∈ lw_all := lw_g (lw_at lw_m1 44 rfl) rfl
theorem q116 : (Jvm.Cond.fieldLink "BeatenInstead" (59 : Nat) "BeatenInstead" "heardLesson" "[I") ∈ lw_all := lw_g (lw_at lw_m1 45 rfl) rfl
theorem q117 : (Jvm.Cond.fieldLink "BeatenInstead" (62 : Nat) "BeatenInstead" "heardLearnt" "[Z") ∈ lw_all := lw_g (lw_at lw_m1 46 rfl) rfl
theorem q118 : (Jvm.Cond.fieldLink "BeatenInstead" (133 : Nat) "BeatenInstead" "heardMany" "I") ∈ lw_all := lw_g (lw_at lw_m1 47 rfl) rfl
theorem q119 : (Jvm.Cond.fieldLink "BeatenInstead" (312 : Nat) "BeatenInstead" "drawn" "I") ∈ lw_all := lw_g (lw_at lw_m1 48 rfl) rfl
theorem q120 : (Jvm.Cond.fieldLink "BeatenInstead" (66 : Nat) "BeatenInstead" "savedFond" "[I") ∈ lw_all := lw_g (lw_at lw_m1 49 rfl) rfl
theorem q121 : (Jvm.Cond.fieldLink "BeatenInstead" (69 : Nat) "BeatenInstead" "savedStripes" "[I") ∈ lw_all := lw_g (lw_at lw_m1 50 rfl) rfl
theorem q122 : (Jvm.Cond.fieldLink "BeatenInstead" (72 : Nat) "BeatenInstead" "savedLearnt" "[I") ∈ lw_all := lw_g (lw_at lw_m1 51 rfl) rfl
theorem q123 : (Jvm.Cond.fieldLink "BeatenInstead" (75 : Nat) "BeatenInstead" "keptFond" "[I") ∈ lw_all := lw_g (lw_at lw_m1 52 rfl) rfl
theorem q124 : (Jvm.Cond.fieldLink "BeatenInstead" (78 : Nat) "BeatenInstead" "keptStripes" "[I") ∈ lw_all := lw_g (lw_at lw_m1 53 rfl) rfl
theorem q125 : (Jvm.Cond.fieldLink "BeatenInstead" (81 : Nat) "BeatenInstead" "keptPrince" "[I") ∈ lw_all := lw_g (lw_at lw_m1 54 rfl) rfl
theorem q126 : (Jvm.Cond.fieldLink "BeatenInstead" (84 : Nat) "BeatenInstead" "keptLesson" "[I") ∈ lw_all := lw_g (lw_at lw_m1 55 rfl) rfl
theorem q127 : (Jvm.Cond.fieldLink "BeatenInstead" (87 : Nat) "BeatenInstead" "keptIs" "[Z") ∈ lw_all := lw_g (lw_at lw_m1 56 rfl) rfl
theorem q128 : (Jvm.Cond.fieldLink "BeatenInstead" (345 : Nat) "BeatenInstead" "keptHeard" "I") ∈ lw_all := lw_g (lw_at lw_m1 57 rfl) rfl
theorem q129 : (Jvm.Cond.fieldLink "BeatenInstead" (348 : Nat) "BeatenInstead" "keptMany" "I") ∈ lw_all := lw_g (lw_at lw_m1 58 rfl) rfl
theorem q130 : (Jvm.Cond.fieldLink "BeatenInstead" (90 : Nat) "BeatenInstead" "keptSchool" "I") ∈ lw_all := lw_g (lw_at lw_m1 59 rfl) rfl
theorem q131 : (Jvm.Cond.fieldLink "BeatenInstead" (353 : Nat) "BeatenInstead" "h" "J") ∈ lw_all := lw_g (lw_at lw_m1 60 rfl) rfl
theorem q132 : (Jvm.Cond.lays "BeatenInstead" "BeatenInstead" "lessons" "I") ∈ lw_all := lw_g (lw_at lw_m1 61 rfl) rfl
theorem q133 : (Jvm.Cond.soleField "BeatenInstead" "lessons") ∈ lw_all := lw_g (lw_at lw_m1 62 rfl) rfl
theorem q134 : (Jvm.Cond.lays "BeatenInstead" "BeatenInstead" "limit" "I") ∈ lw_all := lw_g (lw_at lw_m1 63 rfl) rfl
theorem q135 : (Jvm.Cond.soleField "BeatenInstead" "limit") ∈ lw_all := lw_g (lw_at lw_m1 64 rfl) rfl
theorem q136 : (Jvm.Cond.lays "BeatenInstead" "BeatenInstead" "schoolsRead" "I") ∈ lw_all := lw_g (lw_at lw_m1 65 rfl) rfl
theorem q137 : (Jvm.Cond.soleField "BeatenInstead" "schoolsRead") ∈ lw_all := lw_g (lw_at lw_m1 66 rfl) rfl
theorem q138 : (Jvm.Cond.laysFinal "BeatenInstead" "BeatenInstead" "hard" "[I") ∈ lw_all := lw_g (lw_at lw_m1 67 rfl) rfl
theorem q139 : (Jvm.Cond.soleField "BeatenInstead" "hard") ∈ lw_all := lw_g (lw_at lw_m1 68 rfl) rfl
theorem q140 : (Jvm.Cond.laysFinal "BeatenInstead" "BeatenInstead" "blows" "[I") ∈ lw_all := lw_g (lw_at lw_m1 69 rfl) rfl
theorem q141 : (Jvm.Cond.soleField "BeatenInstead" "blows") ∈ lw_all := lw_g (lw_at lw_m1 70 rfl) rfl
theorem q142 : (Jvm.Cond.laysFinal "BeatenInstead" "BeatenInstead" "stripes" "[I") ∈ lw_all := lw_g (lw_at lw_m1 71 rfl) rfl
theorem q143 : (Jvm.Cond.soleField "BeatenInstead" "stripes") ∈ lw_all := lw_g (lw_at lw_m1 72 rfl) rfl
theorem q144 : (Jvm.Cond.laysFinal "BeatenInstead" "BeatenInstead" "princes" "[LBeatenInstead$Prince;") ∈ lw_all := lw_g (lw_at lw_m1 73 rfl) rfl
theorem q145 : (Jvm.Cond.soleField "BeatenInstead" "princes") ∈ lw_all := lw_g (lw_at lw_m1 74 rfl) rfl
theorem q146 : (Jvm.Cond.lays "BeatenInstead" "BeatenInstead" "many" "I") ∈ lw_all := lw_g (lw_at lw_m1 75 rfl) rfl
theorem q147 : (Jvm.Cond.soleField "BeatenInstead" "many") ∈ lw_all := lw_g (lw_at lw_m1 76 rfl) rfl
theorem q148 : (Jvm.Cond.laysFinal "BeatenInstead" "BeatenInstead" "fond" "[I") ∈ lw_all := lw_g (lw_at lw_m1 77 rfl) rfl
theorem q149 : (Jvm.Cond.soleField "BeatenInstead" "fond") ∈ lw_all := lw_g (lw_at lw_m1 78 rfl) rfl
theorem q150 : (Jvm.Cond.laysFinal "BeatenInstead" "BeatenInstead" "page" "[I") ∈ lw_all := lw_g (lw_at lw_m1 79 rfl) rfl
theorem q151 : (Jvm.Cond.soleField "BeatenInstead" "page") ∈ lw_all := lw_g (lw_at lw_m1 80 rfl) rfl
theorem q152 : (Jvm.Cond.lays "BeatenInstead" "BeatenInstead" "pageMany" "I") ∈ lw_all := lw_g (lw_at lw_m1 81 rfl) rfl
theorem q153 : (Jvm.Cond.soleField "BeatenInstead" "pageMany") ∈ lw_all := lw_g (lw_at lw_m1 82 rfl) rfl
theorem q154 : (Jvm.Cond.lays "BeatenInstead" "BeatenInstead" "orderDone" "I") ∈ lw_all := lw_g (lw_at lw_m1 83 rfl) rfl
theorem q155 : (Jvm.Cond.soleField "BeatenInstead" "orderDone") ∈ lw_all := lw_g (lw_at lw_m1 84 rfl) rfl
theorem q156 : (Jvm.Cond.laysFinal "BeatenInstead" "BeatenInstead" "order" "[I") ∈ lw_all := lw_g (lw_at lw_m1 85 rfl) rfl
theorem q157 : (Jvm.Cond.soleField "BeatenInstead" "order") ∈ lw_all := lw_g (lw_at lw_m1 86 rfl) rfl
theorem q158 : (Jvm.Cond.laysFinal "BeatenInstead" "BeatenInstead" "bestOrder" "[I") ∈ lw_all := lw_g (lw_at lw_m1 87 rfl) rfl
theorem q159 : (Jvm.Cond.soleField "BeatenInstead" "bestOrder") ∈ lw_all := lw_g (lw_at lw_m1 88 rfl) rfl
theorem q160 : (Jvm.Cond.lays "BeatenInstead" "BeatenInstead" "orderMany" "I") ∈ lw_all := lw_g (lw_at lw_m1 89 rfl) rfl
theorem q161 : (Jvm.Cond.soleField "BeatenInstead" "orderMany") ∈ lw_all := lw_g (lw_at lw_m1 90 rfl) rfl
theorem q162 : (Jvm.Cond.lays "BeatenInstead" "BeatenInstead" "bestMean" "J") ∈ lw_all := lw_g (lw_at lw_m1 91 rfl) rfl
theorem q163 : (Jvm.Cond.soleField "BeatenInstead" "bestMean") ∈ lw_all := lw_g (lw_at lw_m1 92 rfl) rfl
theorem q164 : (Jvm.Cond.laysFinal "BeatenInstead" "BeatenInstead" "matched" "[I") ∈ lw_all := lw_g (lw_at lw_m1 93 rfl) rfl
theorem q165 : (Jvm.Cond.soleField "BeatenInstead" "matched") ∈ lw_all := lw_g (lw_at lw_m1 94 rfl) rfl
theorem q166 : (Jvm.Cond.laysFinal "BeatenInstead" "BeatenInstead" "bestMatch" "[I") ∈ lw_all := lw_g (lw_at lw_m1 95 rfl) rfl
theorem q167 : (Jvm.Cond.soleField "BeatenInstead" "bestMatch") ∈ lw_all := lw_g (lw_at lw_m1 96 rfl) rfl
theorem q168 : (Jvm.Cond.laysFinal "BeatenInstead" "BeatenInstead" "heardPrince" "[I") ∈ lw_all := lw_g (lw_at lw_m1 97 rfl) rfl
theorem q169 : (Jvm.Cond.soleField "BeatenInstead" "heardPrince") ∈ lw_all := lw_g (lw_at lw_m1 98 rfl) rfl
theorem q170 : (Jvm.Cond.laysFinal "BeatenInstead" "BeatenInstead" "heardLesson" "[I") ∈ lw_all := lw_g (lw_at lw_m1 99 rfl) rfl
theorem q171 : (Jvm.Cond.soleField "BeatenInstead" "heardLesson") ∈ lw_all := lw_g (lw_at lw_m1 100 rfl) rfl
theorem q172 : (Jvm.Cond.laysFinal "BeatenInstead" "BeatenInstead" "heardLearnt" "[Z") ∈ lw_all := lw_g (lw_at lw_m1 101 rfl) rfl
theorem q173 : (Jvm.Cond.soleField "BeatenInstead" "heardLearnt") ∈ lw_all := lw_g (lw_at lw_m1 102 rfl) rfl
theorem q174 : (Jvm.Cond.lays "BeatenInstead" "BeatenInstead" "heardMany" "I") ∈ lw_all := lw_g (lw_at lw_m1 103 rfl) rfl
theorem q175 : (Jvm.Cond.soleField "BeatenInstead" "heardMany") ∈ lw_all := lw_g (lw_at lw_m1 104 rfl) rfl
theorem q176 : (Jvm.Cond.lays "BeatenInstead" "BeatenInstead" "drawn" "I") ∈ lw_all := lw_g (lw_at lw_m1 105 rfl) rfl
theorem q177 : (Jvm.Cond.soleField "BeatenInstead" "drawn") ∈ lw_all := lw_g (lw_at lw_m1 106 rfl) rfl
theorem q178 : (Jvm.Cond.laysFinal "BeatenInstead" "BeatenInstead" "savedFond" "[I") ∈ lw_all := lw_g (lw_at lw_m1 107 rfl) rfl
theorem q179 : (Jvm.Cond.soleField "BeatenInstead" "savedFond") ∈ lw_all := lw_g (lw_at lw_m1 108 rfl) rfl
theorem q180 : (Jvm.Cond.laysFinal "BeatenInstead" "BeatenInstead" "savedStripes" "[I") ∈ lw_all := lw_g (lw_at lw_m1 109 rfl) rfl
theorem q181 : (Jvm.Cond.soleField "BeatenInstead" "savedStripes") ∈ lw_all := lw_g (lw_at lw_m1 110 rfl) rfl
theorem q182 : (Jvm.Cond.laysFinal "BeatenInstead" "BeatenInstead" "savedLearnt" "[I") ∈ lw_all := lw_g (lw_at lw_m1 111 rfl) rfl
theorem q183 : (Jvm.Cond.soleField "BeatenInstead" "savedLearnt") ∈ lw_all := lw_g (lw_at lw_m1 112 rfl) rfl
theorem q184 : (Jvm.Cond.laysFinal "BeatenInstead" "BeatenInstead" "keptFond" "[I") ∈ lw_all := lw_g (lw_at lw_m1 113 rfl) rfl
theorem q185 : (Jvm.Cond.soleField "BeatenInstead" "keptFond") ∈ lw_all := lw_g (lw_at lw_m1 114 rfl) rfl
theorem q186 : (Jvm.Cond.laysFinal "BeatenInstead" "BeatenInstead" "keptStripes" "[I") ∈ lw_all := lw_g (lw_at lw_m1 115 rfl) rfl
theorem q187 : (Jvm.Cond.soleField "BeatenInstead" "keptStripes") ∈ lw_all := lw_g (lw_at lw_m1 116 rfl) rfl
theorem q188 : (Jvm.Cond.laysFinal "BeatenInstead" "BeatenInstead" "keptPrince" "[I") ∈ lw_all := lw_g (lw_at lw_m1 117 rfl) rfl
theorem q189 : (Jvm.Cond.soleField "BeatenInstead" "keptPrince") ∈ lw_all := lw_g (lw_at lw_m1 118 rfl) rfl
theorem q190 : (Jvm.Cond.laysFinal "BeatenInstead" "BeatenInstead" "keptLesson" "[I") ∈ lw_all := lw_g (lw_at lw_m1 119 rfl) rfl
theorem q191 : (Jvm.Cond.soleField "BeatenInstead" "keptLesson") ∈ lw_all := lw_g (lw_at lw_m1 120 rfl) rfl
theorem q192 : (Jvm.Cond.laysFinal "BeatenInstead" "BeatenInstead" "keptIs" "[Z") ∈ lw_all := lw_g (lw_at lw_m1 121 rfl) rfl
theorem q193 : (Jvm.Cond.soleField "BeatenInstead" "keptIs") ∈ lw_all := lw_g (lw_at lw_m1 122 rfl) rfl
theorem q194 : (Jvm.Cond.lays "BeatenInstead" "BeatenInstead" "keptHeard" "I") ∈ lw_all := lw_g (lw_at lw_m1 123 rfl) rfl
theorem q195 : (Jvm.Cond.soleField "BeatenInstead" "keptHeard") ∈ lw_all := lw_g (lw_at lw_m1 124 rfl) rfl
theorem q196 : (Jvm.Cond.lays "BeatenInstead" "BeatenInstead" "keptMany" "I") ∈ lw_all := lw_g (lw_at lw_m1 125 rfl) rfl
theorem q197 : (Jvm.Cond.soleField "BeatenInstead" "keptMany") ∈ lw_all := lw_g (lw_at lw_m1 126 rfl) rfl
theorem q198 : (Jvm.Cond.lays "BeatenInstead" "BeatenInstead" "keptSchool" "I") ∈ lw_all := lw_g (lw_at lw_m1 127 rfl) rfl
theorem q199 : (Jvm.Cond.soleField "BeatenInstead" "keptSchool") ∈ lw_all := lw_g (lw_at lw_m1 128 rfl) rfl
theorem q200 : (Jvm.Cond.lays "BeatenInstead" "BeatenInstead" "h" "J") ∈ lw_all := lw_g (lw_at lw_m1 129 rfl) rfl
theorem q201 : (Jvm.Cond.soleField "BeatenInstead" "h") ∈ lw_all := lw_g (lw_at lw_m1 130 rfl) rfl
theorem q202 : (Jvm.Cond.superclass "BeatenInstead" "java/lang/Object") ∈ lw_all := lw_g (lw_at lw_m1 131 rfl) rfl
theorem q206 : (Jvm.Cond.instanceMethod ({ cls := "BeatenInstead", name := "letter", desc := "(I)I" } : Jvm.MethodName)) ∈ lw_all := lw_g (lw_at lw_m1 135 rfl) rfl
theorem q207 : (Jvm.Cond.selects "BeatenInstead" ({ cls := "BeatenInstead", name := "letter", desc := "(I)I" } : Jvm.MethodName) ({ cls := "BeatenInstead", name := "letter", desc := "(I)I" } : Jvm.MethodName)) ∈ lw_all := lw_g (lw_at lw_m1 136 rfl) rfl
theorem q208 : (Jvm.Cond.code ({ cls := "BeatenInstead", name := "letter", desc := "(I)I" } : Jvm.MethodName) prog_1_method_5_code (2 : Nat) (Option.some Jvm.ClassFile.FieldType.int)) ∈ lw_all := lw_g (lw_at lw_m1 137 rfl) rfl
theorem q209 : (Jvm.Cond.constantLong "BeatenInstead" (94 : Nat) (32 : Int64)) ∈ lw_all := lw_g (lw_at lw_m1 138 rfl) rfl
theorem q210 : (Jvm.Cond.constantLong "BeatenInstead" (96 : Nat) (126 : Int64)) ∈ lw_all := lw_g (lw_at lw_m1 139 rfl) rfl
theorem q211 : (Jvm.Cond.methodLink "BeatenInstead" (98 : Nat) ({ cls := "BeatenInstead", name := "isIn", desc := "(JJJ)Z" } : Jvm.MethodName)) ∈ lw_all := lw_g (lw_at lw_m1 140 rfl) rfl
theorem q212 : (Jvm.Cond.static ({ cls := "BeatenInstead", name := "isIn", desc := "(JJJ)Z" } : Jvm.MethodName)) ∈ lw_all := lw_g (lw_at lw_m1 141 rfl) rfl
theorem q213 : (Jvm.Cond.code ({ cls := "BeatenInstead", name := "isIn", desc := "(JJJ)Z" } : Jvm.MethodName) prog_1_method_1_code (6 : Nat) (Option.some Jvm.ClassFile.FieldType.boolean)) ∈ lw_all := lw_g (lw_at lw_m1 142 rfl) rfl
theorem q215 : (Jvm.Cond.instanceMethod ({ cls := "BeatenInstead", name := "blank", desc := "()I" } : Jvm.MethodName)) ∈ lw_all := lw_g (lw_at lw_m1 144 rfl) rfl
theorem q216 : (Jvm.Cond.selects "BeatenInstead" ({ cls := "BeatenInstead", name := "blank", desc := "()I" } : Jvm.MethodName) ({ cls := "BeatenInstead", name := "blank", desc := "()I" } : Jvm.MethodName)) ∈ lw_all := lw_g (lw_at lw_m1 145 rfl) rfl
theorem q217 : (Jvm.Cond.code ({ cls := "BeatenInstead", name := "blank", desc := "()I" } : Jvm.MethodName) prog_1_method_6_code (2 : Nat) (Option.some Jvm.ClassFile.FieldType.int)) ∈ lw_all := lw_g (lw_at lw_m1 146 rfl) rfl
theorem q219 : (Jvm.Cond.instanceMethod ({ cls := "BeatenInstead", name := "fault", desc := "()I" } : Jvm.MethodName)) ∈ lw_all := lw_g (lw_at lw_m1 148 rfl) rfl
theorem q220 : (Jvm.Cond.selects "BeatenInstead" ({ cls := "BeatenInstead", name := "fault", desc := "()I" } : Jvm.MethodName) ({ cls := "BeatenInstead", name := "fault", desc := "()I" } : Jvm.MethodName)) ∈ lw_all := lw_g (lw_at lw_m1 149 rfl) rfl
theorem q221 : (Jvm.Cond.code ({ cls := "BeatenInstead", name := "fault", desc := "()I" } : Jvm.MethodName) prog_1_method_9_code (3 : Nat) (Option.some Jvm.ClassFile.FieldType.int)) ∈ lw_all := lw_g (lw_at lw_m1 150 rfl) rfl
theorem q222 : (Jvm.Cond.methodLink "BeatenInstead" (111 : Nat) ({ cls := "BeatenInstead", name := "endOfLessons", desc := "()I" } : Jvm.MethodName)) ∈ lw_all := lw_g (lw_at lw_m1 151 rfl) rfl
theorem q223 : (Jvm.Cond.privateMethod ({ cls := "BeatenInstead", name := "endOfLessons", desc := "()I" } : Jvm.MethodName)) ∈ lw_tbl := lw_at lw_m1 152 rfl
theorem q224 : (Jvm.Cond.instanceMethod ({ cls := "BeatenInstead", name := "endOfLessons", desc := "()I" } : Jvm.MethodName)) ∈ lw_all := lw_g (lw_at lw_m1 153 rfl) rfl
theorem q225 : (Jvm.Cond.code ({ cls := "BeatenInstead", name := "endOfLessons", desc := "()I" } : Jvm.MethodName) prog_1_method_7_code (3 : Nat) (Option.some Jvm.ClassFile.FieldType.int)) ∈ lw_all := lw_g (lw_at lw_m1 154 rfl) rfl
theorem q226 : (Jvm.Cond.methodLink "BeatenInstead" (115 : Nat) ({ cls := "BeatenInstead", name := "isLessonLetter", desc := "(II)Z" } : Jvm.MethodName)) ∈ lw_all := lw_g (lw_at lw_m1 155 rfl) rfl
theorem q227 : (Jvm.Cond.static ({ cls := "BeatenInstead", name := "isLessonLetter", desc := "(II)Z" } : Jvm.MethodName)) ∈ lw_all := lw_g (lw_at lw_m1 156 rfl) rfl
theorem q228 : (Jvm.Cond.code ({ cls := "BeatenInstead", name := "isLessonLetter", desc := "(II)Z" } : Jvm.MethodName) prog_1_method_8_code (2 : Nat) (Option.some Jvm.ClassFile.FieldType.boolean)) ∈ lw_all := lw_g (lw_at lw_m1 157 rfl) rfl
theorem q229 : (Jvm.Cond.constantLong "BeatenInstead" (105 : Nat) (49 : Int64)) ∈ lw_all := lw_g (lw_at lw_m1 158 rfl) rfl
theorem q230 : (Jvm.Cond.constantLong "BeatenInstead" (107 : Nat) (57 : Int64)) ∈ lw_all := lw_g (lw_at lw_m1 159 rfl) rfl
theorem q231 : (Jvm.Cond.constantLong "BeatenInstead" (109 : Nat) (53 : Int64)) ∈ lw_all := lw_g (lw_at lw_m1 160 rfl) rfl
theorem q232 : (Jvm.Cond.constantLong "BeatenInstead" (119 : Nat) (48 : Int64)) ∈ lw_all := lw_g (lw_at lw_m1 161 rfl) rfl
theorem q234 : (Jvm.Cond.instanceMethod ({ cls := "BeatenInstead", name := "school", desc := "()I" } : Jvm.MethodName)) ∈ lw_all := lw_g (lw_at lw_m1 163 rfl) rfl
theorem q235 : (Jvm.Cond.selects "BeatenInstead" ({ cls := "BeatenInstead", name := "school", desc := "()I" } : Jvm.MethodName) ({ cls := "BeatenInstead", name := "school", desc := "()I" } : Jvm.MethodName)) ∈ lw_all := lw_g (lw_at lw_m1 164 rfl) rfl
theorem q236 : (Jvm.Cond.code ({ cls := "BeatenInstead", name := "school", desc := "()I" } : Jvm.MethodName) prog_1_method_10_code (3 : Nat) (Option.some Jvm.ClassFile.FieldType.int)) ∈ lw_all := lw_g (lw_at lw_m1 165 rfl) rfl
theorem q237 : (Jvm.Cond.methodLink "BeatenInstead" (121 : Nat) ({ cls := "BeatenInstead", name := "fault", desc := "()I" } : Jvm.MethodName)) ∈ lw_all := lw_g (lw_at lw_m1 166 rfl) rfl
theorem q239 : (Jvm.Cond.instanceMethod ({ cls := "BeatenInstead", name := "lesson", desc := "(II)I" } : Jvm.MethodName)) ∈ lw_all := lw_g (lw_at lw_m1 168 rfl) rfl
theorem q240 : (Jvm.Cond.selects "BeatenInstead" ({ cls := "BeatenInstead", name := "lesson", desc := "(II)I" } : Jvm.MethodName) ({ cls := "BeatenInstead", name := "lesson", desc := "(II)I" } : Jvm.MethodName)) ∈ lw_all := lw_g (lw_at lw_m1 169 rfl) rfl
theorem q241 : (Jvm.Cond.code ({ cls := "BeatenInstead", name := "lesson", desc := "(II)I" } : Jvm.MethodName) prog_1_method_17_code (3 : Nat) (Option.some Jvm.ClassFile.FieldType.int)) ∈ lw_all := lw_g (lw_at lw_m1 170 rfl) rfl
theorem q242 : (Jvm.Cond.methodLink "BeatenInstead" (151 : Nat) ({ cls := "BeatenInstead", name := "isLesson", desc := "(I)Z" } : Jvm.MethodName)) ∈ lw_all := lw_g (lw_at lw_m1 171 rfl) rfl
theorem q243 : (Jvm.Cond.privateMethod ({ cls := "BeatenInstead", name := "isLesson", desc := "(I)Z" } : Jvm.MethodName)) ∈ lw_tbl := lw_at lw_m1 172 rfl
theorem q244 : (Jvm.Cond.instanceMethod ({ cls := "BeatenInstead", name := "isLesson", desc := "(I)Z" } : Jvm.MethodName)) ∈ lw_all := lw_g (lw_at lw_m1 173 rfl) rfl
theorem q245 : (Jvm.Cond.code ({ cls := "BeatenInstead", name := "isLesson", desc := "(I)Z" } : Jvm.MethodName) prog_1_method_12_code (2 : Nat) (Option.some Jvm.ClassFile.FieldType.boolean)) ∈ lw_all := lw_g (lw_at lw_m1 174 rfl) rfl
theorem q246 : (Jvm.Cond.methodLink "BeatenInstead" (155 : Nat) ({ cls := "BeatenInstead", name := "tellLesson", desc := "(II)I" } : Jvm.MethodName)) ∈ lw_all := lw_g (lw_at lw_m1 175 rfl) rfl
theorem q247 : (Jvm.Cond.privateMethod ({ cls := "BeatenInstead", name := "tellLesson", desc := "(II)I" } : Jvm.MethodName)) ∈ lw_tbl := lw_at lw_m1 176 rfl
theorem q248 : (Jvm.Cond.instanceMethod ({ cls := "BeatenInstead", name := "tellLesson", desc := "(II)I" } : Jvm.MethodName)) ∈ lw_all := lw_g (lw_at lw_m1 177 rfl) rfl
theorem q249 : (Jvm.Cond.code ({ cls := "BeatenInstead", name := "tellLesson", desc := "(II)I" } : Jvm.MethodName) prog_1_method_16_code (3 : Nat) (Option.some Jvm.ClassFile.FieldType.int)) ∈ lw_all := lw_g (lw_at lw_m1 178 rfl) rfl
theorem q250 : (Jvm.Cond.methodLink "BeatenInstead" (147 : Nat) ({ cls := "BeatenInstead", name := "whoLearnt", desc := "(I)I" } : Jvm.MethodName)) ∈ lw_all := lw_g (lw_at lw_m1 179 rfl) rfl
theorem q251 : (Jvm.Cond.privateMethod ({ cls := "BeatenInstead", name := "whoLearnt", desc := "(I)I" } : Jvm.MethodName)) ∈ lw_tbl := lw_at lw_m1 180 rfl
theorem q252 : (Jvm.Cond.instanceMethod ({ cls := "BeatenInstead", name := "whoLearnt", desc := "(I)I" } : Jvm.MethodName)) ∈ lw_all := lw_g (lw_at lw_m1 181 rfl) rfl
theorem q253 : (Jvm.Cond.code ({ cls := "BeatenInstead", name := "whoLearnt", desc := "(I)I" } : Jvm.MethodName) prog_1_method_15_code (4 : Nat) (Option.some Jvm.ClassFile.FieldType.int)) ∈ lw_all := lw_g (lw_at lw_m1 182 rfl) rfl
theorem q254 : (Jvm.Cond.methodLink "BeatenInstead" (144 : Nat) ({ cls := "BeatenInstead", name := "has", desc := "(II)Z" } : Jvm.MethodName)) ∈ lw_all := lw_g (lw_at lw_m1 183 rfl) rfl
theorem q255 : (Jvm.Cond.static ({ cls := "BeatenInstead", name := "has", desc := "(II)Z" } : Jvm.MethodName)) ∈ lw_all := lw_g (lw_at lw_m1 184 rfl) rfl
theorem q256 : (Jvm.Cond.code ({ cls := "BeatenInstead", name := "has", desc := "(II)Z" } : Jvm.MethodName) prog_1_method_2_code (2 : Nat) (Option.some Jvm.ClassFile.FieldType.boolean)) ∈ lw_all := lw_g (lw_at lw_m1 185 rfl) rfl
theorem q258 : (Jvm.Cond.instanceMethod ({ cls := "BeatenInstead", name := "stripes", desc := "(I)I" } : Jvm.MethodName)) ∈ lw_all := lw_g (lw_at lw_m1 187 rfl) rfl
theorem q259 : (Jvm.Cond.selects "BeatenInstead" ({ cls := "BeatenInstead", name := "stripes", desc := "(I)I" } : Jvm.MethodName) ({ cls := "BeatenInstead", name := "stripes", desc := "(I)I" } : Jvm.MethodName)) ∈ lw_all := lw_g (lw_at lw_m1 188 rfl) rfl
theorem q260 : (Jvm.Cond.code ({ cls := "BeatenInstead", name := "stripes", desc := "(I)I" } : Jvm.MethodName) prog_1_method_18_code (2 : Nat) (Option.some Jvm.ClassFile.FieldType.int)) ∈ lw_all := lw_g (lw_at lw_m1 189 rfl) rfl
theorem q261 : (Jvm.Cond.methodLink "BeatenInstead" (159 : Nat) ({ cls := "BeatenInstead", name := "isThere", desc := "()Z" } : Jvm.MethodName)) ∈ lw_all := lw_g (lw_at lw_m1 190 rfl) rfl
theorem q262 : (Jvm.Cond.privateMethod ({ cls := "BeatenInstead", name := "isThere", desc := "()Z" } : Jvm.MethodName)) ∈ lw_tbl := lw_at lw_m1 191 rfl
theorem q263 : (Jvm.Cond.instanceMethod ({ cls := "BeatenInstead", name := "isThere", desc := "()Z" } : Jvm.MethodName)) ∈ lw_all := lw_g (lw_at lw_m1 192 rfl) rfl
theorem q264 : (Jvm.Cond.code ({ cls := "BeatenInstead", name := "isThere", desc := "()Z" } : Jvm.MethodName) prog_1_method_11_code (1 : Nat) (Option.some Jvm.ClassFile.FieldType.boolean)) ∈ lw_all := lw_g (lw_at lw_m1 193 rfl) rfl
theorem q265 : (Jvm.Cond.methodLink "BeatenInstead" (163 : Nat) ({ cls := "BeatenInstead", name := "isBoy", desc := "(I)Z" } : Jvm.MethodName)) ∈ lw_all := lw_g (lw_at lw_m1 194 rfl) rfl
theorem q266 : (Jvm.Cond.static ({ cls := "BeatenInstead", name := "isBoy", desc := "(I)Z" } : Jvm.MethodName)) ∈ lw_all := lw_g (lw_at lw_m1 195 rfl) rfl
theorem q267 : (Jvm.Cond.code ({ cls := "BeatenInstead", name := "isBoy", desc := "(I)Z" } : Jvm.MethodName) prog_1_method_14_code (1 : Nat) (Option.some Jvm.ClassFile.FieldType.boolean)) ∈ lw_all := lw_g (lw_at lw_m1 196 rfl) rfl
theorem q268 : (Jvm.Cond.constantLong "BeatenInstead" (139 : Nat) (2 : Int64)) ∈ lw_all := lw_g (lw_at lw_m1 197 rfl) rfl
theorem q270 : (Jvm.Cond.instanceMethod ({ cls := "BeatenInstead", name := "prince", desc := "(II)I" } : Jvm.MethodName)) ∈ lw_all := lw_g (lw_at lw_m1 199 rfl) rfl
theorem q271 : (Jvm.Cond.selects "BeatenInstead" ({ cls := "BeatenInstead", name := "prince", desc := "(II)I" } : Jvm.MethodName) ({ cls := "BeatenInstead", name := "prince", desc := "(II)I" } : Jvm.MethodName)) ∈ lw_all := lw_g (lw_at lw_m1 200 rfl) rfl
theorem q272 : (Jvm.Cond.code ({ cls := "BeatenInstead", name := "prince", desc := "(II)I" } : Jvm.MethodName) prog_1_method_19_code (5 : Nat) (Option.some Jvm.ClassFile.FieldType.int)) ∈ lw_all := lw_g (lw_at lw_m1 201 rfl) rfl
theorem q273 : (Jvm.Cond.constantLong "BeatenInstead" (166 : Nat) (4 : Int64)) ∈ lw_all := lw_g (lw_at lw_m1 202 rfl) rfl
theorem q274 : (Jvm.Cond.constantLong "BeatenInstead" (168 : Nat) (9 : Int64)) ∈ lw_all := lw_g (lw_at lw_m1 203 rfl) rfl
theorem q275 : (Jvm.Cond.methodLink "BeatenInstead" (170 : Nat) ({ cls := "BeatenInstead", name := "made", desc := "(I)LBeatenInstead$Prince;" } : Jvm.MethodName)) ∈ lw_all := lw_g (lw_at lw_m1 204 rfl) rfl
theorem q276 : (Jvm.Cond.static ({ cls := "BeatenInstead", name := "made", desc := "(I)LBeatenInstead$Prince;" } : Jvm.MethodName)) ∈ lw_all := lw_g (lw_at lw_m1 205 rfl) rfl
theorem q277 : (Jvm.Cond.code ({ cls := "BeatenInstead", name := "made", desc := "(I)LBeatenInstead$Prince;" } : Jvm.MethodName) prog_1_method_3_code (1 : Nat) (Option.some (Jvm.ClassFile.FieldType.object "BeatenInstead$Prince"))) ∈ lw_all := lw_g (lw_at lw_m1 206 rfl) rfl
theorem q279 : (Jvm.Cond.methodLinkNest "BeatenInstead" (3 : Nat) ({ cls := "BeatenInstead$Prince", name := "<init>", desc := "()V" } : Jvm.MethodName) "BeatenInstead") ∈ lw_tbl := lw_at lw_m1 208 rfl
theorem q283 : (Jvm.Cond.fieldLink "BeatenInstead" (174 : Nat) "BeatenInstead$Prince" "number" "I") ∈ lw_all := lw_g (lw_at lw_m1 212 rfl) rfl
theorem q284 : (Jvm.Cond.fieldLink "BeatenInstead" (204 : Nat) "BeatenInstead$Proud" "number" "I") ∈ lw_all := lw_g (lw_at lw_m1 213 rfl) rfl
theorem q286 : (Jvm.Cond.fieldLink "BeatenInstead" (205 : Nat) "BeatenInstead$Cruel" "number" "I") ∈ lw_all := lw_g (lw_at lw_m1 215 rfl) rfl
theorem q288 : (Jvm.Cond.fieldLink "BeatenInstead" (206 : Nat) "BeatenInstead$Lazy" "number" "I") ∈ lw_all := lw_g (lw_at lw_m1 217 rfl) rfl
theorem q290 : (Jvm.Cond.fieldLink "BeatenInstead" (207 : Nat) "BeatenInstead$High" "number" "I") ∈ lw_all := lw_g (lw_at lw_m1 219 rfl) rfl
theorem q292 : (Jvm.Cond.fieldLink "BeatenInstead" (177 : Nat) "BeatenInstead$Prince" "wit" "I") ∈ lw_all := lw_g (lw_at lw_m1 221 rfl) rfl
theorem q293 : (Jvm.Cond.fieldLink "BeatenInstead" (180 : Nat) "BeatenInstead$Prince" "boy" "I") ∈ lw_all := lw_g (lw_at lw_m1 222 rfl) rfl
theorem q294 : (Jvm.Cond.fieldLink "BeatenInstead" (141 : Nat) "BeatenInstead$Prince" "learnt" "I") ∈ lw_all := lw_g (lw_at lw_m1 223 rfl) rfl
theorem q295 : (Jvm.Cond.fieldLink "BeatenInstead" (339 : Nat) "BeatenInstead$Prince" "keptBoy" "I") ∈ lw_all := lw_g (lw_at lw_m1 224 rfl) rfl
theorem q296 : (Jvm.Cond.fieldLink "BeatenInstead" (342 : Nat) "BeatenInstead$Prince" "keptLearnt" "I") ∈ lw_all := lw_g (lw_at lw_m1 225 rfl) rfl
theorem q310 : (Jvm.Cond.classLink "BeatenInstead" (7 : Nat) "BeatenInstead$Proud") ∈ lw_all := lw_g (lw_at lw_m1 239 rfl) rfl
theorem q312 : (Jvm.Cond.methodLinkNest "BeatenInstead" (9 : Nat) ({ cls := "BeatenInstead$Proud", name := "<init>", desc := "()V" } : Jvm.MethodName) "BeatenInstead") ∈ lw_tbl := lw_at lw_m2 1 rfl
theorem q323 : (Jvm.Cond.classLink "BeatenInstead" (10 : Nat) "BeatenInstead$Cruel") ∈ lw_all := lw_g (lw_at lw_m2 12 rfl) rfl
theorem q325 : (Jvm.Cond.methodLinkNest "BeatenInstead" (12 : Nat) ({ cls := "BeatenInstead$Cruel", name := "<init>", desc := "()V" } : Jvm.MethodName) "BeatenInstead") ∈ lw_tbl := lw_at lw_m2 14 rfl
theorem q336 : (Jvm.Cond.classLink "BeatenInstead" (13 : Nat) "BeatenInstead$Lazy") ∈ lw_all := lw_g (lw_at lw_m2 25 rfl) rfl
theorem q338 : (Jvm.Cond.methodLinkNest "BeatenInstead" (15 : Nat) ({ cls := "BeatenInstead$Lazy", name := "<init>", desc := "()V" } : Jvm.MethodName) "BeatenInstead") ∈ lw_tbl := lw_at lw_m2 27 rfl
theorem q349 : (Jvm.Cond.classLink "BeatenInstead" (16 : Nat) "BeatenInstead$High") ∈ lw_all := lw_g (lw_at lw_m2 38 rfl) rfl
theorem q351 : (Jvm.Cond.methodLinkNest "BeatenInstead" (18 : Nat) ({ cls := "BeatenInstead$High", name := "<init>", desc := "()V" } : Jvm.MethodName) "BeatenInstead") ∈ lw_tbl := lw_at lw_m2 40 rfl
theorem q363 : (Jvm.Cond.instanceMethod ({ cls := "BeatenInstead", name := "about", desc := "(II)I" } : Jvm.MethodName)) ∈ lw_all := lw_g (lw_at lw_m2 52 rfl) rfl
theorem q364 : (Jvm.Cond.selects "BeatenInstead" ({ cls := "BeatenInstead", name := "about", desc := "(II)I" } : Jvm.MethodName) ({ cls := "BeatenInstead", name := "about", desc := "(II)I" } : Jvm.MethodName)) ∈ lw_all := lw_g (lw_at lw_m2 53 rfl) rfl
theorem q365 : (Jvm.Cond.code ({ cls := "BeatenInstead", name := "about", desc := "(II)I" } : Jvm.MethodName) prog_1_method_22_code (3 : Nat) (Option.some Jvm.ClassFile.FieldType.int)) ∈ lw_all := lw_g (lw_at lw_m2 54 rfl) rfl
theorem q366 : (Jvm.Cond.methodLink "BeatenInstead" (197 : Nat) ({ cls := "BeatenInstead", name := "isPrince", desc := "(I)Z" } : Jvm.MethodName)) ∈ lw_all := lw_g (lw_at lw_m2 55 rfl) rfl
theorem q367 : (Jvm.Cond.privateMethod ({ cls := "BeatenInstead", name := "isPrince", desc := "(I)Z" } : Jvm.MethodName)) ∈ lw_tbl := lw_at lw_m2 56 rfl
theorem q368 : (Jvm.Cond.instanceMethod ({ cls := "BeatenInstead", name := "isPrince", desc := "(I)Z" } : Jvm.MethodName)) ∈ lw_all := lw_g (lw_at lw_m2 57 rfl) rfl
theorem q369 : (Jvm.Cond.code ({ cls := "BeatenInstead", name := "isPrince", desc := "(I)Z" } : Jvm.MethodName) prog_1_method_13_code (2 : Nat) (Option.some Jvm.ClassFile.FieldType.boolean)) ∈ lw_all := lw_g (lw_at lw_m2 58 rfl) rfl
theorem q370 : (Jvm.Cond.methodLink "BeatenInstead" (200 : Nat) ({ cls := "BeatenInstead", name := "tellPrince", desc := "(LBeatenInstead$Prince;I)I" } : Jvm.MethodName)) ∈ lw_all := lw_g (lw_at lw_m2 59 rfl) rfl
theorem q371 : (Jvm.Cond.privateMethod ({ cls := "BeatenInstead", name := "tellPrince", desc := "(LBeatenInstead$Prince;I)I" } : Jvm.MethodName)) ∈ lw_tbl := lw_at lw_m2 60 rfl
theorem q372 : (Jvm.Cond.instanceMethod ({ cls := "BeatenInstead", name := "tellPrince", desc := "(LBeatenInstead$Prince;I)I" } : Jvm.MethodName)) ∈ lw_all := lw_g (lw_at lw_m2 61 rfl) rfl
theorem q373 : (Jvm.Cond.code ({ cls := "BeatenInstead", name := "tellPrince", desc := "(LBeatenInstead$Prince;I)I" } : Jvm.MethodName) prog_1_method_21_code (3 : Nat) (Option.some Jvm.ClassFile.FieldType.int)) ∈ lw_all := lw_g (lw_at lw_m2 62 rfl) rfl
theorem q374 : (Jvm.Cond.constantLong "BeatenInstead" (183 : Nat) (10 : Int64)) ∈ lw_all := lw_g (lw_at lw_m2 63 rfl) rfl
theorem q375 : (Jvm.Cond.constantLong "BeatenInstead" (185 : Nat) (12 : Int64)) ∈ lw_all := lw_g (lw_at lw_m2 64 rfl) rfl
theorem q376 : (Jvm.Cond.methodLink "BeatenInstead" (187 : Nat) ({ cls := "BeatenInstead$Prince", name := "kind", desc := "()I" } : Jvm.MethodName)) ∈ lw_all := lw_g (lw_at lw_m2 65 rfl) rfl
theorem q394 : (Jvm.Cond.methodLink "BeatenInstead" (190 : Nat) ({ cls := "BeatenInstead", name := "fondOf", desc := "(LBeatenInstead$Prince;)I" } : Jvm.MethodName)) ∈ lw_all := lw_g (lw_at lw_m2 83 rfl) rfl
theorem q395 : (Jvm.Cond.privateMethod ({ cls := "BeatenInstead", name := "fondOf", desc := "(LBeatenInstead$Prince;)I" } : Jvm.MethodName)) ∈ lw_tbl := lw_at lw_m2 84 rfl
theorem q396 : (Jvm.Cond.instanceMethod ({ cls := "BeatenInstead", name := "fondOf", desc := "(LBeatenInstead$Prince;)I" } : Jvm.MethodName)) ∈ lw_all := lw_g (lw_at lw_m2 85 rfl) rfl
theorem q397 : (Jvm.Cond.code ({ cls := "BeatenInstead", name := "fondOf", desc := "(LBeatenInstead$Prince;)I" } : Jvm.MethodName) prog_1_method_20_code (2 : Nat) (Option.some Jvm.ClassFile.FieldType.int)) ∈ lw_all := lw_g (lw_at lw_m2 86 rfl) rfl
theorem q398 : (Jvm.Cond.methodLink "BeatenInstead" (194 : Nat) ({ cls := "BeatenInstead$Prince", name := "feelsAll", desc := "(I)I" } : Jvm.MethodName)) ∈ lw_all := lw_g (lw_at lw_m2 87 rfl) rfl
theorem q436 : (Jvm.Cond.instanceMethod ({ cls := "BeatenInstead", name := "as", desc := "(II)I" } : Jvm.MethodName)) ∈ lw_all := lw_g (lw_at lw_m2 125 rfl) rfl
theorem q437 : (Jvm.Cond.selects "BeatenInstead" ({ cls := "BeatenInstead", name := "as", desc := "(II)I" } : Jvm.MethodName) ({ cls := "BeatenInstead", name := "as", desc := "(II)I" } : Jvm.MethodName)) ∈ lw_all := lw_g (lw_at lw_m2 126 rfl) rfl
theorem q438 : (Jvm.Cond.codeWith ({ cls := "BeatenInstead", name := "as", desc := "(II)I" } : Jvm.MethodName) prog_1_method_24_code (4 : Nat) (Option.some Jvm.ClassFile.FieldType.int) [((26 : Nat), (36 : Nat), (37 : Nat), (212 : Nat))]) ∈ lw_all := lw_g (lw_at lw_m2 127 rfl) rfl
theorem q439 : (Jvm.Cond.classLink "BeatenInstead" (212 : Nat) "java/lang/ClassCastException") ∈ lw_all := lw_g (lw_at lw_m2 128 rfl) rfl
theorem q508 : (Jvm.Cond.methodLink "BeatenInstead" (208 : Nat) ({ cls := "BeatenInstead", name := "castTo", desc := "(Ljava/lang/Object;I)I" } : Jvm.MethodName)) ∈ lw_all := lw_g (lw_at lw_m2 197 rfl) rfl
theorem q509 : (Jvm.Cond.static ({ cls := "BeatenInstead", name := "castTo", desc := "(Ljava/lang/Object;I)I" } : Jvm.MethodName)) ∈ lw_all := lw_g (lw_at lw_m2 198 rfl) rfl
theorem q510 : (Jvm.Cond.code ({ cls := "BeatenInstead", name := "castTo", desc := "(Ljava/lang/Object;I)I" } : Jvm.MethodName) prog_1_method_23_code (2 : Nat) (Option.some Jvm.ClassFile.FieldType.int)) ∈ lw_all := lw_g (lw_at lw_m2 199 rfl) rfl
theorem q512 : (Jvm.Cond.instanceMethod ({ cls := "BeatenInstead", name := "give", desc := "(II)I" } : Jvm.MethodName)) ∈ lw_all := lw_g (lw_at lw_m2 201 rfl) rfl
theorem q513 : (Jvm.Cond.selects "BeatenInstead" ({ cls := "BeatenInstead", name := "give", desc := "(II)I" } : Jvm.MethodName) ({ cls := "BeatenInstead", name := "give", desc := "(II)I" } : Jvm.MethodName)) ∈ lw_all := lw_g (lw_at lw_m2 202 rfl) rfl
theorem q514 : (Jvm.Cond.code ({ cls := "BeatenInstead", name := "give", desc := "(II)I" } : Jvm.MethodName) prog_1_method_25_code (4 : Nat) (Option.some Jvm.ClassFile.FieldType.int)) ∈ lw_all := lw_g (lw_at lw_m2 203 rfl) rfl
theorem q516 : (Jvm.Cond.instanceMethod ({ cls := "BeatenInstead", name := "fond", desc := "(III)I" } : Jvm.MethodName)) ∈ lw_all := lw_g (lw_at lw_m2 205 rfl) rfl
theorem q517 : (Jvm.Cond.selects "BeatenInstead" ({ cls := "BeatenInstead", name := "fond", desc := "(III)I" } : Jvm.MethodName) ({ cls := "BeatenInstead", name := "fond", desc := "(III)I" } : Jvm.MethodName)) ∈ lw_all := lw_g (lw_at lw_m2 206 rfl) rfl
theorem q518 : (Jvm.Cond.code ({ cls := "BeatenInstead", name := "fond", desc := "(III)I" } : Jvm.MethodName) prog_1_method_26_code (5 : Nat) (Option.some Jvm.ClassFile.FieldType.int)) ∈ lw_all := lw_g (lw_at lw_m2 207 rfl) rfl
theorem q520 : (Jvm.Cond.instanceMethod ({ cls := "BeatenInstead", name := "tenths", desc := "(II)I" } : Jvm.MethodName)) ∈ lw_all := lw_g (lw_at lw_m2 209 rfl) rfl
theorem q521 : (Jvm.Cond.selects "BeatenInstead" ({ cls := "BeatenInstead", name := "tenths", desc := "(II)I" } : Jvm.MethodName) ({ cls := "BeatenInstead", name := "tenths", desc := "(II)I" } : Jvm.MethodName)) ∈ lw_all := lw_g (lw_at lw_m2 210 rfl) rfl
theorem q522 : (Jvm.Cond.code ({ cls := "BeatenInstead", name := "tenths", desc := "(II)I" } : Jvm.MethodName) prog_1_method_29_code (3 : Nat) (Option.some Jvm.ClassFile.FieldType.int)) ∈ lw_all := lw_g (lw_at lw_m2 211 rfl) rfl
theorem q523 : (Jvm.Cond.methodLink "BeatenInstead" (226 : Nat) ({ cls := "BeatenInstead", name := "tenthsOf", desc := "(LBeatenInstead$Prince;I)I" } : Jvm.MethodName)) ∈ lw_all := lw_g (lw_at lw_m2 212 rfl) rfl
theorem q524 : (Jvm.Cond.privateMethod ({ cls := "BeatenInstead", name := "tenthsOf", desc := "(LBeatenInstead$Prince;I)I" } : Jvm.MethodName)) ∈ lw_tbl := lw_at lw_m2 213 rfl
theorem q525 : (Jvm.Cond.instanceMethod ({ cls := "BeatenInstead", name := "tenthsOf", desc := "(LBeatenInstead$Prince;I)I" } : Jvm.MethodName)) ∈ lw_all := lw_g (lw_at lw_m2 214 rfl) rfl
theorem q526 : (Jvm.Cond.code ({ cls := "BeatenInstead", name := "tenthsOf", desc := "(LBeatenInstead$Prince;I)I" } : Jvm.MethodName) prog_1_method_28_code (3 : Nat) (Option.some Jvm.ClassFile.FieldType.int)) ∈ lw_all := lw_g (lw_at lw_m2 215 rfl) rfl
theorem q527 : (Jvm.Cond.methodLink "BeatenInstead" (222 : Nat) ({ cls := "BeatenInstead", name := "tenthsBy", desc := "(LBeatenInstead$Prince;II)I" } : Jvm.MethodName)) ∈ lw_all := lw_g (lw_at lw_m2 216 rfl) rfl
theorem q528 : (Jvm.Cond.privateMethod ({ cls := "BeatenInstead", name := "tenthsBy", desc := "(LBeatenInstead$Prince;II)I" } : Jvm.MethodName)) ∈ lw_tbl := lw_at lw_m2 217 rfl
theorem q529 : (Jvm.Cond.instanceMethod ({ cls := "BeatenInstead", name := "tenthsBy", desc := "(LBeatenInstead$Prince;II)I" } : Jvm.MethodName)) ∈ lw_all := lw_g (lw_at lw_m2 218 rfl) rfl
theorem q530 : (Jvm.Cond.code ({ cls := "BeatenInstead", name := "tenthsBy", desc := "(LBeatenInstead$Prince;II)I" } : Jvm.MethodName) prog_1_method_27_code (4 : Nat) (Option.some Jvm.ClassFile.FieldType.int)) ∈ lw_all := lw_g (lw_at lw_m2 219 rfl) rfl
theorem q531 : (Jvm.Cond.methodLink "BeatenInstead" (214 : Nat) ({ cls := "java/lang/Math", name := "min", desc := "(II)I" } : Jvm.MethodName)) ∈ lw_all := lw_g (lw_at lw_m2 220 rfl) rfl
theorem q534 : (Jvm.Cond.methodLink "BeatenInstead" (219 : Nat) ({ cls := "java/lang/Math", name := "max", desc := "(II)I" } : Jvm.MethodName)) ∈ lw_all := lw_g (lw_at lw_m2 223 rfl) rfl
theorem q538 : (Jvm.Cond.instanceMethod ({ cls := "BeatenInstead", name := "teach", desc := "(IIZ)I" } : Jvm.MethodName)) ∈ lw_all := lw_g (lw_at lw_m2 227 rfl) rfl
theorem q539 : (Jvm.Cond.selects "BeatenInstead" ({ cls := "BeatenInstead", name := "teach", desc := "(IIZ)I" } : Jvm.MethodName) ({ cls := "BeatenInstead", name := "teach", desc := "(IIZ)I" } : Jvm.MethodName)) ∈ lw_all := lw_g (lw_at lw_m2 228 rfl) rfl
theorem q540 : (Jvm.Cond.code ({ cls := "BeatenInstead", name := "teach", desc := "(IIZ)I" } : Jvm.MethodName) prog_1_method_32_code (5 : Nat) (Option.some Jvm.ClassFile.FieldType.int)) ∈ lw_all := lw_g (lw_at lw_m2 229 rfl) rfl
theorem q541 : (Jvm.Cond.methodLink "BeatenInstead" (232 : Nat) ({ cls := "BeatenInstead", name := "taught", desc := "(LBeatenInstead$Prince;IZ)V" } : Jvm.MethodName)) ∈ lw_all := lw_g (lw_at lw_m2 230 rfl) rfl
theorem q542 : (Jvm.Cond.privateMethod ({ cls := "BeatenInstead", name := "taught", desc := "(LBeatenInstead$Prince;IZ)V" } : Jvm.MethodName)) ∈ lw_tbl := lw_at lw_m2 231 rfl
theorem q543 : (Jvm.Cond.instanceMethod ({ cls := "BeatenInstead", name := "taught", desc := "(LBeatenInstead$Prince;IZ)V" } : Jvm.MethodName)) ∈ lw_all := lw_g (lw_at lw_m2 232 rfl) rfl
theorem q544 : (Jvm.Cond.code ({ cls := "BeatenInstead", name := "taught", desc := "(LBeatenInstead$Prince;IZ)V" } : Jvm.MethodName) prog_1_method_31_code (4 : Nat) (Option.none : Option Jvm.ClassFile.FieldType)) ∈ lw_all := lw_g (lw_at lw_m2 233 rfl) rfl
theorem q545 : (Jvm.Cond.methodLink "BeatenInstead" (229 : Nat) ({ cls := "BeatenInstead", name := "fondThen", desc := "(II)I" } : Jvm.MethodName)) ∈ lw_all := lw_g (lw_at lw_m2 234 rfl) rfl
theorem q546 : (Jvm.Cond.privateMethod ({ cls := "BeatenInstead", name := "fondThen", desc := "(II)I" } : Jvm.MethodName)) ∈ lw_tbl := lw_at lw_m2 235 rfl
theorem q547 : (Jvm.Cond.instanceMethod ({ cls := "BeatenInstead", name := "fondThen", desc := "(II)I" } : Jvm.MethodName)) ∈ lw_all := lw_g (lw_at lw_m2 236 rfl) rfl
theorem q548 : (Jvm.Cond.code ({ cls := "BeatenInstead", name := "fondThen", desc := "(II)I" } : Jvm.MethodName) prog_1_method_30_code (3 : Nat) (Option.some Jvm.ClassFile.FieldType.int)) ∈ lw_all := lw_g (lw_at lw_m2 237 rfl) rfl
theorem q550 : (Jvm.Cond.instanceMethod ({ cls := "BeatenInstead", name := "order", desc := "(II)J" } : Jvm.MethodName)) ∈ lw_all := lw_g (lw_at lw_m2 239 rfl) rfl
theorem q551 : (Jvm.Cond.selects "BeatenInstead" ({ cls := "BeatenInstead", name := "order", desc := "(II)J" } : Jvm.MethodName) ({ cls := "BeatenInstead", name := "order", desc := "(II)J" } : Jvm.MethodName)) ∈ lw_all := lw_g (lw_at lw_m3 0 rfl) rfl
theorem q552 : (Jvm.Cond.code ({ cls := "BeatenInstead", name := "order", desc := "(II)J" } : Jvm.MethodName) prog_1_method_38_code (3 : Nat) (Option.some Jvm.ClassFile.FieldType.long)) ∈ lw_all := lw_g (lw_at lw_m3 1 rfl) rfl
theorem q553 : (Jvm.Cond.constantLong "BeatenInstead" (271 : Nat) (-101 : Int64)) ∈ lw_all := lw_g (lw_at lw_m3 2 rfl) rfl
theorem q554 : (Jvm.Cond.constantLong "BeatenInstead" (273 : Nat) (14 : Int64)) ∈ lw_all := lw_g (lw_at lw_m3 3 rfl) rfl
theorem q555 : (Jvm.Cond.constantLong "BeatenInstead" (275 : Nat) (-102 : Int64)) ∈ lw_all := lw_g (lw_at lw_m3 4 rfl) rfl
theorem q556 : (Jvm.Cond.constantLong "BeatenInstead" (280 : Nat) (-103 : Int64)) ∈ lw_all := lw_g (lw_at lw_m3 5 rfl) rfl
theorem q557 : (Jvm.Cond.methodLink "BeatenInstead" (282 : Nat) ({ cls := "BeatenInstead", name := "tellOrder", desc := "(LBeatenInstead$Prince;I)J" } : Jvm.MethodName)) ∈ lw_all := lw_g (lw_at lw_m3 6 rfl) rfl
theorem q558 : (Jvm.Cond.privateMethod ({ cls := "BeatenInstead", name := "tellOrder", desc := "(LBeatenInstead$Prince;I)J" } : Jvm.MethodName)) ∈ lw_tbl := lw_at lw_m3 7 rfl
theorem q559 : (Jvm.Cond.instanceMethod ({ cls := "BeatenInstead", name := "tellOrder", desc := "(LBeatenInstead$Prince;I)J" } : Jvm.MethodName)) ∈ lw_all := lw_g (lw_at lw_m3 8 rfl) rfl
theorem q560 : (Jvm.Cond.code ({ cls := "BeatenInstead", name := "tellOrder", desc := "(LBeatenInstead$Prince;I)J" } : Jvm.MethodName) prog_1_method_37_code (7 : Nat) (Option.some Jvm.ClassFile.FieldType.long)) ∈ lw_all := lw_g (lw_at lw_m3 9 rfl) rfl
theorem q561 : (Jvm.Cond.methodLink "BeatenInstead" (259 : Nat) ({ cls := "BeatenInstead", name := "leftOf", desc := "(LBeatenInstead$Prince;)I" } : Jvm.MethodName)) ∈ lw_all := lw_g (lw_at lw_m3 10 rfl) rfl
theorem q562 : (Jvm.Cond.privateMethod ({ cls := "BeatenInstead", name := "leftOf", desc := "(LBeatenInstead$Prince;)I" } : Jvm.MethodName)) ∈ lw_tbl := lw_at lw_m3 11 rfl
theorem q563 : (Jvm.Cond.instanceMethod ({ cls := "BeatenInstead", name := "leftOf", desc := "(LBeatenInstead$Prince;)I" } : Jvm.MethodName)) ∈ lw_all := lw_g (lw_at lw_m3 12 rfl) rfl
theorem q564 : (Jvm.Cond.code ({ cls := "BeatenInstead", name := "leftOf", desc := "(LBeatenInstead$Prince;)I" } : Jvm.MethodName) prog_1_method_36_code (2 : Nat) (Option.some Jvm.ClassFile.FieldType.int)) ∈ lw_all := lw_g (lw_at lw_m3 13 rfl) rfl
theorem q565 : (Jvm.Cond.methodLink "BeatenInstead" (262 : Nat) ({ cls := "java/lang/Integer", name := "bitCount", desc := "(I)I" } : Jvm.MethodName)) ∈ lw_all := lw_g (lw_at lw_m3 14 rfl) rfl
theorem q571 : (Jvm.Cond.constantLong "BeatenInstead" (247 : Nat) (-1 : Int64)) ∈ lw_all := lw_g (lw_at lw_m3 20 rfl) rfl
theorem q572 : (Jvm.Cond.methodLink "BeatenInstead" (255 : Nat) ({ cls := "BeatenInstead", name := "tryOrder", desc := "(LBeatenInstead$Prince;II)V" } : Jvm.MethodName)) ∈ lw_all := lw_g (lw_at lw_m3 21 rfl) rfl
theorem q573 : (Jvm.Cond.privateMethod ({ cls := "BeatenInstead", name := "tryOrder", desc := "(LBeatenInstead$Prince;II)V" } : Jvm.MethodName)) ∈ lw_tbl := lw_at lw_m3 22 rfl
theorem q574 : (Jvm.Cond.instanceMethod ({ cls := "BeatenInstead", name := "tryOrder", desc := "(LBeatenInstead$Prince;II)V" } : Jvm.MethodName)) ∈ lw_all := lw_g (lw_at lw_m3 23 rfl) rfl
theorem q575 : (Jvm.Cond.code ({ cls := "BeatenInstead", name := "tryOrder", desc := "(LBeatenInstead$Prince;II)V" } : Jvm.MethodName) prog_1_method_34_code (6 : Nat) (Option.none : Option Jvm.ClassFile.FieldType)) ∈ lw_all := lw_g (lw_at lw_m3 24 rfl) rfl
theorem q576 : (Jvm.Cond.methodLink "BeatenInstead" (239 : Nat) ({ cls := "BeatenInstead", name := "meanFrom", desc := "(LBeatenInstead$Prince;III)J" } : Jvm.MethodName)) ∈ lw_all := lw_g (lw_at lw_m3 25 rfl) rfl
theorem q577 : (Jvm.Cond.privateMethod ({ cls := "BeatenInstead", name := "meanFrom", desc := "(LBeatenInstead$Prince;III)J" } : Jvm.MethodName)) ∈ lw_tbl := lw_at lw_m3 26 rfl
theorem q578 : (Jvm.Cond.instanceMethod ({ cls := "BeatenInstead", name := "meanFrom", desc := "(LBeatenInstead$Prince;III)J" } : Jvm.MethodName)) ∈ lw_all := lw_g (lw_at lw_m3 27 rfl) rfl
theorem q579 : (Jvm.Cond.code ({ cls := "BeatenInstead", name := "meanFrom", desc := "(LBeatenInstead$Prince;III)J" } : Jvm.MethodName) prog_1_method_33_code (13 : Nat) (Option.some Jvm.ClassFile.FieldType.long)) ∈ lw_all := lw_g (lw_at lw_m3 28 rfl) rfl
theorem q580 : (Jvm.Cond.methodLink "BeatenInstead" (249 : Nat) ({ cls := "java/lang/System", name := "arraycopy", desc := "(Ljava/lang/Object;ILjava/lang/Object;II)V" } : Jvm.MethodName)) ∈ lw_all := lw_g (lw_at lw_m3 29 rfl) rfl
theorem q583 : (Jvm.Cond.methodLink "BeatenInstead" (267 : Nat) ({ cls := "BeatenInstead", name := "term", desc := "(JJI)J" } : Jvm.MethodName)) ∈ lw_all := lw_g (lw_at lw_m3 32 rfl) rfl
theorem q584 : (Jvm.Cond.static ({ cls := "BeatenInstead", name := "term", desc := "(JJI)J" } : Jvm.MethodName)) ∈ lw_all := lw_g (lw_at lw_m3 33 rfl) rfl
theorem q585 : (Jvm.Cond.code ({ cls := "BeatenInstead", name := "term", desc := "(JJI)J" } : Jvm.MethodName) prog_1_method_35_code (11 : Nat) (Option.some Jvm.ClassFile.FieldType.long)) ∈ lw_all := lw_g (lw_at lw_m3 34 rfl) rfl
theorem q587 : (Jvm.Cond.instanceMethod ({ cls := "BeatenInstead", name := "match", desc := "(II)I" } : Jvm.MethodName)) ∈ lw_all := lw_g (lw_at lw_m3 36 rfl) rfl
theorem q588 : (Jvm.Cond.selects "BeatenInstead" ({ cls := "BeatenInstead", name := "match", desc := "(II)I" } : Jvm.MethodName) ({ cls := "BeatenInstead", name := "match", desc := "(II)I" } : Jvm.MethodName)) ∈ lw_all := lw_g (lw_at lw_m3 37 rfl) rfl
theorem q589 : (Jvm.Cond.code ({ cls := "BeatenInstead", name := "match", desc := "(II)I" } : Jvm.MethodName) prog_1_method_42_code (3 : Nat) (Option.some Jvm.ClassFile.FieldType.int)) ∈ lw_all := lw_g (lw_at lw_m3 38 rfl) rfl
theorem q590 : (Jvm.Cond.methodLink "BeatenInstead" (292 : Nat) ({ cls := "BeatenInstead", name := "tellMatch", desc := "(II)I" } : Jvm.MethodName)) ∈ lw_all := lw_g (lw_at lw_m3 39 rfl) rfl
theorem q591 : (Jvm.Cond.privateMethod ({ cls := "BeatenInstead", name := "tellMatch", desc := "(II)I" } : Jvm.MethodName)) ∈ lw_tbl := lw_at lw_m3 40 rfl
theorem q592 : (Jvm.Cond.instanceMethod ({ cls := "BeatenInstead", name := "tellMatch", desc := "(II)I" } : Jvm.MethodName)) ∈ lw_all := lw_g (lw_at lw_m3 41 rfl) rfl
theorem q593 : (Jvm.Cond.code ({ cls := "BeatenInstead", name := "tellMatch", desc := "(II)I" } : Jvm.MethodName) prog_1_method_41_code (4 : Nat) (Option.some Jvm.ClassFile.FieldType.int)) ∈ lw_all := lw_g (lw_at lw_m3 42 rfl) rfl
theorem q594 : (Jvm.Cond.methodLink "BeatenInstead" (289 : Nat) ({ cls := "BeatenInstead", name := "layMatch", desc := "(I)I" } : Jvm.MethodName)) ∈ lw_all := lw_g (lw_at lw_m3 43 rfl) rfl
theorem q595 : (Jvm.Cond.privateMethod ({ cls := "BeatenInstead", name := "layMatch", desc := "(I)I" } : Jvm.MethodName)) ∈ lw_tbl := lw_at lw_m3 44 rfl
theorem q596 : (Jvm.Cond.instanceMethod ({ cls := "BeatenInstead", name := "layMatch", desc := "(I)I" } : Jvm.MethodName)) ∈ lw_all := lw_g (lw_at lw_m3 45 rfl) rfl
theorem q597 : (Jvm.Cond.code ({ cls := "BeatenInstead", name := "layMatch", desc := "(I)I" } : Jvm.MethodName) prog_1_method_40_code (7 : Nat) (Option.some Jvm.ClassFile.FieldType.int)) ∈ lw_all := lw_g (lw_at lw_m3 46 rfl) rfl
theorem q598 : (Jvm.Cond.methodLink "BeatenInstead" (286 : Nat) ({ cls := "BeatenInstead", name := "isMatch", desc := "(I)Z" } : Jvm.MethodName)) ∈ lw_all := lw_g (lw_at lw_m3 47 rfl) rfl
theorem q599 : (Jvm.Cond.privateMethod ({ cls := "BeatenInstead", name := "isMatch", desc := "(I)Z" } : Jvm.MethodName)) ∈ lw_tbl := lw_at lw_m3 48 rfl
theorem q600 : (Jvm.Cond.instanceMethod ({ cls := "BeatenInstead", name := "isMatch", desc := "(I)Z" } : Jvm.MethodName)) ∈ lw_all := lw_g (lw_at lw_m3 49 rfl) rfl
theorem q601 : (Jvm.Cond.code ({ cls := "BeatenInstead", name := "isMatch", desc := "(I)Z" } : Jvm.MethodName) prog_1_method_39_code (5 : Nat) (Option.some Jvm.ClassFile.FieldType.boolean)) ∈ lw_all := lw_g (lw_at lw_m3 50 rfl) rfl
theorem q603 : (Jvm.Cond.instanceMethod ({ cls := "BeatenInstead", name := "faults", desc := "(III)I" } : Jvm.MethodName)) ∈ lw_all := lw_g (lw_at lw_m3 52 rfl) rfl
theorem q604 : (Jvm.Cond.selects "BeatenInstead" ({ cls := "BeatenInstead", name := "faults", desc := "(III)I" } : Jvm.MethodName) ({ cls := "BeatenInstead", name := "faults", desc := "(III)I" } : Jvm.MethodName)) ∈ lw_all := lw_g (lw_at lw_m3 53 rfl) rfl
theorem q605 : (Jvm.Cond.code ({ cls := "BeatenInstead", name := "faults", desc := "(III)I" } : Jvm.MethodName) prog_1_method_45_code (4 : Nat) (Option.some Jvm.ClassFile.FieldType.int)) ∈ lw_all := lw_g (lw_at lw_m3 54 rfl) rfl
theorem q606 : (Jvm.Cond.constantLong "BeatenInstead" (298 : Nat) (25 : Int64)) ∈ lw_all := lw_g (lw_at lw_m3 55 rfl) rfl
theorem q607 : (Jvm.Cond.methodLink "BeatenInstead" (300 : Nat) ({ cls := "BeatenInstead", name := "faultsOf", desc := "(LBeatenInstead$Prince;II)I" } : Jvm.MethodName)) ∈ lw_all := lw_g (lw_at lw_m3 56 rfl) rfl
theorem q608 : (Jvm.Cond.privateMethod ({ cls := "BeatenInstead", name := "faultsOf", desc := "(LBeatenInstead$Prince;II)I" } : Jvm.MethodName)) ∈ lw_tbl := lw_at lw_m3 57 rfl
theorem q609 : (Jvm.Cond.instanceMethod ({ cls := "BeatenInstead", name := "faultsOf", desc := "(LBeatenInstead$Prince;II)I" } : Jvm.MethodName)) ∈ lw_all := lw_g (lw_at lw_m3 58 rfl) rfl
theorem q610 : (Jvm.Cond.code ({ cls := "BeatenInstead", name := "faultsOf", desc := "(LBeatenInstead$Prince;II)I" } : Jvm.MethodName) prog_1_method_44_code (7 : Nat) (Option.some Jvm.ClassFile.FieldType.int)) ∈ lw_all := lw_g (lw_at lw_m3 59 rfl) rfl
theorem q611 : (Jvm.Cond.methodLink "BeatenInstead" (295 : Nat) ({ cls := "BeatenInstead", name := "blowsBy", desc := "(LBeatenInstead$Prince;I)I" } : Jvm.MethodName)) ∈ lw_all := lw_g (lw_at lw_m3 60 rfl) rfl
theorem q612 : (Jvm.Cond.privateMethod ({ cls := "BeatenInstead", name := "blowsBy", desc := "(LBeatenInstead$Prince;I)I" } : Jvm.MethodName)) ∈ lw_tbl := lw_at lw_m3 61 rfl
theorem q613 : (Jvm.Cond.instanceMethod ({ cls := "BeatenInstead", name := "blowsBy", desc := "(LBeatenInstead$Prince;I)I" } : Jvm.MethodName)) ∈ lw_all := lw_g (lw_at lw_m3 62 rfl) rfl
theorem q614 : (Jvm.Cond.code ({ cls := "BeatenInstead", name := "blowsBy", desc := "(LBeatenInstead$Prince;I)I" } : Jvm.MethodName) prog_1_method_43_code (8 : Nat) (Option.some Jvm.ClassFile.FieldType.int)) ∈ lw_all := lw_g (lw_at lw_m3 63 rfl) rfl
theorem q616 : (Jvm.Cond.instanceMethod ({ cls := "BeatenInstead", name := "hear", desc := "(IIZ)I" } : Jvm.MethodName)) ∈ lw_all := lw_g (lw_at lw_m3 65 rfl) rfl
theorem q617 : (Jvm.Cond.selects "BeatenInstead" ({ cls := "BeatenInstead", name := "hear", desc := "(IIZ)I" } : Jvm.MethodName) ({ cls := "BeatenInstead", name := "hear", desc := "(IIZ)I" } : Jvm.MethodName)) ∈ lw_all := lw_g (lw_at lw_m3 66 rfl) rfl
theorem q618 : (Jvm.Cond.code ({ cls := "BeatenInstead", name := "hear", desc := "(IIZ)I" } : Jvm.MethodName) prog_1_method_46_code (4 : Nat) (Option.some Jvm.ClassFile.FieldType.int)) ∈ lw_all := lw_g (lw_at lw_m3 67 rfl) rfl
theorem q620 : (Jvm.Cond.instanceMethod ({ cls := "BeatenInstead", name := "forget", desc := "()I" } : Jvm.MethodName)) ∈ lw_all := lw_g (lw_at lw_m3 69 rfl) rfl
theorem q621 : (Jvm.Cond.selects "BeatenInstead" ({ cls := "BeatenInstead", name := "forget", desc := "()I" } : Jvm.MethodName) ({ cls := "BeatenInstead", name := "forget", desc := "()I" } : Jvm.MethodName)) ∈ lw_all := lw_g (lw_at lw_m3 70 rfl) rfl
theorem q622 : (Jvm.Cond.code ({ cls := "BeatenInstead", name := "forget", desc := "()I" } : Jvm.MethodName) prog_1_method_47_code (2 : Nat) (Option.some Jvm.ClassFile.FieldType.int)) ∈ lw_all := lw_g (lw_at lw_m3 71 rfl) rfl
theorem q624 : (Jvm.Cond.instanceMethod ({ cls := "BeatenInstead", name := "fondness", desc := "(I)I" } : Jvm.MethodName)) ∈ lw_all := lw_g (lw_at lw_m3 73 rfl) rfl
theorem q625 : (Jvm.Cond.selects "BeatenInstead" ({ cls := "BeatenInstead", name := "fondness", desc := "(I)I" } : Jvm.MethodName) ({ cls := "BeatenInstead", name := "fondness", desc := "(I)I" } : Jvm.MethodName)) ∈ lw_all := lw_g (lw_at lw_m3 74 rfl) rfl
theorem q626 : (Jvm.Cond.code ({ cls := "BeatenInstead", name := "fondness", desc := "(I)I" } : Jvm.MethodName) prog_1_method_50_code (2 : Nat) (Option.some Jvm.ClassFile.FieldType.int)) ∈ lw_all := lw_g (lw_at lw_m3 75 rfl) rfl
theorem q627 : (Jvm.Cond.methodLink "BeatenInstead" (307 : Nat) ({ cls := "BeatenInstead", name := "fondnessOf", desc := "(LBeatenInstead$Prince;)I" } : Jvm.MethodName)) ∈ lw_all := lw_g (lw_at lw_m3 76 rfl) rfl
theorem q628 : (Jvm.Cond.privateMethod ({ cls := "BeatenInstead", name := "fondnessOf", desc := "(LBeatenInstead$Prince;)I" } : Jvm.MethodName)) ∈ lw_tbl := lw_at lw_m3 77 rfl
theorem q629 : (Jvm.Cond.instanceMethod ({ cls := "BeatenInstead", name := "fondnessOf", desc := "(LBeatenInstead$Prince;)I" } : Jvm.MethodName)) ∈ lw_all := lw_g (lw_at lw_m3 78 rfl) rfl
theorem q630 : (Jvm.Cond.code ({ cls := "BeatenInstead", name := "fondnessOf", desc := "(LBeatenInstead$Prince;)I" } : Jvm.MethodName) prog_1_method_49_code (4 : Nat) (Option.some Jvm.ClassFile.FieldType.int)) ∈ lw_all := lw_g (lw_at lw_m3 79 rfl) rfl
theorem q631 : (Jvm.Cond.methodLink "BeatenInstead" (303 : Nat) ({ cls := "BeatenInstead", name := "canBe", desc := "(LBeatenInstead$Prince;I)Z" } : Jvm.MethodName)) ∈ lw_all := lw_g (lw_at lw_m3 80 rfl) rfl
theorem q632 : (Jvm.Cond.privateMethod ({ cls := "BeatenInstead", name := "canBe", desc := "(LBeatenInstead$Prince;I)Z" } : Jvm.MethodName)) ∈ lw_tbl := lw_at lw_m3 81 rfl
theorem q633 : (Jvm.Cond.instanceMethod ({ cls := "BeatenInstead", name := "canBe", desc := "(LBeatenInstead$Prince;I)Z" } : Jvm.MethodName)) ∈ lw_all := lw_g (lw_at lw_m3 82 rfl) rfl
theorem q634 : (Jvm.Cond.code ({ cls := "BeatenInstead", name := "canBe", desc := "(LBeatenInstead$Prince;I)Z" } : Jvm.MethodName) prog_1_method_48_code (5 : Nat) (Option.some Jvm.ClassFile.FieldType.boolean)) ∈ lw_all := lw_g (lw_at lw_m3 83 rfl) rfl
theorem q636 : (Jvm.Cond.instanceMethod ({ cls := "BeatenInstead", name := "schools", desc := "(III)I" } : Jvm.MethodName)) ∈ lw_all := lw_g (lw_at lw_m3 85 rfl) rfl
theorem q637 : (Jvm.Cond.selects "BeatenInstead" ({ cls := "BeatenInstead", name := "schools", desc := "(III)I" } : Jvm.MethodName) ({ cls := "BeatenInstead", name := "schools", desc := "(III)I" } : Jvm.MethodName)) ∈ lw_all := lw_g (lw_at lw_m3 86 rfl) rfl
theorem q638 : (Jvm.Cond.code ({ cls := "BeatenInstead", name := "schools", desc := "(III)I" } : Jvm.MethodName) prog_1_method_56_code (4 : Nat) (Option.some Jvm.ClassFile.FieldType.int)) ∈ lw_all := lw_g (lw_at lw_m3 87 rfl) rfl
theorem q639 : (Jvm.Cond.constantLong "BeatenInstead" (333 : Nat) (20 : Int64)) ∈ lw_all := lw_g (lw_at lw_m3 88 rfl) rfl
theorem q640 : (Jvm.Cond.methodLink "BeatenInstead" (335 : Nat) ({ cls := "BeatenInstead", name := "schoolsBy", desc := "(III)I" } : Jvm.MethodName)) ∈ lw_all := lw_g (lw_at lw_m3 89 rfl) rfl
theorem q641 : (Jvm.Cond.privateMethod ({ cls := "BeatenInstead", name := "schoolsBy", desc := "(III)I" } : Jvm.MethodName)) ∈ lw_tbl := lw_at lw_m3 90 rfl
theorem q642 : (Jvm.Cond.instanceMethod ({ cls := "BeatenInstead", name := "schoolsBy", desc := "(III)I" } : Jvm.MethodName)) ∈ lw_all := lw_g (lw_at lw_m3 91 rfl) rfl
theorem q643 : (Jvm.Cond.code ({ cls := "BeatenInstead", name := "schoolsBy", desc := "(III)I" } : Jvm.MethodName) prog_1_method_55_code (8 : Nat) (Option.some Jvm.ClassFile.FieldType.int)) ∈ lw_all := lw_g (lw_at lw_m3 92 rfl) rfl
theorem q644 : (Jvm.Cond.methodLink "BeatenInstead" (323 : Nat) ({ cls := "BeatenInstead", name := "stripesAll", desc := "()I" } : Jvm.MethodName)) ∈ lw_all := lw_g (lw_at lw_m3 93 rfl) rfl
theorem q645 : (Jvm.Cond.privateMethod ({ cls := "BeatenInstead", name := "stripesAll", desc := "()I" } : Jvm.MethodName)) ∈ lw_tbl := lw_at lw_m3 94 rfl
theorem q646 : (Jvm.Cond.instanceMethod ({ cls := "BeatenInstead", name := "stripesAll", desc := "()I" } : Jvm.MethodName)) ∈ lw_all := lw_g (lw_at lw_m3 95 rfl) rfl
theorem q647 : (Jvm.Cond.code ({ cls := "BeatenInstead", name := "stripesAll", desc := "()I" } : Jvm.MethodName) prog_1_method_53_code (3 : Nat) (Option.some Jvm.ClassFile.FieldType.int)) ∈ lw_all := lw_g (lw_at lw_m3 96 rfl) rfl
theorem q648 : (Jvm.Cond.methodLink "BeatenInstead" (326 : Nat) ({ cls := "BeatenInstead", name := "schoolOf", desc := "(LBeatenInstead$Prince;)V" } : Jvm.MethodName)) ∈ lw_all := lw_g (lw_at lw_m3 97 rfl) rfl
theorem q649 : (Jvm.Cond.privateMethod ({ cls := "BeatenInstead", name := "schoolOf", desc := "(LBeatenInstead$Prince;)V" } : Jvm.MethodName)) ∈ lw_tbl := lw_at lw_m3 98 rfl
theorem q650 : (Jvm.Cond.instanceMethod ({ cls := "BeatenInstead", name := "schoolOf", desc := "(LBeatenInstead$Prince;)V" } : Jvm.MethodName)) ∈ lw_all := lw_g (lw_at lw_m3 99 rfl) rfl
theorem q651 : (Jvm.Cond.code ({ cls := "BeatenInstead", name := "schoolOf", desc := "(LBeatenInstead$Prince;)V" } : Jvm.MethodName) prog_1_method_54_code (3 : Nat) (Option.none : Option Jvm.ClassFile.FieldType)) ∈ lw_all := lw_g (lw_at lw_m3 100 rfl) rfl
theorem q652 : (Jvm.Cond.methodLink "BeatenInstead" (320 : Nat) ({ cls := "BeatenInstead", name := "draw", desc := "(I)I" } : Jvm.MethodName)) ∈ lw_all := lw_g (lw_at lw_m3 101 rfl) rfl
theorem q653 : (Jvm.Cond.privateMethod ({ cls := "BeatenInstead", name := "draw", desc := "(I)I" } : Jvm.MethodName)) ∈ lw_tbl := lw_at lw_m3 102 rfl
theorem q654 : (Jvm.Cond.instanceMethod ({ cls := "BeatenInstead", name := "draw", desc := "(I)I" } : Jvm.MethodName)) ∈ lw_all := lw_g (lw_at lw_m3 103 rfl) rfl
theorem q655 : (Jvm.Cond.code ({ cls := "BeatenInstead", name := "draw", desc := "(I)I" } : Jvm.MethodName) prog_1_method_51_code (2 : Nat) (Option.some Jvm.ClassFile.FieldType.int)) ∈ lw_all := lw_g (lw_at lw_m3 104 rfl) rfl
theorem q656 : (Jvm.Cond.constantLong "BeatenInstead" (310 : Nat) (1103515245 : Int64)) ∈ lw_all := lw_g (lw_at lw_m3 105 rfl) rfl
theorem q657 : (Jvm.Cond.constantLong "BeatenInstead" (315 : Nat) (12345 : Int64)) ∈ lw_all := lw_g (lw_at lw_m3 106 rfl) rfl
theorem q658 : (Jvm.Cond.constantLong "BeatenInstead" (317 : Nat) (2147483647 : Int64)) ∈ lw_all := lw_g (lw_at lw_m3 107 rfl) rfl
theorem q659 : (Jvm.Cond.constant "BeatenInstead" (319 : Nat) (65536 : Int32)) ∈ lw_all := lw_g (lw_at lw_m3 108 rfl) rfl
theorem q660 : (Jvm.Cond.methodLink "BeatenInstead" (330 : Nat) ({ cls := "BeatenInstead", name := "learntAll", desc := "()I" } : Jvm.MethodName)) ∈ lw_all := lw_g (lw_at lw_m3 109 rfl) rfl
theorem q661 : (Jvm.Cond.privateMethod ({ cls := "BeatenInstead", name := "learntAll", desc := "()I" } : Jvm.MethodName)) ∈ lw_tbl := lw_at lw_m3 110 rfl
theorem q662 : (Jvm.Cond.instanceMethod ({ cls := "BeatenInstead", name := "learntAll", desc := "()I" } : Jvm.MethodName)) ∈ lw_all := lw_g (lw_at lw_m3 111 rfl) rfl
theorem q663 : (Jvm.Cond.code ({ cls := "BeatenInstead", name := "learntAll", desc := "()I" } : Jvm.MethodName) prog_1_method_52_code (3 : Nat) (Option.some Jvm.ClassFile.FieldType.int)) ∈ lw_all := lw_g (lw_at lw_m3 112 rfl) rfl
theorem q665 : (Jvm.Cond.instanceMethod ({ cls := "BeatenInstead", name := "image", desc := "()I" } : Jvm.MethodName)) ∈ lw_all := lw_g (lw_at lw_m3 114 rfl) rfl
theorem q666 : (Jvm.Cond.selects "BeatenInstead" ({ cls := "BeatenInstead", name := "image", desc := "()I" } : Jvm.MethodName) ({ cls := "BeatenInstead", name := "image", desc := "()I" } : Jvm.MethodName)) ∈ lw_all := lw_g (lw_at lw_m3 115 rfl) rfl
theorem q667 : (Jvm.Cond.code ({ cls := "BeatenInstead", name := "image", desc := "()I" } : Jvm.MethodName) prog_1_method_57_code (2 : Nat) (Option.some Jvm.ClassFile.FieldType.int)) ∈ lw_all := lw_g (lw_at lw_m3 116 rfl) rfl
theorem q669 : (Jvm.Cond.instanceMethod ({ cls := "BeatenInstead", name := "restore", desc := "()I" } : Jvm.MethodName)) ∈ lw_all := lw_g (lw_at lw_m3 118 rfl) rfl
theorem q670 : (Jvm.Cond.selects "BeatenInstead" ({ cls := "BeatenInstead", name := "restore", desc := "()I" } : Jvm.MethodName) ({ cls := "BeatenInstead", name := "restore", desc := "()I" } : Jvm.MethodName)) ∈ lw_all := lw_g (lw_at lw_m3 119 rfl) rfl
theorem q671 : (Jvm.Cond.code ({ cls := "BeatenInstead", name := "restore", desc := "()I" } : Jvm.MethodName) prog_1_method_58_code (2 : Nat) (Option.some Jvm.ClassFile.FieldType.int)) ∈ lw_all := lw_g (lw_at lw_m3 120 rfl) rfl
theorem q673 : (Jvm.Cond.instanceMethod ({ cls := "BeatenInstead", name := "count", desc := "(I)I" } : Jvm.MethodName)) ∈ lw_all := lw_g (lw_at lw_m3 122 rfl) rfl
theorem q674 : (Jvm.Cond.selects "BeatenInstead" ({ cls := "BeatenInstead", name := "count", desc := "(I)I" } : Jvm.MethodName) ({ cls := "BeatenInstead", name := "count", desc := "(I)I" } : Jvm.MethodName)) ∈ lw_all := lw_g (lw_at lw_m3 123 rfl) rfl
theorem q675 : (Jvm.Cond.code ({ cls := "BeatenInstead", name := "count", desc := "(I)I" } : Jvm.MethodName) prog_1_method_59_code (2 : Nat) (Option.some Jvm.ClassFile.FieldType.int)) ∈ lw_all := lw_g (lw_at lw_m3 124 rfl) rfl
theorem q677 : (Jvm.Cond.instanceMethod ({ cls := "BeatenInstead", name := "digest", desc := "()J" } : Jvm.MethodName)) ∈ lw_all := lw_g (lw_at lw_m3 126 rfl) rfl
theorem q678 : (Jvm.Cond.selects "BeatenInstead" ({ cls := "BeatenInstead", name := "digest", desc := "()J" } : Jvm.MethodName) ({ cls := "BeatenInstead", name := "digest", desc := "()J" } : Jvm.MethodName)) ∈ lw_all := lw_g (lw_at lw_m3 127 rfl) rfl
theorem q679 : (Jvm.Cond.code ({ cls := "BeatenInstead", name := "digest", desc := "()J" } : Jvm.MethodName) prog_1_method_63_code (2 : Nat) (Option.some Jvm.ClassFile.FieldType.long)) ∈ lw_all := lw_g (lw_at lw_m3 128 rfl) rfl
theorem q680 : (Jvm.Cond.constantLong "BeatenInstead" (360 : Nat) (877 : Int64)) ∈ lw_all := lw_g (lw_at lw_m3 129 rfl) rfl
theorem q681 : (Jvm.Cond.methodLink "BeatenInstead" (356 : Nat) ({ cls := "BeatenInstead", name := "note", desc := "(J)V" } : Jvm.MethodName)) ∈ lw_all := lw_g (lw_at lw_m3 130 rfl) rfl
theorem q682 : (Jvm.Cond.privateMethod ({ cls := "BeatenInstead", name := "note", desc := "(J)V" } : Jvm.MethodName)) ∈ lw_tbl := lw_at lw_m3 131 rfl
theorem q683 : (Jvm.Cond.instanceMethod ({ cls := "BeatenInstead", name := "note", desc := "(J)V" } : Jvm.MethodName)) ∈ lw_all := lw_g (lw_at lw_m3 132 rfl) rfl
theorem q684 : (Jvm.Cond.code ({ cls := "BeatenInstead", name := "note", desc := "(J)V" } : Jvm.MethodName) prog_1_method_60_code (3 : Nat) (Option.none : Option Jvm.ClassFile.FieldType)) ∈ lw_all := lw_g (lw_at lw_m3 133 rfl) rfl
theorem q685 : (Jvm.Cond.constantLong "BeatenInstead" (351 : Nat) (31 : Int64)) ∈ lw_all := lw_g (lw_at lw_m3 134 rfl) rfl
theorem q686 : (Jvm.Cond.methodLink "BeatenInstead" (362 : Nat) ({ cls := "BeatenInstead", name := "noteLesson", desc := "(I)V" } : Jvm.MethodName)) ∈ lw_all := lw_g (lw_at lw_m3 135 rfl) rfl
theorem q687 : (Jvm.Cond.privateMethod ({ cls := "BeatenInstead", name := "noteLesson", desc := "(I)V" } : Jvm.MethodName)) ∈ lw_tbl := lw_at lw_m3 136 rfl
theorem q688 : (Jvm.Cond.instanceMethod ({ cls := "BeatenInstead", name := "noteLesson", desc := "(I)V" } : Jvm.MethodName)) ∈ lw_all := lw_g (lw_at lw_m3 137 rfl) rfl
theorem q689 : (Jvm.Cond.code ({ cls := "BeatenInstead", name := "noteLesson", desc := "(I)V" } : Jvm.MethodName) prog_1_method_61_code (3 : Nat) (Option.none : Option Jvm.ClassFile.FieldType)) ∈ lw_all := lw_g (lw_at lw_m3 138 rfl) rfl
theorem q690 : (Jvm.Cond.methodLink "BeatenInstead" (366 : Nat) ({ cls := "BeatenInstead", name := "notePrince", desc := "(LBeatenInstead$Prince;)V" } : Jvm.MethodName)) ∈ lw_all := lw_g (lw_at lw_m3 139 rfl) rfl
theorem q691 : (Jvm.Cond.privateMethod ({ cls := "BeatenInstead", name := "notePrince", desc := "(LBeatenInstead$Prince;)V" } : Jvm.MethodName)) ∈ lw_tbl := lw_at lw_m3 140 rfl
theorem q692 : (Jvm.Cond.instanceMethod ({ cls := "BeatenInstead", name := "notePrince", desc := "(LBeatenInstead$Prince;)V" } : Jvm.MethodName)) ∈ lw_all := lw_g (lw_at lw_m3 141 rfl) rfl
theorem q693 : (Jvm.Cond.code ({ cls := "BeatenInstead", name := "notePrince", desc := "(LBeatenInstead$Prince;)V" } : Jvm.MethodName) prog_1_method_62_code (3 : Nat) (Option.none : Option Jvm.ClassFile.FieldType)) ∈ lw_all := lw_g (lw_at lw_m3 142 rfl) rfl
theorem q694 : (Jvm.Cond.methodLink "BeatenInstead" (369 : Nat) ({ cls := "BeatenInstead", name := "count", desc := "(I)I" } : Jvm.MethodName)) ∈ lw_all := lw_g (lw_at lw_m3 143 rfl) rfl
theorem in_X0 : ∀ w ∈ wsX00, w ∈ lw_all := lw_in wsX00 [132, 134, 136, 138, 140, 142, 144, 146, 148, 150, 152, 154, 156, 158, 160, 162, 164, 166, 168, 170, 172, 174, 176, 178, 180, 182, 184, 186, 188, 190, 192, 194, 196, 198, 200] (by decide +kernel) (by decide +kernel)
