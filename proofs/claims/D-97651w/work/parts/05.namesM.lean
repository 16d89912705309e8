/-! BeatenInsteadModel -/
set_option maxRecDepth 100000
def RX1 : String := "BeatenInsteadModel"
def TX1 : u_T := fun k => match k with
  | 0 => ("BeatenInsteadModel", "schools", "I", false)
  | 1 => ("BeatenInsteadModel", "lessons", "I", false)
  | 2 => ("BeatenInsteadModel", "limit", "I", false)
  | 3 => ("BeatenInsteadModel", "hardOf", "[I", true)
  | 4 => ("BeatenInsteadModel", "blowsOf", "[I", true)
  | 5 => ("BeatenInsteadModel", "stripesOf", "[I", true)
  | 6 => ("BeatenInsteadModel", "princes", "I", false)
  | 7 => ("BeatenInsteadModel", "kindOf", "[I", true)
  | 8 => ("BeatenInsteadModel", "witOf", "[I", true)
  | 9 => ("BeatenInsteadModel", "boyOf", "[I", true)
  | 10 => ("BeatenInsteadModel", "learntOf", "[I", true)
  | 11 => ("BeatenInsteadModel", "fondOf", "[I", true)
  | 12 => ("BeatenInsteadModel", "heard", "I", false)
  | 13 => ("BeatenInsteadModel", "heardPrince", "[I", true)
  | 14 => ("BeatenInsteadModel", "heardLesson", "[I", true)
  | 15 => ("BeatenInsteadModel", "heardLearnt", "[I", true)
  | 16 => ("BeatenInsteadModel", "asks", "I", false)
  | 17 => ("BeatenInsteadModel", "pageLength", "I", false)
  | 18 => ("BeatenInsteadModel", "page", "[B", true)
  | 19 => ("BeatenInsteadModel", "isWhole", "Z", false)
  | 20 => ("BeatenInsteadModel", "newMany", "I", false)
  | 21 => ("BeatenInsteadModel", "savedStripes", "I", false)
  | 22 => ("BeatenInsteadModel", "savedFond", "I", false)
  | 23 => ("BeatenInsteadModel", "left", "[I", true)
  | 24 => ("BeatenInsteadModel", "leftMany", "I", false)
  | 25 => ("BeatenInsteadModel", "row", "[I", true)
  | 26 => ("BeatenInsteadModel", "seedNow", "J", false)
  | 27 => ("BeatenInsteadModel", "saved", "[I", true)
  | 28 => ("BeatenInsteadModel", "isKept", "Z", false)
  | 29 => ("BeatenInsteadModel", "keptSchool", "I", false)
  | 30 => ("BeatenInsteadModel", "keptPrinces", "I", false)
  | 31 => ("BeatenInsteadModel", "keptHeard", "I", false)
  | 32 => ("BeatenInsteadModel", "keptFond", "[I", true)
  | 33 => ("BeatenInsteadModel", "keptStripes", "[I", true)
  | 34 => ("BeatenInsteadModel", "keptLearnt", "[I", true)
  | 35 => ("BeatenInsteadModel", "keptBoy", "[I", true)
  | 36 => ("BeatenInsteadModel", "keptPrince", "[I", true)
  | 37 => ("BeatenInsteadModel", "keptLesson", "[I", true)
  | 38 => ("BeatenInsteadModel", "keptIs", "[I", true)
  | _ => ("BeatenInsteadModel", "h", "J", false)
def tyX1 : Nat → FieldType := fun k => match k with
  | 0 => .int
  | 1 => .int
  | 2 => .int
  | 3 => .array .int
  | 4 => .array .int
  | 5 => .array .int
  | 6 => .int
  | 7 => .array .int
  | 8 => .array .int
  | 9 => .array .int
  | 10 => .array .int
  | 11 => .array .int
  | 12 => .int
  | 13 => .array .int
  | 14 => .array .int
  | 15 => .array .int
  | 16 => .int
  | 17 => .int
  | 18 => .array .byte
  | 19 => .boolean
  | 20 => .int
  | 21 => .int
  | 22 => .int
  | 23 => .array .int
  | 24 => .int
  | 25 => .array .int
  | 26 => .long
  | 27 => .array .int
  | 28 => .boolean
  | 29 => .int
  | 30 => .int
  | 31 => .int
  | 32 => .array .int
  | 33 => .array .int
  | 34 => .array .int
  | 35 => .array .int
  | 36 => .array .int
  | 37 => .array .int
  | 38 => .array .int
  | _ => .long
abbrev wsX10 : List Cond := u_ws RX1 TX1 40
set_option maxRecDepth 100000 in
theorem nmX1 : ∀ a, a < 40 → ∀ b, b < 40 → a ≠ b → (TX1 a).2.1 ≠ (TX1 b).2.1 := by decide +kernel
set_option maxRecDepth 100000 in
theorem tyX1_ok : ∀ k, k < 40 → parseFieldDescriptor (TX1 k).2.2.1 = some (tyX1 k) := by decide +kernel
abbrev cX1_init : ByteArray := prog_9_method_1_code
def yX1_init : MethodName := ⟨RX1, "<init>", "()V"⟩
def dkwX1_init_7 : List UInt8 := [181, 0, 74, 177]
abbrev dktX1_init_7 : List UInt8 := dkwX1_init_7 ++ []
def dkwX1_init_6 : List UInt8 := [181, 0, 65, 42, 16, 6, 188, 10, 181, 0, 68, 42, 16, 6, 188, 10, 181, 0, 71, 42, 16, 6, 188, 10]
abbrev dktX1_init_6 : List UInt8 := dkwX1_init_6 ++ dktX1_init_7
def dkwX1_init_5 : List UInt8 := [188, 10, 181, 0, 56, 42, 6, 188, 10, 181, 0, 59, 42, 6, 188, 10, 181, 0, 62, 42, 6, 188, 10]
abbrev dktX1_init_5 : List UInt8 := dkwX1_init_5 ++ dktX1_init_6
def dkwX1_init_4 : List UInt8 := [8, 188, 10, 181, 0, 47, 42, 8, 188, 10, 181, 0, 50, 42, 16, 15, 188, 10, 181, 0, 53, 42, 16, 9]
abbrev dktX1_init_4 : List UInt8 := dkwX1_init_4 ++ dktX1_init_5
def dkwX1_init_3 : List UInt8 := [16, 6, 188, 10, 181, 0, 37, 42, 16, 6, 188, 10, 181, 0, 40, 42, 16, 18, 188, 8, 181, 0, 43, 42]
abbrev dktX1_init_3 : List UInt8 := dkwX1_init_3 ++ dktX1_init_4
def dkwX1_init_2 : List UInt8 := [42, 6, 188, 10, 181, 0, 28, 42, 16, 9, 188, 10, 181, 0, 31, 42, 16, 6, 188, 10, 181, 0, 34, 42]
abbrev dktX1_init_2 : List UInt8 := dkwX1_init_2 ++ dktX1_init_3
def dkwX1_init_1 : List UInt8 := [181, 0, 16, 42, 6, 188, 10, 181, 0, 19, 42, 6, 188, 10, 181, 0, 22, 42, 6, 188, 10, 181, 0, 25]
abbrev dktX1_init_1 : List UInt8 := dkwX1_init_1 ++ dktX1_init_2
def dkwX1_init_0 : List UInt8 := [42, 183, 0, 1, 42, 8, 188, 10, 181, 0, 7, 42, 8, 188, 10, 181, 0, 13, 42, 6, 188, 10]
abbrev dktX1_init_0 : List UInt8 := dkwX1_init_0 ++ dktX1_init_1
theorem dksX1_init_0 : cX1_init.data.toList.drop 0 = dktX1_init_0 := by decide +kernel
theorem dksX1_init_1 : cX1_init.data.toList.drop 22 = dktX1_init_1 := dk_seg dksX1_init_0 22 rfl rfl
theorem dksX1_init_2 : cX1_init.data.toList.drop 46 = dktX1_init_2 := dk_seg dksX1_init_1 24 rfl rfl
theorem dksX1_init_3 : cX1_init.data.toList.drop 70 = dktX1_init_3 := dk_seg dksX1_init_2 24 rfl rfl
theorem dksX1_init_4 : cX1_init.data.toList.drop 94 = dktX1_init_4 := dk_seg dksX1_init_3 24 rfl rfl
theorem dksX1_init_5 : cX1_init.data.toList.drop 118 = dktX1_init_5 := dk_seg dksX1_init_4 24 rfl rfl
theorem dksX1_init_6 : cX1_init.data.toList.drop 141 = dktX1_init_6 := dk_seg dksX1_init_5 23 rfl rfl
theorem dksX1_init_7 : cX1_init.data.toList.drop 165 = dktX1_init_7 := dk_seg dksX1_init_6 24 rfl rfl
theorem dX1_init_0 : decode cX1_init 0 = .ok (.aload_n 0, 1) := dk_42 (dk_at dksX1_init_0 0 rfl rfl)
theorem dX1_init_1 : decode cX1_init 1 = .ok (.invokespecial 1, 3) := dk_183 0 1 (dk_at dksX1_init_0 1 rfl rfl)
theorem dX1_init_4 : decode cX1_init 4 = .ok (.aload_n 0, 1) := dk_42 (dk_at dksX1_init_0 4 rfl rfl)
theorem dX1_init_5 : decode cX1_init 5 = .ok (.iconst 5, 1) := dk_8 (dk_at dksX1_init_0 5 rfl rfl)
theorem dX1_init_6 : decode cX1_init 6 = .ok (.newarray .int, 2) := dk_188_10 (dk_at dksX1_init_0 6 rfl rfl)
theorem dX1_init_8 : decode cX1_init 8 = .ok (.putfield 7, 3) := dk_181 0 7 (dk_at dksX1_init_0 8 rfl rfl)
theorem dX1_init_11 : decode cX1_init 11 = .ok (.aload_n 0, 1) := dk_42 (dk_at dksX1_init_0 11 rfl rfl)
theorem dX1_init_12 : decode cX1_init 12 = .ok (.iconst 5, 1) := dk_8 (dk_at dksX1_init_0 12 rfl rfl)
theorem dX1_init_13 : decode cX1_init 13 = .ok (.newarray .int, 2) := dk_188_10 (dk_at dksX1_init_0 13 rfl rfl)
theorem dX1_init_15 : decode cX1_init 15 = .ok (.putfield 13, 3) := dk_181 0 13 (dk_at dksX1_init_0 15 rfl rfl)
theorem dX1_init_18 : decode cX1_init 18 = .ok (.aload_n 0, 1) := dk_42 (dk_at dksX1_init_0 18 rfl rfl)
theorem dX1_init_19 : decode cX1_init 19 = .ok (.iconst 3, 1) := dk_6 (dk_at dksX1_init_0 19 rfl rfl)
theorem dX1_init_20 : decode cX1_init 20 = .ok (.newarray .int, 2) := dk_188_10 (dk_at dksX1_init_0 20 rfl rfl)
theorem dX1_init_22 : decode cX1_init 22 = .ok (.putfield 16, 3) := dk_181 0 16 (dk_at dksX1_init_1 0 rfl rfl)
theorem dX1_init_25 : decode cX1_init 25 = .ok (.aload_n 0, 1) := dk_42 (dk_at dksX1_init_1 3 rfl rfl)
theorem dX1_init_26 : decode cX1_init 26 = .ok (.iconst 3, 1) := dk_6 (dk_at dksX1_init_1 4 rfl rfl)
theorem dX1_init_27 : decode cX1_init 27 = .ok (.newarray .int, 2) := dk_188_10 (dk_at dksX1_init_1 5 rfl rfl)
theorem dX1_init_29 : decode cX1_init 29 = .ok (.putfield 19, 3) := dk_181 0 19 (dk_at dksX1_init_1 7 rfl rfl)
theorem dX1_init_32 : decode cX1_init 32 = .ok (.aload_n 0, 1) := dk_42 (dk_at dksX1_init_1 10 rfl rfl)
theorem dX1_init_33 : decode cX1_init 33 = .ok (.iconst 3, 1) := dk_6 (dk_at dksX1_init_1 11 rfl rfl)
theorem dX1_init_34 : decode cX1_init 34 = .ok (.newarray .int, 2) := dk_188_10 (dk_at dksX1_init_1 12 rfl rfl)
theorem dX1_init_36 : decode cX1_init 36 = .ok (.putfield 22, 3) := dk_181 0 22 (dk_at dksX1_init_1 14 rfl rfl)
theorem dX1_init_39 : decode cX1_init 39 = .ok (.aload_n 0, 1) := dk_42 (dk_at dksX1_init_1 17 rfl rfl)
theorem dX1_init_40 : decode cX1_init 40 = .ok (.iconst 3, 1) := dk_6 (dk_at dksX1_init_1 18 rfl rfl)
theorem dX1_init_41 : decode cX1_init 41 = .ok (.newarray .int, 2) := dk_188_10 (dk_at dksX1_init_1 19 rfl rfl)
theorem dX1_init_43 : decode cX1_init 43 = .ok (.putfield 25, 3) := dk_181 0 25 (dk_at dksX1_init_1 21 rfl rfl)
theorem dX1_init_46 : decode cX1_init 46 = .ok (.aload_n 0, 1) := dk_42 (dk_at dksX1_init_2 0 rfl rfl)
theorem dX1_init_47 : decode cX1_init 47 = .ok (.iconst 3, 1) := dk_6 (dk_at dksX1_init_2 1 rfl rfl)
theorem dX1_init_48 : decode cX1_init 48 = .ok (.newarray .int, 2) := dk_188_10 (dk_at dksX1_init_2 2 rfl rfl)
theorem dX1_init_50 : decode cX1_init 50 = .ok (.putfield 28, 3) := dk_181 0 28 (dk_at dksX1_init_2 4 rfl rfl)
theorem dX1_init_53 : decode cX1_init 53 = .ok (.aload_n 0, 1) := dk_42 (dk_at dksX1_init_2 7 rfl rfl)
theorem dX1_init_54 : decode cX1_init 54 = .ok (.bipush 9, 2) := dk_16 9 (dk_at dksX1_init_2 8 rfl rfl)
theorem dX1_init_56 : decode cX1_init 56 = .ok (.newarray .int, 2) := dk_188_10 (dk_at dksX1_init_2 10 rfl rfl)
theorem dX1_init_58 : decode cX1_init 58 = .ok (.putfield 31, 3) := dk_181 0 31 (dk_at dksX1_init_2 12 rfl rfl)
theorem dX1_init_61 : decode cX1_init 61 = .ok (.aload_n 0, 1) := dk_42 (dk_at dksX1_init_2 15 rfl rfl)
theorem dX1_init_62 : decode cX1_init 62 = .ok (.bipush 6, 2) := dk_16 6 (dk_at dksX1_init_2 16 rfl rfl)
theorem dX1_init_64 : decode cX1_init 64 = .ok (.newarray .int, 2) := dk_188_10 (dk_at dksX1_init_2 18 rfl rfl)
theorem dX1_init_66 : decode cX1_init 66 = .ok (.putfield 34, 3) := dk_181 0 34 (dk_at dksX1_init_2 20 rfl rfl)
theorem dX1_init_69 : decode cX1_init 69 = .ok (.aload_n 0, 1) := dk_42 (dk_at dksX1_init_2 23 rfl rfl)
theorem dX1_init_70 : decode cX1_init 70 = .ok (.bipush 6, 2) := dk_16 6 (dk_at dksX1_init_3 0 rfl rfl)
theorem dX1_init_72 : decode cX1_init 72 = .ok (.newarray .int, 2) := dk_188_10 (dk_at dksX1_init_3 2 rfl rfl)
theorem dX1_init_74 : decode cX1_init 74 = .ok (.putfield 37, 3) := dk_181 0 37 (dk_at dksX1_init_3 4 rfl rfl)
theorem dX1_init_77 : decode cX1_init 77 = .ok (.aload_n 0, 1) := dk_42 (dk_at dksX1_init_3 7 rfl rfl)
theorem dX1_init_78 : decode cX1_init 78 = .ok (.bipush 6, 2) := dk_16 6 (dk_at dksX1_init_3 8 rfl rfl)
theorem dX1_init_80 : decode cX1_init 80 = .ok (.newarray .int, 2) := dk_188_10 (dk_at dksX1_init_3 10 rfl rfl)
theorem dX1_init_82 : decode cX1_init 82 = .ok (.putfield 40, 3) := dk_181 0 40 (dk_at dksX1_init_3 12 rfl rfl)
theorem dX1_init_85 : decode cX1_init 85 = .ok (.aload_n 0, 1) := dk_42 (dk_at dksX1_init_3 15 rfl rfl)
theorem dX1_init_86 : decode cX1_init 86 = .ok (.bipush 18, 2) := dk_16 18 (dk_at dksX1_init_3 16 rfl rfl)
theorem dX1_init_88 : decode cX1_init 88 = .ok (.newarray .byte, 2) := dk_188_8 (dk_at dksX1_init_3 18 rfl rfl)
theorem dX1_init_90 : decode cX1_init 90 = .ok (.putfield 43, 3) := dk_181 0 43 (dk_at dksX1_init_3 20 rfl rfl)
theorem dX1_init_93 : decode cX1_init 93 = .ok (.aload_n 0, 1) := dk_42 (dk_at dksX1_init_3 23 rfl rfl)
theorem dX1_init_94 : decode cX1_init 94 = .ok (.iconst 5, 1) := dk_8 (dk_at dksX1_init_4 0 rfl rfl)
theorem dX1_init_95 : decode cX1_init 95 = .ok (.newarray .int, 2) := dk_188_10 (dk_at dksX1_init_4 1 rfl rfl)
theorem dX1_init_97 : decode cX1_init 97 = .ok (.putfield 47, 3) := dk_181 0 47 (dk_at dksX1_init_4 3 rfl rfl)
theorem dX1_init_100 : decode cX1_init 100 = .ok (.aload_n 0, 1) := dk_42 (dk_at dksX1_init_4 6 rfl rfl)
theorem dX1_init_101 : decode cX1_init 101 = .ok (.iconst 5, 1) := dk_8 (dk_at dksX1_init_4 7 rfl rfl)
theorem dX1_init_102 : decode cX1_init 102 = .ok (.newarray .int, 2) := dk_188_10 (dk_at dksX1_init_4 8 rfl rfl)
theorem dX1_init_104 : decode cX1_init 104 = .ok (.putfield 50, 3) := dk_181 0 50 (dk_at dksX1_init_4 10 rfl rfl)
theorem dX1_init_107 : decode cX1_init 107 = .ok (.aload_n 0, 1) := dk_42 (dk_at dksX1_init_4 13 rfl rfl)
theorem dX1_init_108 : decode cX1_init 108 = .ok (.bipush 15, 2) := dk_16 15 (dk_at dksX1_init_4 14 rfl rfl)
theorem dX1_init_110 : decode cX1_init 110 = .ok (.newarray .int, 2) := dk_188_10 (dk_at dksX1_init_4 16 rfl rfl)
theorem dX1_init_112 : decode cX1_init 112 = .ok (.putfield 53, 3) := dk_181 0 53 (dk_at dksX1_init_4 18 rfl rfl)
theorem dX1_init_115 : decode cX1_init 115 = .ok (.aload_n 0, 1) := dk_42 (dk_at dksX1_init_4 21 rfl rfl)
theorem dX1_init_116 : decode cX1_init 116 = .ok (.bipush 9, 2) := dk_16 9 (dk_at dksX1_init_4 22 rfl rfl)
theorem dX1_init_118 : decode cX1_init 118 = .ok (.newarray .int, 2) := dk_188_10 (dk_at dksX1_init_5 0 rfl rfl)
theorem dX1_init_120 : decode cX1_init 120 = .ok (.putfield 56, 3) := dk_181 0 56 (dk_at dksX1_init_5 2 rfl rfl)
theorem dX1_init_123 : decode cX1_init 123 = .ok (.aload_n 0, 1) := dk_42 (dk_at dksX1_init_5 5 rfl rfl)
theorem dX1_init_124 : decode cX1_init 124 = .ok (.iconst 3, 1) := dk_6 (dk_at dksX1_init_5 6 rfl rfl)
theorem dX1_init_125 : decode cX1_init 125 = .ok (.newarray .int, 2) := dk_188_10 (dk_at dksX1_init_5 7 rfl rfl)
theorem dX1_init_127 : decode cX1_init 127 = .ok (.putfield 59, 3) := dk_181 0 59 (dk_at dksX1_init_5 9 rfl rfl)
theorem dX1_init_130 : decode cX1_init 130 = .ok (.aload_n 0, 1) := dk_42 (dk_at dksX1_init_5 12 rfl rfl)
theorem dX1_init_131 : decode cX1_init 131 = .ok (.iconst 3, 1) := dk_6 (dk_at dksX1_init_5 13 rfl rfl)
theorem dX1_init_132 : decode cX1_init 132 = .ok (.newarray .int, 2) := dk_188_10 (dk_at dksX1_init_5 14 rfl rfl)
theorem dX1_init_134 : decode cX1_init 134 = .ok (.putfield 62, 3) := dk_181 0 62 (dk_at dksX1_init_5 16 rfl rfl)
theorem dX1_init_137 : decode cX1_init 137 = .ok (.aload_n 0, 1) := dk_42 (dk_at dksX1_init_5 19 rfl rfl)
theorem dX1_init_138 : decode cX1_init 138 = .ok (.iconst 3, 1) := dk_6 (dk_at dksX1_init_5 20 rfl rfl)
theorem dX1_init_139 : decode cX1_init 139 = .ok (.newarray .int, 2) := dk_188_10 (dk_at dksX1_init_5 21 rfl rfl)
theorem dX1_init_141 : decode cX1_init 141 = .ok (.putfield 65, 3) := dk_181 0 65 (dk_at dksX1_init_6 0 rfl rfl)
theorem dX1_init_144 : decode cX1_init 144 = .ok (.aload_n 0, 1) := dk_42 (dk_at dksX1_init_6 3 rfl rfl)
theorem dX1_init_145 : decode cX1_init 145 = .ok (.bipush 6, 2) := dk_16 6 (dk_at dksX1_init_6 4 rfl rfl)
theorem dX1_init_147 : decode cX1_init 147 = .ok (.newarray .int, 2) := dk_188_10 (dk_at dksX1_init_6 6 rfl rfl)
theorem dX1_init_149 : decode cX1_init 149 = .ok (.putfield 68, 3) := dk_181 0 68 (dk_at dksX1_init_6 8 rfl rfl)
theorem dX1_init_152 : decode cX1_init 152 = .ok (.aload_n 0, 1) := dk_42 (dk_at dksX1_init_6 11 rfl rfl)
theorem dX1_init_153 : decode cX1_init 153 = .ok (.bipush 6, 2) := dk_16 6 (dk_at dksX1_init_6 12 rfl rfl)
theorem dX1_init_155 : decode cX1_init 155 = .ok (.newarray .int, 2) := dk_188_10 (dk_at dksX1_init_6 14 rfl rfl)
theorem dX1_init_157 : decode cX1_init 157 = .ok (.putfield 71, 3) := dk_181 0 71 (dk_at dksX1_init_6 16 rfl rfl)
theorem dX1_init_160 : decode cX1_init 160 = .ok (.aload_n 0, 1) := dk_42 (dk_at dksX1_init_6 19 rfl rfl)
theorem dX1_init_161 : decode cX1_init 161 = .ok (.bipush 6, 2) := dk_16 6 (dk_at dksX1_init_6 20 rfl rfl)
theorem dX1_init_163 : decode cX1_init 163 = .ok (.newarray .int, 2) := dk_188_10 (dk_at dksX1_init_6 22 rfl rfl)
theorem dX1_init_165 : decode cX1_init 165 = .ok (.putfield 74, 3) := dk_181 0 74 (dk_at dksX1_init_7 0 rfl rfl)
theorem dX1_init_168 : decode cX1_init 168 = .ok (.return_, 1) := dk_177 (dk_at dksX1_init_7 3 rfl rfl)
abbrev cX1_letter : ByteArray := prog_9_method_7_code
def yX1_letter : MethodName := ⟨RX1, "letter", "(I)I"⟩
def dkwX1_letter_2 : List UInt8 := [42, 180, 0, 81, 172]
abbrev dktX1_letter_2 : List UInt8 := dkwX1_letter_2 ++ []
def dkwX1_letter_1 : List UInt8 := [16, 152, 172, 42, 180, 0, 43, 42, 180, 0, 81, 27, 145, 84, 42, 89, 180, 0, 81, 4, 96, 181, 0, 81]
abbrev dktX1_letter_1 : List UInt8 := dkwX1_letter_1 ++ dktX1_letter_2
def dkwX1_letter_0 : List UInt8 := [27, 16, 32, 16, 126, 184, 0, 77, 154, 0, 6, 16, 154, 172, 42, 180, 0, 81, 16, 18, 160, 0, 6]
abbrev dktX1_letter_0 : List UInt8 := dkwX1_letter_0 ++ dktX1_letter_1
theorem dksX1_letter_0 : cX1_letter.data.toList.drop 0 = dktX1_letter_0 := by decide +kernel
theorem dksX1_letter_1 : cX1_letter.data.toList.drop 23 = dktX1_letter_1 := dk_seg dksX1_letter_0 23 rfl rfl
theorem dksX1_letter_2 : cX1_letter.data.toList.drop 47 = dktX1_letter_2 := dk_seg dksX1_letter_1 24 rfl rfl
theorem dX1_letter_0 : decode cX1_letter 0 = .ok (.iload_n 1, 1) := dk_27 (dk_at dksX1_letter_0 0 rfl rfl)
theorem dX1_letter_1 : decode cX1_letter 1 = .ok (.bipush 32, 2) := dk_16 32 (dk_at dksX1_letter_0 1 rfl rfl)
theorem dX1_letter_3 : decode cX1_letter 3 = .ok (.bipush 126, 2) := dk_16 126 (dk_at dksX1_letter_0 3 rfl rfl)
theorem dX1_letter_5 : decode cX1_letter 5 = .ok (.invokestatic 77, 3) := dk_184 0 77 (dk_at dksX1_letter_0 5 rfl rfl)
theorem dX1_letter_8 : decode cX1_letter 8 = .ok (.ifCond .ne 6, 3) := dk_154 0 6 (dk_at dksX1_letter_0 8 rfl rfl)
theorem dX1_letter_11 : decode cX1_letter 11 = .ok (.bipush (-102), 2) := dk_16 154 (dk_at dksX1_letter_0 11 rfl rfl)
theorem dX1_letter_13 : decode cX1_letter 13 = .ok (.ireturn, 1) := dk_172 (dk_at dksX1_letter_0 13 rfl rfl)
theorem dX1_letter_14 : decode cX1_letter 14 = .ok (.aload_n 0, 1) := dk_42 (dk_at dksX1_letter_0 14 rfl rfl)
theorem dX1_letter_15 : decode cX1_letter 15 = .ok (.getfield 81, 3) := dk_180 0 81 (dk_at dksX1_letter_0 15 rfl rfl)
theorem dX1_letter_18 : decode cX1_letter 18 = .ok (.bipush 18, 2) := dk_16 18 (dk_at dksX1_letter_0 18 rfl rfl)
theorem dX1_letter_20 : decode cX1_letter 20 = .ok (.if_icmp .ne 6, 3) := dk_160 0 6 (dk_at dksX1_letter_0 20 rfl rfl)
theorem dX1_letter_23 : decode cX1_letter 23 = .ok (.bipush (-104), 2) := dk_16 152 (dk_at dksX1_letter_1 0 rfl rfl)
theorem dX1_letter_25 : decode cX1_letter 25 = .ok (.ireturn, 1) := dk_172 (dk_at dksX1_letter_1 2 rfl rfl)
theorem dX1_letter_26 : decode cX1_letter 26 = .ok (.aload_n 0, 1) := dk_42 (dk_at dksX1_letter_1 3 rfl rfl)
theorem dX1_letter_27 : decode cX1_letter 27 = .ok (.getfield 43, 3) := dk_180 0 43 (dk_at dksX1_letter_1 4 rfl rfl)
theorem dX1_letter_30 : decode cX1_letter 30 = .ok (.aload_n 0, 1) := dk_42 (dk_at dksX1_letter_1 7 rfl rfl)
theorem dX1_letter_31 : decode cX1_letter 31 = .ok (.getfield 81, 3) := dk_180 0 81 (dk_at dksX1_letter_1 8 rfl rfl)
theorem dX1_letter_34 : decode cX1_letter 34 = .ok (.iload_n 1, 1) := dk_27 (dk_at dksX1_letter_1 11 rfl rfl)
theorem dX1_letter_35 : decode cX1_letter 35 = .ok (.i2b, 1) := dk_145 (dk_at dksX1_letter_1 12 rfl rfl)
theorem dX1_letter_36 : decode cX1_letter 36 = .ok (.bastore, 1) := dk_84 (dk_at dksX1_letter_1 13 rfl rfl)
theorem dX1_letter_37 : decode cX1_letter 37 = .ok (.aload_n 0, 1) := dk_42 (dk_at dksX1_letter_1 14 rfl rfl)
theorem dX1_letter_38 : decode cX1_letter 38 = .ok (.dup, 1) := dk_89 (dk_at dksX1_letter_1 15 rfl rfl)
theorem dX1_letter_39 : decode cX1_letter 39 = .ok (.getfield 81, 3) := dk_180 0 81 (dk_at dksX1_letter_1 16 rfl rfl)
theorem dX1_letter_42 : decode cX1_letter 42 = .ok (.iconst 1, 1) := dk_4 (dk_at dksX1_letter_1 19 rfl rfl)
theorem dX1_letter_43 : decode cX1_letter 43 = .ok (.iadd, 1) := dk_96 (dk_at dksX1_letter_1 20 rfl rfl)
theorem dX1_letter_44 : decode cX1_letter 44 = .ok (.putfield 81, 3) := dk_181 0 81 (dk_at dksX1_letter_1 21 rfl rfl)
theorem dX1_letter_47 : decode cX1_letter 47 = .ok (.aload_n 0, 1) := dk_42 (dk_at dksX1_letter_2 0 rfl rfl)
theorem dX1_letter_48 : decode cX1_letter 48 = .ok (.getfield 81, 3) := dk_180 0 81 (dk_at dksX1_letter_2 1 rfl rfl)
theorem dX1_letter_51 : decode cX1_letter 51 = .ok (.ireturn, 1) := dk_172 (dk_at dksX1_letter_2 4 rfl rfl)
abbrev cX1_within : ByteArray := prog_9_method_3_code
def yX1_within : MethodName := ⟨RX1, "within", "(III)Z"⟩
def dkwX1_within_0 : List UInt8 := [26, 27, 161, 0, 12, 26, 28, 163, 0, 7, 4, 167, 0, 4, 3, 172]
abbrev dktX1_within_0 : List UInt8 := dkwX1_within_0 ++ []
theorem dksX1_within_0 : cX1_within.data.toList.drop 0 = dktX1_within_0 := by decide +kernel
theorem dX1_within_0 : decode cX1_within 0 = .ok (.iload_n 0, 1) := dk_26 (dk_at dksX1_within_0 0 rfl rfl)
theorem dX1_within_1 : decode cX1_within 1 = .ok (.iload_n 1, 1) := dk_27 (dk_at dksX1_within_0 1 rfl rfl)
theorem dX1_within_2 : decode cX1_within 2 = .ok (.if_icmp .lt 12, 3) := dk_161 0 12 (dk_at dksX1_within_0 2 rfl rfl)
theorem dX1_within_5 : decode cX1_within 5 = .ok (.iload_n 0, 1) := dk_26 (dk_at dksX1_within_0 5 rfl rfl)
theorem dX1_within_6 : decode cX1_within 6 = .ok (.iload_n 2, 1) := dk_28 (dk_at dksX1_within_0 6 rfl rfl)
theorem dX1_within_7 : decode cX1_within 7 = .ok (.if_icmp .gt 7, 3) := dk_163 0 7 (dk_at dksX1_within_0 7 rfl rfl)
theorem dX1_within_10 : decode cX1_within 10 = .ok (.iconst 1, 1) := dk_4 (dk_at dksX1_within_0 10 rfl rfl)
theorem dX1_within_11 : decode cX1_within 11 = .ok (.goto 4, 3) := dk_167 0 4 (dk_at dksX1_within_0 11 rfl rfl)
theorem dX1_within_14 : decode cX1_within 14 = .ok (.iconst 0, 1) := dk_3 (dk_at dksX1_within_0 14 rfl rfl)
theorem dX1_within_15 : decode cX1_within 15 = .ok (.ireturn, 1) := dk_172 (dk_at dksX1_within_0 15 rfl rfl)
abbrev cX1_blank : ByteArray := prog_9_method_8_code
def yX1_blank : MethodName := ⟨RX1, "blank", "()I"⟩
def dkwX1_blank_0 : List UInt8 := [42, 180, 0, 81, 60, 42, 3, 181, 0, 81, 27, 172]
abbrev dktX1_blank_0 : List UInt8 := dkwX1_blank_0 ++ []
theorem dksX1_blank_0 : cX1_blank.data.toList.drop 0 = dktX1_blank_0 := by decide +kernel
theorem dX1_blank_0 : decode cX1_blank 0 = .ok (.aload_n 0, 1) := dk_42 (dk_at dksX1_blank_0 0 rfl rfl)
theorem dX1_blank_1 : decode cX1_blank 1 = .ok (.getfield 81, 3) := dk_180 0 81 (dk_at dksX1_blank_0 1 rfl rfl)
theorem dX1_blank_4 : decode cX1_blank 4 = .ok (.istore_n 1, 1) := dk_60 (dk_at dksX1_blank_0 4 rfl rfl)
theorem dX1_blank_5 : decode cX1_blank 5 = .ok (.aload_n 0, 1) := dk_42 (dk_at dksX1_blank_0 5 rfl rfl)
theorem dX1_blank_6 : decode cX1_blank 6 = .ok (.iconst 0, 1) := dk_3 (dk_at dksX1_blank_0 6 rfl rfl)
theorem dX1_blank_7 : decode cX1_blank 7 = .ok (.putfield 81, 3) := dk_181 0 81 (dk_at dksX1_blank_0 7 rfl rfl)
theorem dX1_blank_10 : decode cX1_blank 10 = .ok (.iload_n 1, 1) := dk_27 (dk_at dksX1_blank_0 10 rfl rfl)
theorem dX1_blank_11 : decode cX1_blank 11 = .ok (.ireturn, 1) := dk_172 (dk_at dksX1_blank_0 11 rfl rfl)
abbrev cX1_fault : ByteArray := prog_9_method_13_code
def yX1_fault : MethodName := ⟨RX1, "fault", "()I"⟩
theorem dX1_fault_0 : decode cX1_fault 0 = .ok (.aload_n 0, 1) := by decide +kernel
theorem dX1_fault_1 : decode cX1_fault 1 = .ok (.invokevirtual 103, 3) := by decide +kernel
theorem dX1_fault_4 : decode cX1_fault 4 = .ok (.ireturn, 1) := by decide +kernel
abbrev cX1_read : ByteArray := prog_9_method_11_code
def yX1_read : MethodName := ⟨RX1, "read", "()I"⟩
def dkwX1_read_4 : List UInt8 := [182, 0, 95, 154, 0, 5, 27, 172, 132, 1, 1, 167, 255, 165, 27, 172]
abbrev dktX1_read_4 : List UInt8 := dkwX1_read_4 ++ []
def dkwX1_read_3 : List UInt8 := [153, 0, 11, 42, 27, 4, 96, 182, 0, 99, 172, 42, 180, 0, 89, 8, 159, 0, 13, 42, 27, 16, 44]
abbrev dktX1_read_3 : List UInt8 := dkwX1_read_3 ++ dktX1_read_4
def dkwX1_read_2 : List UInt8 := [96, 172, 42, 89, 180, 0, 89, 4, 96, 181, 0, 89, 132, 1, 2, 42, 27, 16, 59, 182, 0, 95]
abbrev dktX1_read_2 : List UInt8 := dkwX1_read_2 ++ dktX1_read_3
def dkwX1_read_1 : List UInt8 := [16, 9, 182, 0, 92, 154, 0, 5, 27, 172, 42, 27, 4, 96, 4, 8, 182, 0, 92, 154, 0, 7, 27, 4]
abbrev dktX1_read_1 : List UInt8 := dkwX1_read_1 ++ dktX1_read_2
def dkwX1_read_0 : List UInt8 := [42, 3, 181, 0, 85, 42, 3, 181, 0, 89, 3, 60, 42, 180, 0, 89, 8, 162, 0, 89, 42, 27, 4]
abbrev dktX1_read_0 : List UInt8 := dkwX1_read_0 ++ dktX1_read_1
theorem dksX1_read_0 : cX1_read.data.toList.drop 0 = dktX1_read_0 := by decide +kernel
theorem dksX1_read_1 : cX1_read.data.toList.drop 23 = dktX1_read_1 := dk_seg dksX1_read_0 23 rfl rfl
theorem dksX1_read_2 : cX1_read.data.toList.drop 47 = dktX1_read_2 := dk_seg dksX1_read_1 24 rfl rfl
theorem dksX1_read_3 : cX1_read.data.toList.drop 69 = dktX1_read_3 := dk_seg dksX1_read_2 22 rfl rfl
theorem dksX1_read_4 : cX1_read.data.toList.drop 92 = dktX1_read_4 := dk_seg dksX1_read_3 23 rfl rfl
theorem dX1_read_0 : decode cX1_read 0 = .ok (.aload_n 0, 1) := dk_42 (dk_at dksX1_read_0 0 rfl rfl)
theorem dX1_read_1 : decode cX1_read 1 = .ok (.iconst 0, 1) := dk_3 (dk_at dksX1_read_0 1 rfl rfl)
theorem dX1_read_2 : decode cX1_read 2 = .ok (.putfield 85, 3) := dk_181 0 85 (dk_at dksX1_read_0 2 rfl rfl)
theorem dX1_read_5 : decode cX1_read 5 = .ok (.aload_n 0, 1) := dk_42 (dk_at dksX1_read_0 5 rfl rfl)
theorem dX1_read_6 : decode cX1_read 6 = .ok (.iconst 0, 1) := dk_3 (dk_at dksX1_read_0 6 rfl rfl)
theorem dX1_read_7 : decode cX1_read 7 = .ok (.putfield 89, 3) := dk_181 0 89 (dk_at dksX1_read_0 7 rfl rfl)
theorem dX1_read_10 : decode cX1_read 10 = .ok (.iconst 0, 1) := dk_3 (dk_at dksX1_read_0 10 rfl rfl)
theorem dX1_read_11 : decode cX1_read 11 = .ok (.istore_n 1, 1) := dk_60 (dk_at dksX1_read_0 11 rfl rfl)
theorem dX1_read_12 : decode cX1_read 12 = .ok (.aload_n 0, 1) := dk_42 (dk_at dksX1_read_0 12 rfl rfl)
theorem dX1_read_13 : decode cX1_read 13 = .ok (.getfield 89, 3) := dk_180 0 89 (dk_at dksX1_read_0 13 rfl rfl)
theorem dX1_read_16 : decode cX1_read 16 = .ok (.iconst 5, 1) := dk_8 (dk_at dksX1_read_0 16 rfl rfl)
theorem dX1_read_17 : decode cX1_read 17 = .ok (.if_icmp .ge 89, 3) := dk_162 0 89 (dk_at dksX1_read_0 17 rfl rfl)
theorem dX1_read_20 : decode cX1_read 20 = .ok (.aload_n 0, 1) := dk_42 (dk_at dksX1_read_0 20 rfl rfl)
theorem dX1_read_21 : decode cX1_read 21 = .ok (.iload_n 1, 1) := dk_27 (dk_at dksX1_read_0 21 rfl rfl)
theorem dX1_read_22 : decode cX1_read 22 = .ok (.iconst 1, 1) := dk_4 (dk_at dksX1_read_0 22 rfl rfl)
theorem dX1_read_23 : decode cX1_read 23 = .ok (.bipush 9, 2) := dk_16 9 (dk_at dksX1_read_1 0 rfl rfl)
theorem dX1_read_25 : decode cX1_read 25 = .ok (.invokevirtual 92, 3) := dk_182 0 92 (dk_at dksX1_read_1 2 rfl rfl)
theorem dX1_read_28 : decode cX1_read 28 = .ok (.ifCond .ne 5, 3) := dk_154 0 5 (dk_at dksX1_read_1 5 rfl rfl)
theorem dX1_read_31 : decode cX1_read 31 = .ok (.iload_n 1, 1) := dk_27 (dk_at dksX1_read_1 8 rfl rfl)
theorem dX1_read_32 : decode cX1_read 32 = .ok (.ireturn, 1) := dk_172 (dk_at dksX1_read_1 9 rfl rfl)
theorem dX1_read_33 : decode cX1_read 33 = .ok (.aload_n 0, 1) := dk_42 (dk_at dksX1_read_1 10 rfl rfl)
theorem dX1_read_34 : decode cX1_read 34 = .ok (.iload_n 1, 1) := dk_27 (dk_at dksX1_read_1 11 rfl rfl)
theorem dX1_read_35 : decode cX1_read 35 = .ok (.iconst 1, 1) := dk_4 (dk_at dksX1_read_1 12 rfl rfl)
theorem dX1_read_36 : decode cX1_read 36 = .ok (.iadd, 1) := dk_96 (dk_at dksX1_read_1 13 rfl rfl)
theorem dX1_read_37 : decode cX1_read 37 = .ok (.iconst 1, 1) := dk_4 (dk_at dksX1_read_1 14 rfl rfl)
theorem dX1_read_38 : decode cX1_read 38 = .ok (.iconst 5, 1) := dk_8 (dk_at dksX1_read_1 15 rfl rfl)
theorem dX1_read_39 : decode cX1_read 39 = .ok (.invokevirtual 92, 3) := dk_182 0 92 (dk_at dksX1_read_1 16 rfl rfl)
theorem dX1_read_42 : decode cX1_read 42 = .ok (.ifCond .ne 7, 3) := dk_154 0 7 (dk_at dksX1_read_1 19 rfl rfl)
theorem dX1_read_45 : decode cX1_read 45 = .ok (.iload_n 1, 1) := dk_27 (dk_at dksX1_read_1 22 rfl rfl)
theorem dX1_read_46 : decode cX1_read 46 = .ok (.iconst 1, 1) := dk_4 (dk_at dksX1_read_1 23 rfl rfl)
theorem dX1_read_47 : decode cX1_read 47 = .ok (.iadd, 1) := dk_96 (dk_at dksX1_read_2 0 rfl rfl)
theorem dX1_read_48 : decode cX1_read 48 = .ok (.ireturn, 1) := dk_172 (dk_at dksX1_read_2 1 rfl rfl)
theorem dX1_read_49 : decode cX1_read 49 = .ok (.aload_n 0, 1) := dk_42 (dk_at dksX1_read_2 2 rfl rfl)
theorem dX1_read_50 : decode cX1_read 50 = .ok (.dup, 1) := dk_89 (dk_at dksX1_read_2 3 rfl rfl)
theorem dX1_read_51 : decode cX1_read 51 = .ok (.getfield 89, 3) := dk_180 0 89 (dk_at dksX1_read_2 4 rfl rfl)
theorem dX1_read_54 : decode cX1_read 54 = .ok (.iconst 1, 1) := dk_4 (dk_at dksX1_read_2 7 rfl rfl)
theorem dX1_read_55 : decode cX1_read 55 = .ok (.iadd, 1) := dk_96 (dk_at dksX1_read_2 8 rfl rfl)
theorem dX1_read_56 : decode cX1_read 56 = .ok (.putfield 89, 3) := dk_181 0 89 (dk_at dksX1_read_2 9 rfl rfl)
theorem dX1_read_59 : decode cX1_read 59 = .ok (.iinc 1 2, 3) := dk_132 1 2 (dk_at dksX1_read_2 12 rfl rfl)
theorem dX1_read_62 : decode cX1_read 62 = .ok (.aload_n 0, 1) := dk_42 (dk_at dksX1_read_2 15 rfl rfl)
theorem dX1_read_63 : decode cX1_read 63 = .ok (.iload_n 1, 1) := dk_27 (dk_at dksX1_read_2 16 rfl rfl)
theorem dX1_read_64 : decode cX1_read 64 = .ok (.bipush 59, 2) := dk_16 59 (dk_at dksX1_read_2 17 rfl rfl)
theorem dX1_read_66 : decode cX1_read 66 = .ok (.invokevirtual 95, 3) := dk_182 0 95 (dk_at dksX1_read_2 19 rfl rfl)
theorem dX1_read_69 : decode cX1_read 69 = .ok (.ifCond .eq 11, 3) := dk_153 0 11 (dk_at dksX1_read_3 0 rfl rfl)
theorem dX1_read_72 : decode cX1_read 72 = .ok (.aload_n 0, 1) := dk_42 (dk_at dksX1_read_3 3 rfl rfl)
theorem dX1_read_73 : decode cX1_read 73 = .ok (.iload_n 1, 1) := dk_27 (dk_at dksX1_read_3 4 rfl rfl)
theorem dX1_read_74 : decode cX1_read 74 = .ok (.iconst 1, 1) := dk_4 (dk_at dksX1_read_3 5 rfl rfl)
theorem dX1_read_75 : decode cX1_read 75 = .ok (.iadd, 1) := dk_96 (dk_at dksX1_read_3 6 rfl rfl)
theorem dX1_read_76 : decode cX1_read 76 = .ok (.invokevirtual 99, 3) := dk_182 0 99 (dk_at dksX1_read_3 7 rfl rfl)
theorem dX1_read_79 : decode cX1_read 79 = .ok (.ireturn, 1) := dk_172 (dk_at dksX1_read_3 10 rfl rfl)
theorem dX1_read_80 : decode cX1_read 80 = .ok (.aload_n 0, 1) := dk_42 (dk_at dksX1_read_3 11 rfl rfl)
theorem dX1_read_81 : decode cX1_read 81 = .ok (.getfield 89, 3) := dk_180 0 89 (dk_at dksX1_read_3 12 rfl rfl)
theorem dX1_read_84 : decode cX1_read 84 = .ok (.iconst 5, 1) := dk_8 (dk_at dksX1_read_3 15 rfl rfl)
theorem dX1_read_85 : decode cX1_read 85 = .ok (.if_icmp .eq 13, 3) := dk_159 0 13 (dk_at dksX1_read_3 16 rfl rfl)
theorem dX1_read_88 : decode cX1_read 88 = .ok (.aload_n 0, 1) := dk_42 (dk_at dksX1_read_3 19 rfl rfl)
theorem dX1_read_89 : decode cX1_read 89 = .ok (.iload_n 1, 1) := dk_27 (dk_at dksX1_read_3 20 rfl rfl)
theorem dX1_read_90 : decode cX1_read 90 = .ok (.bipush 44, 2) := dk_16 44 (dk_at dksX1_read_3 21 rfl rfl)
theorem dX1_read_92 : decode cX1_read 92 = .ok (.invokevirtual 95, 3) := dk_182 0 95 (dk_at dksX1_read_4 0 rfl rfl)
theorem dX1_read_95 : decode cX1_read 95 = .ok (.ifCond .ne 5, 3) := dk_154 0 5 (dk_at dksX1_read_4 3 rfl rfl)
theorem dX1_read_98 : decode cX1_read 98 = .ok (.iload_n 1, 1) := dk_27 (dk_at dksX1_read_4 6 rfl rfl)
theorem dX1_read_99 : decode cX1_read 99 = .ok (.ireturn, 1) := dk_172 (dk_at dksX1_read_4 7 rfl rfl)
theorem dX1_read_100 : decode cX1_read 100 = .ok (.iinc 1 1, 3) := dk_132 1 1 (dk_at dksX1_read_4 8 rfl rfl)
theorem dX1_read_103 : decode cX1_read 103 = .ok (.goto (-91), 3) := dk_167 255 165 (dk_at dksX1_read_4 11 rfl rfl)
theorem dX1_read_106 : decode cX1_read 106 = .ok (.iload_n 1, 1) := dk_27 (dk_at dksX1_read_4 14 rfl rfl)
theorem dX1_read_107 : decode cX1_read 107 = .ok (.ireturn, 1) := dk_172 (dk_at dksX1_read_4 15 rfl rfl)
abbrev cX1_isFigure : ByteArray := prog_9_method_9_code
def yX1_isFigure : MethodName := ⟨RX1, "isFigure", "(III)Z"⟩
def dkwX1_isFigure_1 : List UInt8 := [153, 0, 7, 4, 167, 0, 4, 3, 172]
abbrev dktX1_isFigure_1 : List UInt8 := dkwX1_isFigure_1 ++ []
def dkwX1_isFigure_0 : List UInt8 := [27, 42, 180, 0, 81, 162, 0, 24, 42, 180, 0, 43, 27, 51, 16, 48, 100, 28, 29, 184, 0, 77]
abbrev dktX1_isFigure_0 : List UInt8 := dkwX1_isFigure_0 ++ dktX1_isFigure_1
theorem dksX1_isFigure_0 : cX1_isFigure.data.toList.drop 0 = dktX1_isFigure_0 := by decide +kernel
theorem dksX1_isFigure_1 : cX1_isFigure.data.toList.drop 22 = dktX1_isFigure_1 := dk_seg dksX1_isFigure_0 22 rfl rfl
theorem dX1_isFigure_0 : decode cX1_isFigure 0 = .ok (.iload_n 1, 1) := dk_27 (dk_at dksX1_isFigure_0 0 rfl rfl)
theorem dX1_isFigure_1 : decode cX1_isFigure 1 = .ok (.aload_n 0, 1) := dk_42 (dk_at dksX1_isFigure_0 1 rfl rfl)
theorem dX1_isFigure_2 : decode cX1_isFigure 2 = .ok (.getfield 81, 3) := dk_180 0 81 (dk_at dksX1_isFigure_0 2 rfl rfl)
theorem dX1_isFigure_5 : decode cX1_isFigure 5 = .ok (.if_icmp .ge 24, 3) := dk_162 0 24 (dk_at dksX1_isFigure_0 5 rfl rfl)
theorem dX1_isFigure_8 : decode cX1_isFigure 8 = .ok (.aload_n 0, 1) := dk_42 (dk_at dksX1_isFigure_0 8 rfl rfl)
theorem dX1_isFigure_9 : decode cX1_isFigure 9 = .ok (.getfield 43, 3) := dk_180 0 43 (dk_at dksX1_isFigure_0 9 rfl rfl)
theorem dX1_isFigure_12 : decode cX1_isFigure 12 = .ok (.iload_n 1, 1) := dk_27 (dk_at dksX1_isFigure_0 12 rfl rfl)
theorem dX1_isFigure_13 : decode cX1_isFigure 13 = .ok (.baload, 1) := dk_51 (dk_at dksX1_isFigure_0 13 rfl rfl)
theorem dX1_isFigure_14 : decode cX1_isFigure 14 = .ok (.bipush 48, 2) := dk_16 48 (dk_at dksX1_isFigure_0 14 rfl rfl)
theorem dX1_isFigure_16 : decode cX1_isFigure 16 = .ok (.isub, 1) := dk_100 (dk_at dksX1_isFigure_0 16 rfl rfl)
theorem dX1_isFigure_17 : decode cX1_isFigure 17 = .ok (.iload_n 2, 1) := dk_28 (dk_at dksX1_isFigure_0 17 rfl rfl)
theorem dX1_isFigure_18 : decode cX1_isFigure 18 = .ok (.iload_n 3, 1) := dk_29 (dk_at dksX1_isFigure_0 18 rfl rfl)
theorem dX1_isFigure_19 : decode cX1_isFigure 19 = .ok (.invokestatic 77, 3) := dk_184 0 77 (dk_at dksX1_isFigure_0 19 rfl rfl)
theorem dX1_isFigure_22 : decode cX1_isFigure 22 = .ok (.ifCond .eq 7, 3) := dk_153 0 7 (dk_at dksX1_isFigure_1 0 rfl rfl)
theorem dX1_isFigure_25 : decode cX1_isFigure 25 = .ok (.iconst 1, 1) := dk_4 (dk_at dksX1_isFigure_1 3 rfl rfl)
theorem dX1_isFigure_26 : decode cX1_isFigure 26 = .ok (.goto 4, 3) := dk_167 0 4 (dk_at dksX1_isFigure_1 4 rfl rfl)
theorem dX1_isFigure_29 : decode cX1_isFigure 29 = .ok (.iconst 0, 1) := dk_3 (dk_at dksX1_isFigure_1 7 rfl rfl)
theorem dX1_isFigure_30 : decode cX1_isFigure 30 = .ok (.ireturn, 1) := dk_172 (dk_at dksX1_isFigure_1 8 rfl rfl)
abbrev cX1_isSign : ByteArray := prog_9_method_10_code
def yX1_isSign : MethodName := ⟨RX1, "isSign", "(II)Z"⟩
def dkwX1_isSign_0 : List UInt8 := [27, 42, 180, 0, 81, 162, 0, 17, 42, 180, 0, 43, 27, 51, 28, 160, 0, 7, 4, 167, 0, 4, 3, 172]
abbrev dktX1_isSign_0 : List UInt8 := dkwX1_isSign_0 ++ []
theorem dksX1_isSign_0 : cX1_isSign.data.toList.drop 0 = dktX1_isSign_0 := by decide +kernel
theorem dX1_isSign_0 : decode cX1_isSign 0 = .ok (.iload_n 1, 1) := dk_27 (dk_at dksX1_isSign_0 0 rfl rfl)
theorem dX1_isSign_1 : decode cX1_isSign 1 = .ok (.aload_n 0, 1) := dk_42 (dk_at dksX1_isSign_0 1 rfl rfl)
theorem dX1_isSign_2 : decode cX1_isSign 2 = .ok (.getfield 81, 3) := dk_180 0 81 (dk_at dksX1_isSign_0 2 rfl rfl)
theorem dX1_isSign_5 : decode cX1_isSign 5 = .ok (.if_icmp .ge 17, 3) := dk_162 0 17 (dk_at dksX1_isSign_0 5 rfl rfl)
theorem dX1_isSign_8 : decode cX1_isSign 8 = .ok (.aload_n 0, 1) := dk_42 (dk_at dksX1_isSign_0 8 rfl rfl)
theorem dX1_isSign_9 : decode cX1_isSign 9 = .ok (.getfield 43, 3) := dk_180 0 43 (dk_at dksX1_isSign_0 9 rfl rfl)
theorem dX1_isSign_12 : decode cX1_isSign 12 = .ok (.iload_n 1, 1) := dk_27 (dk_at dksX1_isSign_0 12 rfl rfl)
theorem dX1_isSign_13 : decode cX1_isSign 13 = .ok (.baload, 1) := dk_51 (dk_at dksX1_isSign_0 13 rfl rfl)
theorem dX1_isSign_14 : decode cX1_isSign 14 = .ok (.iload_n 2, 1) := dk_28 (dk_at dksX1_isSign_0 14 rfl rfl)
theorem dX1_isSign_15 : decode cX1_isSign 15 = .ok (.if_icmp .ne 7, 3) := dk_160 0 7 (dk_at dksX1_isSign_0 15 rfl rfl)
theorem dX1_isSign_18 : decode cX1_isSign 18 = .ok (.iconst 1, 1) := dk_4 (dk_at dksX1_isSign_0 18 rfl rfl)
theorem dX1_isSign_19 : decode cX1_isSign 19 = .ok (.goto 4, 3) := dk_167 0 4 (dk_at dksX1_isSign_0 19 rfl rfl)
theorem dX1_isSign_22 : decode cX1_isSign 22 = .ok (.iconst 0, 1) := dk_3 (dk_at dksX1_isSign_0 22 rfl rfl)
theorem dX1_isSign_23 : decode cX1_isSign 23 = .ok (.ireturn, 1) := dk_172 (dk_at dksX1_isSign_0 23 rfl rfl)
abbrev cX1_readLimit : ByteArray := prog_9_method_12_code
def yX1_readLimit : MethodName := ⟨RX1, "readLimit", "(I)I"⟩
def dkwX1_readLimit_1 : List UInt8 := [4, 167, 0, 4, 3, 181, 0, 85, 27, 4, 96, 172]
abbrev dktX1_readLimit_1 : List UInt8 := dkwX1_readLimit_1 ++ []
def dkwX1_readLimit_0 : List UInt8 := [42, 27, 3, 16, 9, 182, 0, 92, 154, 0, 5, 27, 172, 42, 27, 4, 96, 42, 180, 0, 81, 160, 0, 7]
abbrev dktX1_readLimit_0 : List UInt8 := dkwX1_readLimit_0 ++ dktX1_readLimit_1
theorem dksX1_readLimit_0 : cX1_readLimit.data.toList.drop 0 = dktX1_readLimit_0 := by decide +kernel
theorem dksX1_readLimit_1 : cX1_readLimit.data.toList.drop 24 = dktX1_readLimit_1 := dk_seg dksX1_readLimit_0 24 rfl rfl
theorem dX1_readLimit_0 : decode cX1_readLimit 0 = .ok (.aload_n 0, 1) := dk_42 (dk_at dksX1_readLimit_0 0 rfl rfl)
theorem dX1_readLimit_1 : decode cX1_readLimit 1 = .ok (.iload_n 1, 1) := dk_27 (dk_at dksX1_readLimit_0 1 rfl rfl)
theorem dX1_readLimit_2 : decode cX1_readLimit 2 = .ok (.iconst 0, 1) := dk_3 (dk_at dksX1_readLimit_0 2 rfl rfl)
theorem dX1_readLimit_3 : decode cX1_readLimit 3 = .ok (.bipush 9, 2) := dk_16 9 (dk_at dksX1_readLimit_0 3 rfl rfl)
theorem dX1_readLimit_5 : decode cX1_readLimit 5 = .ok (.invokevirtual 92, 3) := dk_182 0 92 (dk_at dksX1_readLimit_0 5 rfl rfl)
theorem dX1_readLimit_8 : decode cX1_readLimit 8 = .ok (.ifCond .ne 5, 3) := dk_154 0 5 (dk_at dksX1_readLimit_0 8 rfl rfl)
theorem dX1_readLimit_11 : decode cX1_readLimit 11 = .ok (.iload_n 1, 1) := dk_27 (dk_at dksX1_readLimit_0 11 rfl rfl)
theorem dX1_readLimit_12 : decode cX1_readLimit 12 = .ok (.ireturn, 1) := dk_172 (dk_at dksX1_readLimit_0 12 rfl rfl)
theorem dX1_readLimit_13 : decode cX1_readLimit 13 = .ok (.aload_n 0, 1) := dk_42 (dk_at dksX1_readLimit_0 13 rfl rfl)
theorem dX1_readLimit_14 : decode cX1_readLimit 14 = .ok (.iload_n 1, 1) := dk_27 (dk_at dksX1_readLimit_0 14 rfl rfl)
theorem dX1_readLimit_15 : decode cX1_readLimit 15 = .ok (.iconst 1, 1) := dk_4 (dk_at dksX1_readLimit_0 15 rfl rfl)
theorem dX1_readLimit_16 : decode cX1_readLimit 16 = .ok (.iadd, 1) := dk_96 (dk_at dksX1_readLimit_0 16 rfl rfl)
theorem dX1_readLimit_17 : decode cX1_readLimit 17 = .ok (.aload_n 0, 1) := dk_42 (dk_at dksX1_readLimit_0 17 rfl rfl)
theorem dX1_readLimit_18 : decode cX1_readLimit 18 = .ok (.getfield 81, 3) := dk_180 0 81 (dk_at dksX1_readLimit_0 18 rfl rfl)
theorem dX1_readLimit_21 : decode cX1_readLimit 21 = .ok (.if_icmp .ne 7, 3) := dk_160 0 7 (dk_at dksX1_readLimit_0 21 rfl rfl)
theorem dX1_readLimit_24 : decode cX1_readLimit 24 = .ok (.iconst 1, 1) := dk_4 (dk_at dksX1_readLimit_1 0 rfl rfl)
theorem dX1_readLimit_25 : decode cX1_readLimit 25 = .ok (.goto 4, 3) := dk_167 0 4 (dk_at dksX1_readLimit_1 1 rfl rfl)
theorem dX1_readLimit_28 : decode cX1_readLimit 28 = .ok (.iconst 0, 1) := dk_3 (dk_at dksX1_readLimit_1 4 rfl rfl)
theorem dX1_readLimit_29 : decode cX1_readLimit 29 = .ok (.putfield 85, 3) := dk_181 0 85 (dk_at dksX1_readLimit_1 5 rfl rfl)
theorem dX1_readLimit_32 : decode cX1_readLimit 32 = .ok (.iload_n 1, 1) := dk_27 (dk_at dksX1_readLimit_1 8 rfl rfl)
theorem dX1_readLimit_33 : decode cX1_readLimit 33 = .ok (.iconst 1, 1) := dk_4 (dk_at dksX1_readLimit_1 9 rfl rfl)
theorem dX1_readLimit_34 : decode cX1_readLimit 34 = .ok (.iadd, 1) := dk_96 (dk_at dksX1_readLimit_1 10 rfl rfl)
theorem dX1_readLimit_35 : decode cX1_readLimit 35 = .ok (.ireturn, 1) := dk_172 (dk_at dksX1_readLimit_1 11 rfl rfl)
abbrev cX1_school : ByteArray := prog_9_method_14_code
def yX1_school : MethodName := ⟨RX1, "school", "()I"⟩
def dkwX1_school_5 : List UInt8 := [181, 0, 113, 42, 3, 181, 0, 116, 42, 3, 181, 0, 119, 42, 3, 181, 0, 81, 42, 180, 0, 107, 172]
abbrev dktX1_school_5 : List UInt8 := dkwX1_school_5 ++ []
def dkwX1_school_4 : List UInt8 := [162, 0, 16, 42, 180, 0, 16, 28, 3, 79, 132, 2, 1, 167, 255, 241, 42, 89, 180, 0, 113, 4, 96]
abbrev dktX1_school_4 : List UInt8 := dkwX1_school_4 ++ dktX1_school_5
def dkwX1_school_3 : List UInt8 := [180, 0, 43, 6, 28, 104, 4, 96, 51, 16, 48, 100, 79, 132, 2, 1, 167, 255, 209, 3, 61, 28, 6]
abbrev dktX1_school_3 : List UInt8 := dkwX1_school_3 ++ dktX1_school_4
def dkwX1_school_2 : List UInt8 := [42, 180, 0, 7, 28, 42, 180, 0, 43, 6, 28, 104, 51, 16, 48, 100, 79, 42, 180, 0, 13, 28, 42]
abbrev dktX1_school_2 : List UInt8 := dkwX1_school_2 ++ dktX1_school_3
def dkwX1_school_1 : List UInt8 := [42, 180, 0, 43, 27, 4, 100, 51, 16, 48, 100, 181, 0, 110, 3, 61, 28, 42, 180, 0, 107, 162, 0, 45]
abbrev dktX1_school_1 : List UInt8 := dkwX1_school_1 ++ dktX1_school_2
def dkwX1_school_0 : List UInt8 := [42, 182, 0, 103, 60, 42, 180, 0, 85, 154, 0, 6, 16, 153, 172, 42, 42, 180, 0, 89, 181, 0, 107, 42]
abbrev dktX1_school_0 : List UInt8 := dkwX1_school_0 ++ dktX1_school_1
theorem dksX1_school_0 : cX1_school.data.toList.drop 0 = dktX1_school_0 := by decide +kernel
theorem dksX1_school_1 : cX1_school.data.toList.drop 24 = dktX1_school_1 := dk_seg dksX1_school_0 24 rfl rfl
theorem dksX1_school_2 : cX1_school.data.toList.drop 48 = dktX1_school_2 := dk_seg dksX1_school_1 24 rfl rfl
theorem dksX1_school_3 : cX1_school.data.toList.drop 71 = dktX1_school_3 := dk_seg dksX1_school_2 23 rfl rfl
theorem dksX1_school_4 : cX1_school.data.toList.drop 94 = dktX1_school_4 := dk_seg dksX1_school_3 23 rfl rfl
theorem dksX1_school_5 : cX1_school.data.toList.drop 117 = dktX1_school_5 := dk_seg dksX1_school_4 23 rfl rfl
theorem dX1_school_0 : decode cX1_school 0 = .ok (.aload_n 0, 1) := dk_42 (dk_at dksX1_school_0 0 rfl rfl)
theorem dX1_school_1 : decode cX1_school 1 = .ok (.invokevirtual 103, 3) := dk_182 0 103 (dk_at dksX1_school_0 1 rfl rfl)
theorem dX1_school_4 : decode cX1_school 4 = .ok (.istore_n 1, 1) := dk_60 (dk_at dksX1_school_0 4 rfl rfl)
theorem dX1_school_5 : decode cX1_school 5 = .ok (.aload_n 0, 1) := dk_42 (dk_at dksX1_school_0 5 rfl rfl)
theorem dX1_school_6 : decode cX1_school 6 = .ok (.getfield 85, 3) := dk_180 0 85 (dk_at dksX1_school_0 6 rfl rfl)
theorem dX1_school_9 : decode cX1_school 9 = .ok (.ifCond .ne 6, 3) := dk_154 0 6 (dk_at dksX1_school_0 9 rfl rfl)
theorem dX1_school_12 : decode cX1_school 12 = .ok (.bipush (-103), 2) := dk_16 153 (dk_at dksX1_school_0 12 rfl rfl)
theorem dX1_school_14 : decode cX1_school 14 = .ok (.ireturn, 1) := dk_172 (dk_at dksX1_school_0 14 rfl rfl)
theorem dX1_school_15 : decode cX1_school 15 = .ok (.aload_n 0, 1) := dk_42 (dk_at dksX1_school_0 15 rfl rfl)
theorem dX1_school_16 : decode cX1_school 16 = .ok (.aload_n 0, 1) := dk_42 (dk_at dksX1_school_0 16 rfl rfl)
theorem dX1_school_17 : decode cX1_school 17 = .ok (.getfield 89, 3) := dk_180 0 89 (dk_at dksX1_school_0 17 rfl rfl)
theorem dX1_school_20 : decode cX1_school 20 = .ok (.putfield 107, 3) := dk_181 0 107 (dk_at dksX1_school_0 20 rfl rfl)
theorem dX1_school_23 : decode cX1_school 23 = .ok (.aload_n 0, 1) := dk_42 (dk_at dksX1_school_0 23 rfl rfl)
theorem dX1_school_24 : decode cX1_school 24 = .ok (.aload_n 0, 1) := dk_42 (dk_at dksX1_school_1 0 rfl rfl)
theorem dX1_school_25 : decode cX1_school 25 = .ok (.getfield 43, 3) := dk_180 0 43 (dk_at dksX1_school_1 1 rfl rfl)
theorem dX1_school_28 : decode cX1_school 28 = .ok (.iload_n 1, 1) := dk_27 (dk_at dksX1_school_1 4 rfl rfl)
theorem dX1_school_29 : decode cX1_school 29 = .ok (.iconst 1, 1) := dk_4 (dk_at dksX1_school_1 5 rfl rfl)
theorem dX1_school_30 : decode cX1_school 30 = .ok (.isub, 1) := dk_100 (dk_at dksX1_school_1 6 rfl rfl)
theorem dX1_school_31 : decode cX1_school 31 = .ok (.baload, 1) := dk_51 (dk_at dksX1_school_1 7 rfl rfl)
theorem dX1_school_32 : decode cX1_school 32 = .ok (.bipush 48, 2) := dk_16 48 (dk_at dksX1_school_1 8 rfl rfl)
theorem dX1_school_34 : decode cX1_school 34 = .ok (.isub, 1) := dk_100 (dk_at dksX1_school_1 10 rfl rfl)
theorem dX1_school_35 : decode cX1_school 35 = .ok (.putfield 110, 3) := dk_181 0 110 (dk_at dksX1_school_1 11 rfl rfl)
theorem dX1_school_38 : decode cX1_school 38 = .ok (.iconst 0, 1) := dk_3 (dk_at dksX1_school_1 14 rfl rfl)
theorem dX1_school_39 : decode cX1_school 39 = .ok (.istore_n 2, 1) := dk_61 (dk_at dksX1_school_1 15 rfl rfl)
theorem dX1_school_40 : decode cX1_school 40 = .ok (.iload_n 2, 1) := dk_28 (dk_at dksX1_school_1 16 rfl rfl)
theorem dX1_school_41 : decode cX1_school 41 = .ok (.aload_n 0, 1) := dk_42 (dk_at dksX1_school_1 17 rfl rfl)
theorem dX1_school_42 : decode cX1_school 42 = .ok (.getfield 107, 3) := dk_180 0 107 (dk_at dksX1_school_1 18 rfl rfl)
theorem dX1_school_45 : decode cX1_school 45 = .ok (.if_icmp .ge 45, 3) := dk_162 0 45 (dk_at dksX1_school_1 21 rfl rfl)
theorem dX1_school_48 : decode cX1_school 48 = .ok (.aload_n 0, 1) := dk_42 (dk_at dksX1_school_2 0 rfl rfl)
theorem dX1_school_49 : decode cX1_school 49 = .ok (.getfield 7, 3) := dk_180 0 7 (dk_at dksX1_school_2 1 rfl rfl)
theorem dX1_school_52 : decode cX1_school 52 = .ok (.iload_n 2, 1) := dk_28 (dk_at dksX1_school_2 4 rfl rfl)
theorem dX1_school_53 : decode cX1_school 53 = .ok (.aload_n 0, 1) := dk_42 (dk_at dksX1_school_2 5 rfl rfl)
theorem dX1_school_54 : decode cX1_school 54 = .ok (.getfield 43, 3) := dk_180 0 43 (dk_at dksX1_school_2 6 rfl rfl)
theorem dX1_school_57 : decode cX1_school 57 = .ok (.iconst 3, 1) := dk_6 (dk_at dksX1_school_2 9 rfl rfl)
theorem dX1_school_58 : decode cX1_school 58 = .ok (.iload_n 2, 1) := dk_28 (dk_at dksX1_school_2 10 rfl rfl)
theorem dX1_school_59 : decode cX1_school 59 = .ok (.imul, 1) := dk_104 (dk_at dksX1_school_2 11 rfl rfl)
theorem dX1_school_60 : decode cX1_school 60 = .ok (.baload, 1) := dk_51 (dk_at dksX1_school_2 12 rfl rfl)
theorem dX1_school_61 : decode cX1_school 61 = .ok (.bipush 48, 2) := dk_16 48 (dk_at dksX1_school_2 13 rfl rfl)
theorem dX1_school_63 : decode cX1_school 63 = .ok (.isub, 1) := dk_100 (dk_at dksX1_school_2 15 rfl rfl)
theorem dX1_school_64 : decode cX1_school 64 = .ok (.iastore, 1) := dk_79 (dk_at dksX1_school_2 16 rfl rfl)
theorem dX1_school_65 : decode cX1_school 65 = .ok (.aload_n 0, 1) := dk_42 (dk_at dksX1_school_2 17 rfl rfl)
theorem dX1_school_66 : decode cX1_school 66 = .ok (.getfield 13, 3) := dk_180 0 13 (dk_at dksX1_school_2 18 rfl rfl)
theorem dX1_school_69 : decode cX1_school 69 = .ok (.iload_n 2, 1) := dk_28 (dk_at dksX1_school_2 21 rfl rfl)
theorem dX1_school_70 : decode cX1_school 70 = .ok (.aload_n 0, 1) := dk_42 (dk_at dksX1_school_2 22 rfl rfl)
theorem dX1_school_71 : decode cX1_school 71 = .ok (.getfield 43, 3) := dk_180 0 43 (dk_at dksX1_school_3 0 rfl rfl)
theorem dX1_school_74 : decode cX1_school 74 = .ok (.iconst 3, 1) := dk_6 (dk_at dksX1_school_3 3 rfl rfl)
theorem dX1_school_75 : decode cX1_school 75 = .ok (.iload_n 2, 1) := dk_28 (dk_at dksX1_school_3 4 rfl rfl)
theorem dX1_school_76 : decode cX1_school 76 = .ok (.imul, 1) := dk_104 (dk_at dksX1_school_3 5 rfl rfl)
theorem dX1_school_77 : decode cX1_school 77 = .ok (.iconst 1, 1) := dk_4 (dk_at dksX1_school_3 6 rfl rfl)
theorem dX1_school_78 : decode cX1_school 78 = .ok (.iadd, 1) := dk_96 (dk_at dksX1_school_3 7 rfl rfl)
theorem dX1_school_79 : decode cX1_school 79 = .ok (.baload, 1) := dk_51 (dk_at dksX1_school_3 8 rfl rfl)
theorem dX1_school_80 : decode cX1_school 80 = .ok (.bipush 48, 2) := dk_16 48 (dk_at dksX1_school_3 9 rfl rfl)
theorem dX1_school_82 : decode cX1_school 82 = .ok (.isub, 1) := dk_100 (dk_at dksX1_school_3 11 rfl rfl)
theorem dX1_school_83 : decode cX1_school 83 = .ok (.iastore, 1) := dk_79 (dk_at dksX1_school_3 12 rfl rfl)
theorem dX1_school_84 : decode cX1_school 84 = .ok (.iinc 2 1, 3) := dk_132 2 1 (dk_at dksX1_school_3 13 rfl rfl)
theorem dX1_school_87 : decode cX1_school 87 = .ok (.goto (-47), 3) := dk_167 255 209 (dk_at dksX1_school_3 16 rfl rfl)
theorem dX1_school_90 : decode cX1_school 90 = .ok (.iconst 0, 1) := dk_3 (dk_at dksX1_school_3 19 rfl rfl)
theorem dX1_school_91 : decode cX1_school 91 = .ok (.istore_n 2, 1) := dk_61 (dk_at dksX1_school_3 20 rfl rfl)
theorem dX1_school_92 : decode cX1_school 92 = .ok (.iload_n 2, 1) := dk_28 (dk_at dksX1_school_3 21 rfl rfl)
theorem dX1_school_93 : decode cX1_school 93 = .ok (.iconst 3, 1) := dk_6 (dk_at dksX1_school_3 22 rfl rfl)
theorem dX1_school_94 : decode cX1_school 94 = .ok (.if_icmp .ge 16, 3) := dk_162 0 16 (dk_at dksX1_school_4 0 rfl rfl)
theorem dX1_school_97 : decode cX1_school 97 = .ok (.aload_n 0, 1) := dk_42 (dk_at dksX1_school_4 3 rfl rfl)
theorem dX1_school_98 : decode cX1_school 98 = .ok (.getfield 16, 3) := dk_180 0 16 (dk_at dksX1_school_4 4 rfl rfl)
theorem dX1_school_101 : decode cX1_school 101 = .ok (.iload_n 2, 1) := dk_28 (dk_at dksX1_school_4 7 rfl rfl)
theorem dX1_school_102 : decode cX1_school 102 = .ok (.iconst 0, 1) := dk_3 (dk_at dksX1_school_4 8 rfl rfl)
theorem dX1_school_103 : decode cX1_school 103 = .ok (.iastore, 1) := dk_79 (dk_at dksX1_school_4 9 rfl rfl)
theorem dX1_school_104 : decode cX1_school 104 = .ok (.iinc 2 1, 3) := dk_132 2 1 (dk_at dksX1_school_4 10 rfl rfl)
theorem dX1_school_107 : decode cX1_school 107 = .ok (.goto (-15), 3) := dk_167 255 241 (dk_at dksX1_school_4 13 rfl rfl)
theorem dX1_school_110 : decode cX1_school 110 = .ok (.aload_n 0, 1) := dk_42 (dk_at dksX1_school_4 16 rfl rfl)
theorem dX1_school_111 : decode cX1_school 111 = .ok (.dup, 1) := dk_89 (dk_at dksX1_school_4 17 rfl rfl)
theorem dX1_school_112 : decode cX1_school 112 = .ok (.getfield 113, 3) := dk_180 0 113 (dk_at dksX1_school_4 18 rfl rfl)
theorem dX1_school_115 : decode cX1_school 115 = .ok (.iconst 1, 1) := dk_4 (dk_at dksX1_school_4 21 rfl rfl)
theorem dX1_school_116 : decode cX1_school 116 = .ok (.iadd, 1) := dk_96 (dk_at dksX1_school_4 22 rfl rfl)
theorem dX1_school_117 : decode cX1_school 117 = .ok (.putfield 113, 3) := dk_181 0 113 (dk_at dksX1_school_5 0 rfl rfl)
theorem dX1_school_120 : decode cX1_school 120 = .ok (.aload_n 0, 1) := dk_42 (dk_at dksX1_school_5 3 rfl rfl)
theorem dX1_school_121 : decode cX1_school 121 = .ok (.iconst 0, 1) := dk_3 (dk_at dksX1_school_5 4 rfl rfl)
theorem dX1_school_122 : decode cX1_school 122 = .ok (.putfield 116, 3) := dk_181 0 116 (dk_at dksX1_school_5 5 rfl rfl)
theorem dX1_school_125 : decode cX1_school 125 = .ok (.aload_n 0, 1) := dk_42 (dk_at dksX1_school_5 8 rfl rfl)
theorem dX1_school_126 : decode cX1_school 126 = .ok (.iconst 0, 1) := dk_3 (dk_at dksX1_school_5 9 rfl rfl)
theorem dX1_school_127 : decode cX1_school 127 = .ok (.putfield 119, 3) := dk_181 0 119 (dk_at dksX1_school_5 10 rfl rfl)
theorem dX1_school_130 : decode cX1_school 130 = .ok (.aload_n 0, 1) := dk_42 (dk_at dksX1_school_5 13 rfl rfl)
theorem dX1_school_131 : decode cX1_school 131 = .ok (.iconst 0, 1) := dk_3 (dk_at dksX1_school_5 14 rfl rfl)
theorem dX1_school_132 : decode cX1_school 132 = .ok (.putfield 81, 3) := dk_181 0 81 (dk_at dksX1_school_5 15 rfl rfl)
theorem dX1_school_135 : decode cX1_school 135 = .ok (.aload_n 0, 1) := dk_42 (dk_at dksX1_school_5 18 rfl rfl)
theorem dX1_school_136 : decode cX1_school 136 = .ok (.getfield 107, 3) := dk_180 0 107 (dk_at dksX1_school_5 19 rfl rfl)
theorem dX1_school_139 : decode cX1_school 139 = .ok (.ireturn, 1) := dk_172 (dk_at dksX1_school_5 22 rfl rfl)
abbrev cX1_lesson : ByteArray := prog_9_method_20_code
def yX1_lesson : MethodName := ⟨RX1, "lesson", "(II)I"⟩
def dkwX1_lesson_1 : List UInt8 := [28, 182, 0, 132, 167, 0, 5, 16, 154, 172]
abbrev dktX1_lesson_1 : List UInt8 := dkwX1_lesson_1 ++ []
def dkwX1_lesson_0 : List UInt8 := [42, 27, 182, 0, 128, 154, 0, 8, 16, 155, 167, 0, 23, 28, 3, 5, 184, 0, 77, 153, 0, 12, 42, 27]
abbrev dktX1_lesson_0 : List UInt8 := dkwX1_lesson_0 ++ dktX1_lesson_1
theorem dksX1_lesson_0 : cX1_lesson.data.toList.drop 0 = dktX1_lesson_0 := by decide +kernel
theorem dksX1_lesson_1 : cX1_lesson.data.toList.drop 24 = dktX1_lesson_1 := dk_seg dksX1_lesson_0 24 rfl rfl
theorem dX1_lesson_0 : decode cX1_lesson 0 = .ok (.aload_n 0, 1) := dk_42 (dk_at dksX1_lesson_0 0 rfl rfl)
theorem dX1_lesson_1 : decode cX1_lesson 1 = .ok (.iload_n 1, 1) := dk_27 (dk_at dksX1_lesson_0 1 rfl rfl)
theorem dX1_lesson_2 : decode cX1_lesson 2 = .ok (.invokevirtual 128, 3) := dk_182 0 128 (dk_at dksX1_lesson_0 2 rfl rfl)
theorem dX1_lesson_5 : decode cX1_lesson 5 = .ok (.ifCond .ne 8, 3) := dk_154 0 8 (dk_at dksX1_lesson_0 5 rfl rfl)
theorem dX1_lesson_8 : decode cX1_lesson 8 = .ok (.bipush (-101), 2) := dk_16 155 (dk_at dksX1_lesson_0 8 rfl rfl)
theorem dX1_lesson_10 : decode cX1_lesson 10 = .ok (.goto 23, 3) := dk_167 0 23 (dk_at dksX1_lesson_0 10 rfl rfl)
theorem dX1_lesson_13 : decode cX1_lesson 13 = .ok (.iload_n 2, 1) := dk_28 (dk_at dksX1_lesson_0 13 rfl rfl)
theorem dX1_lesson_14 : decode cX1_lesson 14 = .ok (.iconst 0, 1) := dk_3 (dk_at dksX1_lesson_0 14 rfl rfl)
theorem dX1_lesson_15 : decode cX1_lesson 15 = .ok (.iconst 2, 1) := dk_5 (dk_at dksX1_lesson_0 15 rfl rfl)
theorem dX1_lesson_16 : decode cX1_lesson 16 = .ok (.invokestatic 77, 3) := dk_184 0 77 (dk_at dksX1_lesson_0 16 rfl rfl)
theorem dX1_lesson_19 : decode cX1_lesson 19 = .ok (.ifCond .eq 12, 3) := dk_153 0 12 (dk_at dksX1_lesson_0 19 rfl rfl)
theorem dX1_lesson_22 : decode cX1_lesson 22 = .ok (.aload_n 0, 1) := dk_42 (dk_at dksX1_lesson_0 22 rfl rfl)
theorem dX1_lesson_23 : decode cX1_lesson 23 = .ok (.iload_n 1, 1) := dk_27 (dk_at dksX1_lesson_0 23 rfl rfl)
theorem dX1_lesson_24 : decode cX1_lesson 24 = .ok (.iload_n 2, 1) := dk_28 (dk_at dksX1_lesson_1 0 rfl rfl)
theorem dX1_lesson_25 : decode cX1_lesson 25 = .ok (.invokevirtual 132, 3) := dk_182 0 132 (dk_at dksX1_lesson_1 1 rfl rfl)
theorem dX1_lesson_28 : decode cX1_lesson 28 = .ok (.goto 5, 3) := dk_167 0 5 (dk_at dksX1_lesson_1 4 rfl rfl)
theorem dX1_lesson_31 : decode cX1_lesson 31 = .ok (.bipush (-102), 2) := dk_16 154 (dk_at dksX1_lesson_1 7 rfl rfl)
theorem dX1_lesson_33 : decode cX1_lesson 33 = .ok (.ireturn, 1) := dk_172 (dk_at dksX1_lesson_1 9 rfl rfl)
abbrev cX1_isLesson : ByteArray := prog_9_method_15_code
def yX1_isLesson : MethodName := ⟨RX1, "isLesson", "(I)Z"⟩
def dkwX1_isLesson_0 : List UInt8 := [27, 3, 42, 180, 0, 107, 4, 100, 184, 0, 77, 172]
abbrev dktX1_isLesson_0 : List UInt8 := dkwX1_isLesson_0 ++ []
theorem dksX1_isLesson_0 : cX1_isLesson.data.toList.drop 0 = dktX1_isLesson_0 := by decide +kernel
theorem dX1_isLesson_0 : decode cX1_isLesson 0 = .ok (.iload_n 1, 1) := dk_27 (dk_at dksX1_isLesson_0 0 rfl rfl)
theorem dX1_isLesson_1 : decode cX1_isLesson 1 = .ok (.iconst 0, 1) := dk_3 (dk_at dksX1_isLesson_0 1 rfl rfl)
theorem dX1_isLesson_2 : decode cX1_isLesson 2 = .ok (.aload_n 0, 1) := dk_42 (dk_at dksX1_isLesson_0 2 rfl rfl)
theorem dX1_isLesson_3 : decode cX1_isLesson 3 = .ok (.getfield 107, 3) := dk_180 0 107 (dk_at dksX1_isLesson_0 3 rfl rfl)
theorem dX1_isLesson_6 : decode cX1_isLesson 6 = .ok (.iconst 1, 1) := dk_4 (dk_at dksX1_isLesson_0 6 rfl rfl)
theorem dX1_isLesson_7 : decode cX1_isLesson 7 = .ok (.isub, 1) := dk_100 (dk_at dksX1_isLesson_0 7 rfl rfl)
theorem dX1_isLesson_8 : decode cX1_isLesson 8 = .ok (.invokestatic 77, 3) := dk_184 0 77 (dk_at dksX1_isLesson_0 8 rfl rfl)
theorem dX1_isLesson_11 : decode cX1_isLesson 11 = .ok (.ireturn, 1) := dk_172 (dk_at dksX1_isLesson_0 11 rfl rfl)
abbrev cX1_lessonNow : ByteArray := prog_9_method_19_code
def yX1_lessonNow : MethodName := ⟨RX1, "lessonNow", "(II)I"⟩
def dkwX1_lessonNow_1 : List UInt8 := [167, 0, 8, 42, 27, 182, 0, 125, 172]
abbrev dktX1_lessonNow_1 : List UInt8 := dkwX1_lessonNow_1 ++ []
def dkwX1_lessonNow_0 : List UInt8 := [28, 154, 0, 12, 42, 180, 0, 7, 27, 46, 167, 0, 22, 28, 4, 160, 0, 12, 42, 180, 0, 13, 27, 46]
abbrev dktX1_lessonNow_0 : List UInt8 := dkwX1_lessonNow_0 ++ dktX1_lessonNow_1
theorem dksX1_lessonNow_0 : cX1_lessonNow.data.toList.drop 0 = dktX1_lessonNow_0 := by decide +kernel
theorem dksX1_lessonNow_1 : cX1_lessonNow.data.toList.drop 24 = dktX1_lessonNow_1 := dk_seg dksX1_lessonNow_0 24 rfl rfl
theorem dX1_lessonNow_0 : decode cX1_lessonNow 0 = .ok (.iload_n 2, 1) := dk_28 (dk_at dksX1_lessonNow_0 0 rfl rfl)
theorem dX1_lessonNow_1 : decode cX1_lessonNow 1 = .ok (.ifCond .ne 12, 3) := dk_154 0 12 (dk_at dksX1_lessonNow_0 1 rfl rfl)
theorem dX1_lessonNow_4 : decode cX1_lessonNow 4 = .ok (.aload_n 0, 1) := dk_42 (dk_at dksX1_lessonNow_0 4 rfl rfl)
theorem dX1_lessonNow_5 : decode cX1_lessonNow 5 = .ok (.getfield 7, 3) := dk_180 0 7 (dk_at dksX1_lessonNow_0 5 rfl rfl)
theorem dX1_lessonNow_8 : decode cX1_lessonNow 8 = .ok (.iload_n 1, 1) := dk_27 (dk_at dksX1_lessonNow_0 8 rfl rfl)
theorem dX1_lessonNow_9 : decode cX1_lessonNow 9 = .ok (.iaload, 1) := dk_46 (dk_at dksX1_lessonNow_0 9 rfl rfl)
theorem dX1_lessonNow_10 : decode cX1_lessonNow 10 = .ok (.goto 22, 3) := dk_167 0 22 (dk_at dksX1_lessonNow_0 10 rfl rfl)
theorem dX1_lessonNow_13 : decode cX1_lessonNow 13 = .ok (.iload_n 2, 1) := dk_28 (dk_at dksX1_lessonNow_0 13 rfl rfl)
theorem dX1_lessonNow_14 : decode cX1_lessonNow 14 = .ok (.iconst 1, 1) := dk_4 (dk_at dksX1_lessonNow_0 14 rfl rfl)
theorem dX1_lessonNow_15 : decode cX1_lessonNow 15 = .ok (.if_icmp .ne 12, 3) := dk_160 0 12 (dk_at dksX1_lessonNow_0 15 rfl rfl)
theorem dX1_lessonNow_18 : decode cX1_lessonNow 18 = .ok (.aload_n 0, 1) := dk_42 (dk_at dksX1_lessonNow_0 18 rfl rfl)
theorem dX1_lessonNow_19 : decode cX1_lessonNow 19 = .ok (.getfield 13, 3) := dk_180 0 13 (dk_at dksX1_lessonNow_0 19 rfl rfl)
theorem dX1_lessonNow_22 : decode cX1_lessonNow 22 = .ok (.iload_n 1, 1) := dk_27 (dk_at dksX1_lessonNow_0 22 rfl rfl)
theorem dX1_lessonNow_23 : decode cX1_lessonNow 23 = .ok (.iaload, 1) := dk_46 (dk_at dksX1_lessonNow_0 23 rfl rfl)
theorem dX1_lessonNow_24 : decode cX1_lessonNow 24 = .ok (.goto 8, 3) := dk_167 0 8 (dk_at dksX1_lessonNow_1 0 rfl rfl)
theorem dX1_lessonNow_27 : decode cX1_lessonNow 27 = .ok (.aload_n 0, 1) := dk_42 (dk_at dksX1_lessonNow_1 3 rfl rfl)
theorem dX1_lessonNow_28 : decode cX1_lessonNow 28 = .ok (.iload_n 1, 1) := dk_27 (dk_at dksX1_lessonNow_1 4 rfl rfl)
theorem dX1_lessonNow_29 : decode cX1_lessonNow 29 = .ok (.invokevirtual 125, 3) := dk_182 0 125 (dk_at dksX1_lessonNow_1 5 rfl rfl)
theorem dX1_lessonNow_32 : decode cX1_lessonNow 32 = .ok (.ireturn, 1) := dk_172 (dk_at dksX1_lessonNow_1 8 rfl rfl)
abbrev cX1_learntBy : ByteArray := prog_9_method_18_code
def yX1_learntBy : MethodName := ⟨RX1, "learntBy", "(I)I"⟩
def dkwX1_learntBy_1 : List UInt8 := [153, 0, 9, 4, 29, 120, 167, 0, 4, 3, 128, 61, 132, 3, 1, 167, 255, 222, 28, 172]
abbrev dktX1_learntBy_1 : List UInt8 := dkwX1_learntBy_1 ++ []
def dkwX1_learntBy_0 : List UInt8 := [3, 61, 3, 62, 29, 42, 180, 0, 116, 162, 0, 32, 28, 42, 180, 0, 28, 29, 46, 27, 184, 0, 122]
abbrev dktX1_learntBy_0 : List UInt8 := dkwX1_learntBy_0 ++ dktX1_learntBy_1
theorem dksX1_learntBy_0 : cX1_learntBy.data.toList.drop 0 = dktX1_learntBy_0 := by decide +kernel
theorem dksX1_learntBy_1 : cX1_learntBy.data.toList.drop 23 = dktX1_learntBy_1 := dk_seg dksX1_learntBy_0 23 rfl rfl
theorem dX1_learntBy_0 : decode cX1_learntBy 0 = .ok (.iconst 0, 1) := dk_3 (dk_at dksX1_learntBy_0 0 rfl rfl)
theorem dX1_learntBy_1 : decode cX1_learntBy 1 = .ok (.istore_n 2, 1) := dk_61 (dk_at dksX1_learntBy_0 1 rfl rfl)
theorem dX1_learntBy_2 : decode cX1_learntBy 2 = .ok (.iconst 0, 1) := dk_3 (dk_at dksX1_learntBy_0 2 rfl rfl)
theorem dX1_learntBy_3 : decode cX1_learntBy 3 = .ok (.istore_n 3, 1) := dk_62 (dk_at dksX1_learntBy_0 3 rfl rfl)
theorem dX1_learntBy_4 : decode cX1_learntBy 4 = .ok (.iload_n 3, 1) := dk_29 (dk_at dksX1_learntBy_0 4 rfl rfl)
theorem dX1_learntBy_5 : decode cX1_learntBy 5 = .ok (.aload_n 0, 1) := dk_42 (dk_at dksX1_learntBy_0 5 rfl rfl)
theorem dX1_learntBy_6 : decode cX1_learntBy 6 = .ok (.getfield 116, 3) := dk_180 0 116 (dk_at dksX1_learntBy_0 6 rfl rfl)
theorem dX1_learntBy_9 : decode cX1_learntBy 9 = .ok (.if_icmp .ge 32, 3) := dk_162 0 32 (dk_at dksX1_learntBy_0 9 rfl rfl)
theorem dX1_learntBy_12 : decode cX1_learntBy 12 = .ok (.iload_n 2, 1) := dk_28 (dk_at dksX1_learntBy_0 12 rfl rfl)
theorem dX1_learntBy_13 : decode cX1_learntBy 13 = .ok (.aload_n 0, 1) := dk_42 (dk_at dksX1_learntBy_0 13 rfl rfl)
theorem dX1_learntBy_14 : decode cX1_learntBy 14 = .ok (.getfield 28, 3) := dk_180 0 28 (dk_at dksX1_learntBy_0 14 rfl rfl)
theorem dX1_learntBy_17 : decode cX1_learntBy 17 = .ok (.iload_n 3, 1) := dk_29 (dk_at dksX1_learntBy_0 17 rfl rfl)
theorem dX1_learntBy_18 : decode cX1_learntBy 18 = .ok (.iaload, 1) := dk_46 (dk_at dksX1_learntBy_0 18 rfl rfl)
theorem dX1_learntBy_19 : decode cX1_learntBy 19 = .ok (.iload_n 1, 1) := dk_27 (dk_at dksX1_learntBy_0 19 rfl rfl)
theorem dX1_learntBy_20 : decode cX1_learntBy 20 = .ok (.invokestatic 122, 3) := dk_184 0 122 (dk_at dksX1_learntBy_0 20 rfl rfl)
theorem dX1_learntBy_23 : decode cX1_learntBy 23 = .ok (.ifCond .eq 9, 3) := dk_153 0 9 (dk_at dksX1_learntBy_1 0 rfl rfl)
theorem dX1_learntBy_26 : decode cX1_learntBy 26 = .ok (.iconst 1, 1) := dk_4 (dk_at dksX1_learntBy_1 3 rfl rfl)
theorem dX1_learntBy_27 : decode cX1_learntBy 27 = .ok (.iload_n 3, 1) := dk_29 (dk_at dksX1_learntBy_1 4 rfl rfl)
theorem dX1_learntBy_28 : decode cX1_learntBy 28 = .ok (.ishl, 1) := dk_120 (dk_at dksX1_learntBy_1 5 rfl rfl)
theorem dX1_learntBy_29 : decode cX1_learntBy 29 = .ok (.goto 4, 3) := dk_167 0 4 (dk_at dksX1_learntBy_1 6 rfl rfl)
theorem dX1_learntBy_32 : decode cX1_learntBy 32 = .ok (.iconst 0, 1) := dk_3 (dk_at dksX1_learntBy_1 9 rfl rfl)
theorem dX1_learntBy_33 : decode cX1_learntBy 33 = .ok (.ior, 1) := dk_128 (dk_at dksX1_learntBy_1 10 rfl rfl)
theorem dX1_learntBy_34 : decode cX1_learntBy 34 = .ok (.istore_n 2, 1) := dk_61 (dk_at dksX1_learntBy_1 11 rfl rfl)
theorem dX1_learntBy_35 : decode cX1_learntBy 35 = .ok (.iinc 3 1, 3) := dk_132 3 1 (dk_at dksX1_learntBy_1 12 rfl rfl)
theorem dX1_learntBy_38 : decode cX1_learntBy 38 = .ok (.goto (-34), 3) := dk_167 255 222 (dk_at dksX1_learntBy_1 15 rfl rfl)
theorem dX1_learntBy_41 : decode cX1_learntBy 41 = .ok (.iload_n 2, 1) := dk_28 (dk_at dksX1_learntBy_1 18 rfl rfl)
theorem dX1_learntBy_42 : decode cX1_learntBy 42 = .ok (.ireturn, 1) := dk_172 (dk_at dksX1_learntBy_1 19 rfl rfl)
abbrev cX1_has : ByteArray := prog_9_method_4_code
def yX1_has : MethodName := ⟨RX1, "has", "(II)Z"⟩
def dkwX1_has_0 : List UInt8 := [26, 27, 122, 4, 126, 4, 160, 0, 7, 4, 167, 0, 4, 3, 172]
abbrev dktX1_has_0 : List UInt8 := dkwX1_has_0 ++ []
theorem dksX1_has_0 : cX1_has.data.toList.drop 0 = dktX1_has_0 := by decide +kernel
theorem dX1_has_0 : decode cX1_has 0 = .ok (.iload_n 0, 1) := dk_26 (dk_at dksX1_has_0 0 rfl rfl)
theorem dX1_has_1 : decode cX1_has 1 = .ok (.iload_n 1, 1) := dk_27 (dk_at dksX1_has_0 1 rfl rfl)
theorem dX1_has_2 : decode cX1_has 2 = .ok (.ishr, 1) := dk_122 (dk_at dksX1_has_0 2 rfl rfl)
theorem dX1_has_3 : decode cX1_has 3 = .ok (.iconst 1, 1) := dk_4 (dk_at dksX1_has_0 3 rfl rfl)
theorem dX1_has_4 : decode cX1_has 4 = .ok (.iand, 1) := dk_126 (dk_at dksX1_has_0 4 rfl rfl)
theorem dX1_has_5 : decode cX1_has 5 = .ok (.iconst 1, 1) := dk_4 (dk_at dksX1_has_0 5 rfl rfl)
theorem dX1_has_6 : decode cX1_has 6 = .ok (.if_icmp .ne 7, 3) := dk_160 0 7 (dk_at dksX1_has_0 6 rfl rfl)
theorem dX1_has_9 : decode cX1_has 9 = .ok (.iconst 1, 1) := dk_4 (dk_at dksX1_has_0 9 rfl rfl)
theorem dX1_has_10 : decode cX1_has 10 = .ok (.goto 4, 3) := dk_167 0 4 (dk_at dksX1_has_0 10 rfl rfl)
theorem dX1_has_13 : decode cX1_has 13 = .ok (.iconst 0, 1) := dk_3 (dk_at dksX1_has_0 13 rfl rfl)
theorem dX1_has_14 : decode cX1_has 14 = .ok (.ireturn, 1) := dk_172 (dk_at dksX1_has_0 14 rfl rfl)
abbrev cX1_stripes : ByteArray := prog_9_method_21_code
def yX1_stripes : MethodName := ⟨RX1, "stripes", "(I)I"⟩
def dkwX1_stripes_0 : List UInt8 := [42, 27, 182, 0, 136, 153, 0, 12, 42, 180, 0, 16, 27, 46, 167, 0, 5, 16, 155, 172]
abbrev dktX1_stripes_0 : List UInt8 := dkwX1_stripes_0 ++ []
theorem dksX1_stripes_0 : cX1_stripes.data.toList.drop 0 = dktX1_stripes_0 := by decide +kernel
theorem dX1_stripes_0 : decode cX1_stripes 0 = .ok (.aload_n 0, 1) := dk_42 (dk_at dksX1_stripes_0 0 rfl rfl)
theorem dX1_stripes_1 : decode cX1_stripes 1 = .ok (.iload_n 1, 1) := dk_27 (dk_at dksX1_stripes_0 1 rfl rfl)
theorem dX1_stripes_2 : decode cX1_stripes 2 = .ok (.invokevirtual 136, 3) := dk_182 0 136 (dk_at dksX1_stripes_0 2 rfl rfl)
theorem dX1_stripes_5 : decode cX1_stripes 5 = .ok (.ifCond .eq 12, 3) := dk_153 0 12 (dk_at dksX1_stripes_0 5 rfl rfl)
theorem dX1_stripes_8 : decode cX1_stripes 8 = .ok (.aload_n 0, 1) := dk_42 (dk_at dksX1_stripes_0 8 rfl rfl)
theorem dX1_stripes_9 : decode cX1_stripes 9 = .ok (.getfield 16, 3) := dk_180 0 16 (dk_at dksX1_stripes_0 9 rfl rfl)
theorem dX1_stripes_12 : decode cX1_stripes 12 = .ok (.iload_n 1, 1) := dk_27 (dk_at dksX1_stripes_0 12 rfl rfl)
theorem dX1_stripes_13 : decode cX1_stripes 13 = .ok (.iaload, 1) := dk_46 (dk_at dksX1_stripes_0 13 rfl rfl)
theorem dX1_stripes_14 : decode cX1_stripes 14 = .ok (.goto 5, 3) := dk_167 0 5 (dk_at dksX1_stripes_0 14 rfl rfl)
theorem dX1_stripes_17 : decode cX1_stripes 17 = .ok (.bipush (-101), 2) := dk_16 155 (dk_at dksX1_stripes_0 17 rfl rfl)
theorem dX1_stripes_19 : decode cX1_stripes 19 = .ok (.ireturn, 1) := dk_172 (dk_at dksX1_stripes_0 19 rfl rfl)
abbrev cX1_isBoy : ByteArray := prog_9_method_16_code
def yX1_isBoy : MethodName := ⟨RX1, "isBoy", "(I)Z"⟩
def dkwX1_isBoy_0 : List UInt8 := [42, 180, 0, 107, 158, 0, 16, 27, 3, 5, 184, 0, 77, 153, 0, 7, 4, 167, 0, 4, 3, 172]
abbrev dktX1_isBoy_0 : List UInt8 := dkwX1_isBoy_0 ++ []
theorem dksX1_isBoy_0 : cX1_isBoy.data.toList.drop 0 = dktX1_isBoy_0 := by decide +kernel
theorem dX1_isBoy_0 : decode cX1_isBoy 0 = .ok (.aload_n 0, 1) := dk_42 (dk_at dksX1_isBoy_0 0 rfl rfl)
theorem dX1_isBoy_1 : decode cX1_isBoy 1 = .ok (.getfield 107, 3) := dk_180 0 107 (dk_at dksX1_isBoy_0 1 rfl rfl)
theorem dX1_isBoy_4 : decode cX1_isBoy 4 = .ok (.ifCond .le 16, 3) := dk_158 0 16 (dk_at dksX1_isBoy_0 4 rfl rfl)
theorem dX1_isBoy_7 : decode cX1_isBoy 7 = .ok (.iload_n 1, 1) := dk_27 (dk_at dksX1_isBoy_0 7 rfl rfl)
theorem dX1_isBoy_8 : decode cX1_isBoy 8 = .ok (.iconst 0, 1) := dk_3 (dk_at dksX1_isBoy_0 8 rfl rfl)
theorem dX1_isBoy_9 : decode cX1_isBoy 9 = .ok (.iconst 2, 1) := dk_5 (dk_at dksX1_isBoy_0 9 rfl rfl)
theorem dX1_isBoy_10 : decode cX1_isBoy 10 = .ok (.invokestatic 77, 3) := dk_184 0 77 (dk_at dksX1_isBoy_0 10 rfl rfl)
theorem dX1_isBoy_13 : decode cX1_isBoy 13 = .ok (.ifCond .eq 7, 3) := dk_153 0 7 (dk_at dksX1_isBoy_0 13 rfl rfl)
theorem dX1_isBoy_16 : decode cX1_isBoy 16 = .ok (.iconst 1, 1) := dk_4 (dk_at dksX1_isBoy_0 16 rfl rfl)
theorem dX1_isBoy_17 : decode cX1_isBoy 17 = .ok (.goto 4, 3) := dk_167 0 4 (dk_at dksX1_isBoy_0 17 rfl rfl)
theorem dX1_isBoy_20 : decode cX1_isBoy 20 = .ok (.iconst 0, 1) := dk_3 (dk_at dksX1_isBoy_0 20 rfl rfl)
theorem dX1_isBoy_21 : decode cX1_isBoy 21 = .ok (.ireturn, 1) := dk_172 (dk_at dksX1_isBoy_0 21 rfl rfl)
abbrev cX1_prince : ByteArray := prog_9_method_22_code
def yX1_prince : MethodName := ⟨RX1, "prince", "(II)I"⟩
def dkwX1_prince_4 : List UInt8 := [96, 8, 79, 132, 4, 1, 167, 255, 235, 42, 89, 180, 0, 116, 4, 96, 181, 0, 116, 29, 172]
abbrev dktX1_prince_4 : List UInt8 := dkwX1_prince_4 ++ []
def dkwX1_prince_3 : List UInt8 := [180, 0, 28, 29, 3, 79, 3, 54, 4, 21, 4, 6, 162, 0, 21, 42, 180, 0, 31, 6, 29, 104, 21, 4]
abbrev dktX1_prince_3 : List UInt8 := dkwX1_prince_3 ++ dktX1_prince_4
def dkwX1_prince_2 : List UInt8 := [62, 42, 180, 0, 19, 29, 27, 79, 42, 180, 0, 22, 29, 28, 79, 42, 180, 0, 25, 29, 29, 79, 42]
abbrev dktX1_prince_2 : List UInt8 := dkwX1_prince_2 ++ dktX1_prince_3
def dkwX1_prince_1 : List UInt8 := [180, 0, 107, 154, 0, 6, 16, 153, 172, 42, 180, 0, 116, 6, 160, 0, 6, 16, 152, 172, 42, 180, 0, 116]
abbrev dktX1_prince_1 : List UInt8 := dkwX1_prince_1 ++ dktX1_prince_2
def dkwX1_prince_0 : List UInt8 := [27, 3, 7, 184, 0, 77, 153, 0, 13, 28, 3, 16, 9, 184, 0, 77, 154, 0, 6, 16, 154, 172, 42]
abbrev dktX1_prince_0 : List UInt8 := dkwX1_prince_0 ++ dktX1_prince_1
theorem dksX1_prince_0 : cX1_prince.data.toList.drop 0 = dktX1_prince_0 := by decide +kernel
theorem dksX1_prince_1 : cX1_prince.data.toList.drop 23 = dktX1_prince_1 := dk_seg dksX1_prince_0 23 rfl rfl
theorem dksX1_prince_2 : cX1_prince.data.toList.drop 47 = dktX1_prince_2 := dk_seg dksX1_prince_1 24 rfl rfl
theorem dksX1_prince_3 : cX1_prince.data.toList.drop 70 = dktX1_prince_3 := dk_seg dksX1_prince_2 23 rfl rfl
theorem dksX1_prince_4 : cX1_prince.data.toList.drop 94 = dktX1_prince_4 := dk_seg dksX1_prince_3 24 rfl rfl
theorem dX1_prince_0 : decode cX1_prince 0 = .ok (.iload_n 1, 1) := dk_27 (dk_at dksX1_prince_0 0 rfl rfl)
theorem dX1_prince_1 : decode cX1_prince 1 = .ok (.iconst 0, 1) := dk_3 (dk_at dksX1_prince_0 1 rfl rfl)
theorem dX1_prince_2 : decode cX1_prince 2 = .ok (.iconst 4, 1) := dk_7 (dk_at dksX1_prince_0 2 rfl rfl)
theorem dX1_prince_3 : decode cX1_prince 3 = .ok (.invokestatic 77, 3) := dk_184 0 77 (dk_at dksX1_prince_0 3 rfl rfl)
theorem dX1_prince_6 : decode cX1_prince 6 = .ok (.ifCond .eq 13, 3) := dk_153 0 13 (dk_at dksX1_prince_0 6 rfl rfl)
theorem dX1_prince_9 : decode cX1_prince 9 = .ok (.iload_n 2, 1) := dk_28 (dk_at dksX1_prince_0 9 rfl rfl)
theorem dX1_prince_10 : decode cX1_prince 10 = .ok (.iconst 0, 1) := dk_3 (dk_at dksX1_prince_0 10 rfl rfl)
theorem dX1_prince_11 : decode cX1_prince 11 = .ok (.bipush 9, 2) := dk_16 9 (dk_at dksX1_prince_0 11 rfl rfl)
theorem dX1_prince_13 : decode cX1_prince 13 = .ok (.invokestatic 77, 3) := dk_184 0 77 (dk_at dksX1_prince_0 13 rfl rfl)
theorem dX1_prince_16 : decode cX1_prince 16 = .ok (.ifCond .ne 6, 3) := dk_154 0 6 (dk_at dksX1_prince_0 16 rfl rfl)
theorem dX1_prince_19 : decode cX1_prince 19 = .ok (.bipush (-102), 2) := dk_16 154 (dk_at dksX1_prince_0 19 rfl rfl)
theorem dX1_prince_21 : decode cX1_prince 21 = .ok (.ireturn, 1) := dk_172 (dk_at dksX1_prince_0 21 rfl rfl)
theorem dX1_prince_22 : decode cX1_prince 22 = .ok (.aload_n 0, 1) := dk_42 (dk_at dksX1_prince_0 22 rfl rfl)
theorem dX1_prince_23 : decode cX1_prince 23 = .ok (.getfield 107, 3) := dk_180 0 107 (dk_at dksX1_prince_1 0 rfl rfl)
theorem dX1_prince_26 : decode cX1_prince 26 = .ok (.ifCond .ne 6, 3) := dk_154 0 6 (dk_at dksX1_prince_1 3 rfl rfl)
theorem dX1_prince_29 : decode cX1_prince 29 = .ok (.bipush (-103), 2) := dk_16 153 (dk_at dksX1_prince_1 6 rfl rfl)
theorem dX1_prince_31 : decode cX1_prince 31 = .ok (.ireturn, 1) := dk_172 (dk_at dksX1_prince_1 8 rfl rfl)
theorem dX1_prince_32 : decode cX1_prince 32 = .ok (.aload_n 0, 1) := dk_42 (dk_at dksX1_prince_1 9 rfl rfl)
theorem dX1_prince_33 : decode cX1_prince 33 = .ok (.getfield 116, 3) := dk_180 0 116 (dk_at dksX1_prince_1 10 rfl rfl)
theorem dX1_prince_36 : decode cX1_prince 36 = .ok (.iconst 3, 1) := dk_6 (dk_at dksX1_prince_1 13 rfl rfl)
theorem dX1_prince_37 : decode cX1_prince 37 = .ok (.if_icmp .ne 6, 3) := dk_160 0 6 (dk_at dksX1_prince_1 14 rfl rfl)
theorem dX1_prince_40 : decode cX1_prince 40 = .ok (.bipush (-104), 2) := dk_16 152 (dk_at dksX1_prince_1 17 rfl rfl)
theorem dX1_prince_42 : decode cX1_prince 42 = .ok (.ireturn, 1) := dk_172 (dk_at dksX1_prince_1 19 rfl rfl)
theorem dX1_prince_43 : decode cX1_prince 43 = .ok (.aload_n 0, 1) := dk_42 (dk_at dksX1_prince_1 20 rfl rfl)
theorem dX1_prince_44 : decode cX1_prince 44 = .ok (.getfield 116, 3) := dk_180 0 116 (dk_at dksX1_prince_1 21 rfl rfl)
theorem dX1_prince_47 : decode cX1_prince 47 = .ok (.istore_n 3, 1) := dk_62 (dk_at dksX1_prince_2 0 rfl rfl)
theorem dX1_prince_48 : decode cX1_prince 48 = .ok (.aload_n 0, 1) := dk_42 (dk_at dksX1_prince_2 1 rfl rfl)
theorem dX1_prince_49 : decode cX1_prince 49 = .ok (.getfield 19, 3) := dk_180 0 19 (dk_at dksX1_prince_2 2 rfl rfl)
theorem dX1_prince_52 : decode cX1_prince 52 = .ok (.iload_n 3, 1) := dk_29 (dk_at dksX1_prince_2 5 rfl rfl)
theorem dX1_prince_53 : decode cX1_prince 53 = .ok (.iload_n 1, 1) := dk_27 (dk_at dksX1_prince_2 6 rfl rfl)
theorem dX1_prince_54 : decode cX1_prince 54 = .ok (.iastore, 1) := dk_79 (dk_at dksX1_prince_2 7 rfl rfl)
theorem dX1_prince_55 : decode cX1_prince 55 = .ok (.aload_n 0, 1) := dk_42 (dk_at dksX1_prince_2 8 rfl rfl)
theorem dX1_prince_56 : decode cX1_prince 56 = .ok (.getfield 22, 3) := dk_180 0 22 (dk_at dksX1_prince_2 9 rfl rfl)
theorem dX1_prince_59 : decode cX1_prince 59 = .ok (.iload_n 3, 1) := dk_29 (dk_at dksX1_prince_2 12 rfl rfl)
theorem dX1_prince_60 : decode cX1_prince 60 = .ok (.iload_n 2, 1) := dk_28 (dk_at dksX1_prince_2 13 rfl rfl)
theorem dX1_prince_61 : decode cX1_prince 61 = .ok (.iastore, 1) := dk_79 (dk_at dksX1_prince_2 14 rfl rfl)
theorem dX1_prince_62 : decode cX1_prince 62 = .ok (.aload_n 0, 1) := dk_42 (dk_at dksX1_prince_2 15 rfl rfl)
theorem dX1_prince_63 : decode cX1_prince 63 = .ok (.getfield 25, 3) := dk_180 0 25 (dk_at dksX1_prince_2 16 rfl rfl)
theorem dX1_prince_66 : decode cX1_prince 66 = .ok (.iload_n 3, 1) := dk_29 (dk_at dksX1_prince_2 19 rfl rfl)
theorem dX1_prince_67 : decode cX1_prince 67 = .ok (.iload_n 3, 1) := dk_29 (dk_at dksX1_prince_2 20 rfl rfl)
theorem dX1_prince_68 : decode cX1_prince 68 = .ok (.iastore, 1) := dk_79 (dk_at dksX1_prince_2 21 rfl rfl)
theorem dX1_prince_69 : decode cX1_prince 69 = .ok (.aload_n 0, 1) := dk_42 (dk_at dksX1_prince_2 22 rfl rfl)
theorem dX1_prince_70 : decode cX1_prince 70 = .ok (.getfield 28, 3) := dk_180 0 28 (dk_at dksX1_prince_3 0 rfl rfl)
theorem dX1_prince_73 : decode cX1_prince 73 = .ok (.iload_n 3, 1) := dk_29 (dk_at dksX1_prince_3 3 rfl rfl)
theorem dX1_prince_74 : decode cX1_prince 74 = .ok (.iconst 0, 1) := dk_3 (dk_at dksX1_prince_3 4 rfl rfl)
theorem dX1_prince_75 : decode cX1_prince 75 = .ok (.iastore, 1) := dk_79 (dk_at dksX1_prince_3 5 rfl rfl)
theorem dX1_prince_76 : decode cX1_prince 76 = .ok (.iconst 0, 1) := dk_3 (dk_at dksX1_prince_3 6 rfl rfl)
theorem dX1_prince_77 : decode cX1_prince 77 = .ok (.istore 4, 2) := dk_54 4 (dk_at dksX1_prince_3 7 rfl rfl)
theorem dX1_prince_79 : decode cX1_prince 79 = .ok (.iload 4, 2) := dk_21 4 (dk_at dksX1_prince_3 9 rfl rfl)
theorem dX1_prince_81 : decode cX1_prince 81 = .ok (.iconst 3, 1) := dk_6 (dk_at dksX1_prince_3 11 rfl rfl)
theorem dX1_prince_82 : decode cX1_prince 82 = .ok (.if_icmp .ge 21, 3) := dk_162 0 21 (dk_at dksX1_prince_3 12 rfl rfl)
theorem dX1_prince_85 : decode cX1_prince 85 = .ok (.aload_n 0, 1) := dk_42 (dk_at dksX1_prince_3 15 rfl rfl)
theorem dX1_prince_86 : decode cX1_prince 86 = .ok (.getfield 31, 3) := dk_180 0 31 (dk_at dksX1_prince_3 16 rfl rfl)
theorem dX1_prince_89 : decode cX1_prince 89 = .ok (.iconst 3, 1) := dk_6 (dk_at dksX1_prince_3 19 rfl rfl)
theorem dX1_prince_90 : decode cX1_prince 90 = .ok (.iload_n 3, 1) := dk_29 (dk_at dksX1_prince_3 20 rfl rfl)
theorem dX1_prince_91 : decode cX1_prince 91 = .ok (.imul, 1) := dk_104 (dk_at dksX1_prince_3 21 rfl rfl)
theorem dX1_prince_92 : decode cX1_prince 92 = .ok (.iload 4, 2) := dk_21 4 (dk_at dksX1_prince_3 22 rfl rfl)
theorem dX1_prince_94 : decode cX1_prince 94 = .ok (.iadd, 1) := dk_96 (dk_at dksX1_prince_4 0 rfl rfl)
theorem dX1_prince_95 : decode cX1_prince 95 = .ok (.iconst 5, 1) := dk_8 (dk_at dksX1_prince_4 1 rfl rfl)
theorem dX1_prince_96 : decode cX1_prince 96 = .ok (.iastore, 1) := dk_79 (dk_at dksX1_prince_4 2 rfl rfl)
theorem dX1_prince_97 : decode cX1_prince 97 = .ok (.iinc 4 1, 3) := dk_132 4 1 (dk_at dksX1_prince_4 3 rfl rfl)
theorem dX1_prince_100 : decode cX1_prince 100 = .ok (.goto (-21), 3) := dk_167 255 235 (dk_at dksX1_prince_4 6 rfl rfl)
theorem dX1_prince_103 : decode cX1_prince 103 = .ok (.aload_n 0, 1) := dk_42 (dk_at dksX1_prince_4 9 rfl rfl)
theorem dX1_prince_104 : decode cX1_prince 104 = .ok (.dup, 1) := dk_89 (dk_at dksX1_prince_4 10 rfl rfl)
theorem dX1_prince_105 : decode cX1_prince 105 = .ok (.getfield 116, 3) := dk_180 0 116 (dk_at dksX1_prince_4 11 rfl rfl)
theorem dX1_prince_108 : decode cX1_prince 108 = .ok (.iconst 1, 1) := dk_4 (dk_at dksX1_prince_4 14 rfl rfl)
theorem dX1_prince_109 : decode cX1_prince 109 = .ok (.iadd, 1) := dk_96 (dk_at dksX1_prince_4 15 rfl rfl)
theorem dX1_prince_110 : decode cX1_prince 110 = .ok (.putfield 116, 3) := dk_181 0 116 (dk_at dksX1_prince_4 16 rfl rfl)
theorem dX1_prince_113 : decode cX1_prince 113 = .ok (.iload_n 3, 1) := dk_29 (dk_at dksX1_prince_4 19 rfl rfl)
theorem dX1_prince_114 : decode cX1_prince 114 = .ok (.ireturn, 1) := dk_172 (dk_at dksX1_prince_4 20 rfl rfl)
abbrev cX1_about : ByteArray := prog_9_method_28_code
def yX1_about : MethodName := ⟨RX1, "about", "(II)I"⟩
def dkwX1_about_1 : List UInt8 := [16, 10, 16, 12, 184, 0, 77, 153, 0, 12, 42, 27, 28, 182, 0, 152, 167, 0, 5, 16, 154, 172]
abbrev dktX1_about_1 : List UInt8 := dkwX1_about_1 ++ []
def dkwX1_about_0 : List UInt8 := [42, 27, 182, 0, 149, 154, 0, 8, 16, 155, 167, 0, 34, 28, 3, 7, 184, 0, 77, 154, 0, 14, 28]
abbrev dktX1_about_0 : List UInt8 := dkwX1_about_0 ++ dktX1_about_1
theorem dksX1_about_0 : cX1_about.data.toList.drop 0 = dktX1_about_0 := by decide +kernel
theorem dksX1_about_1 : cX1_about.data.toList.drop 23 = dktX1_about_1 := dk_seg dksX1_about_0 23 rfl rfl
theorem dX1_about_0 : decode cX1_about 0 = .ok (.aload_n 0, 1) := dk_42 (dk_at dksX1_about_0 0 rfl rfl)
theorem dX1_about_1 : decode cX1_about 1 = .ok (.iload_n 1, 1) := dk_27 (dk_at dksX1_about_0 1 rfl rfl)
theorem dX1_about_2 : decode cX1_about 2 = .ok (.invokevirtual 149, 3) := dk_182 0 149 (dk_at dksX1_about_0 2 rfl rfl)
theorem dX1_about_5 : decode cX1_about 5 = .ok (.ifCond .ne 8, 3) := dk_154 0 8 (dk_at dksX1_about_0 5 rfl rfl)
theorem dX1_about_8 : decode cX1_about 8 = .ok (.bipush (-101), 2) := dk_16 155 (dk_at dksX1_about_0 8 rfl rfl)
theorem dX1_about_10 : decode cX1_about 10 = .ok (.goto 34, 3) := dk_167 0 34 (dk_at dksX1_about_0 10 rfl rfl)
theorem dX1_about_13 : decode cX1_about 13 = .ok (.iload_n 2, 1) := dk_28 (dk_at dksX1_about_0 13 rfl rfl)
theorem dX1_about_14 : decode cX1_about 14 = .ok (.iconst 0, 1) := dk_3 (dk_at dksX1_about_0 14 rfl rfl)
theorem dX1_about_15 : decode cX1_about 15 = .ok (.iconst 4, 1) := dk_7 (dk_at dksX1_about_0 15 rfl rfl)
theorem dX1_about_16 : decode cX1_about 16 = .ok (.invokestatic 77, 3) := dk_184 0 77 (dk_at dksX1_about_0 16 rfl rfl)
theorem dX1_about_19 : decode cX1_about 19 = .ok (.ifCond .ne 14, 3) := dk_154 0 14 (dk_at dksX1_about_0 19 rfl rfl)
theorem dX1_about_22 : decode cX1_about 22 = .ok (.iload_n 2, 1) := dk_28 (dk_at dksX1_about_0 22 rfl rfl)
theorem dX1_about_23 : decode cX1_about 23 = .ok (.bipush 10, 2) := dk_16 10 (dk_at dksX1_about_1 0 rfl rfl)
theorem dX1_about_25 : decode cX1_about 25 = .ok (.bipush 12, 2) := dk_16 12 (dk_at dksX1_about_1 2 rfl rfl)
theorem dX1_about_27 : decode cX1_about 27 = .ok (.invokestatic 77, 3) := dk_184 0 77 (dk_at dksX1_about_1 4 rfl rfl)
theorem dX1_about_30 : decode cX1_about 30 = .ok (.ifCond .eq 12, 3) := dk_153 0 12 (dk_at dksX1_about_1 7 rfl rfl)
theorem dX1_about_33 : decode cX1_about 33 = .ok (.aload_n 0, 1) := dk_42 (dk_at dksX1_about_1 10 rfl rfl)
theorem dX1_about_34 : decode cX1_about 34 = .ok (.iload_n 1, 1) := dk_27 (dk_at dksX1_about_1 11 rfl rfl)
theorem dX1_about_35 : decode cX1_about 35 = .ok (.iload_n 2, 1) := dk_28 (dk_at dksX1_about_1 12 rfl rfl)
theorem dX1_about_36 : decode cX1_about 36 = .ok (.invokevirtual 152, 3) := dk_182 0 152 (dk_at dksX1_about_1 13 rfl rfl)
theorem dX1_about_39 : decode cX1_about 39 = .ok (.goto 5, 3) := dk_167 0 5 (dk_at dksX1_about_1 16 rfl rfl)
theorem dX1_about_42 : decode cX1_about 42 = .ok (.bipush (-102), 2) := dk_16 154 (dk_at dksX1_about_1 19 rfl rfl)
theorem dX1_about_44 : decode cX1_about 44 = .ok (.ireturn, 1) := dk_172 (dk_at dksX1_about_1 21 rfl rfl)
abbrev cX1_isPrince : ByteArray := prog_9_method_17_code
def yX1_isPrince : MethodName := ⟨RX1, "isPrince", "(I)Z"⟩
def dkwX1_isPrince_0 : List UInt8 := [27, 3, 42, 180, 0, 116, 4, 100, 184, 0, 77, 172]
abbrev dktX1_isPrince_0 : List UInt8 := dkwX1_isPrince_0 ++ []
theorem dksX1_isPrince_0 : cX1_isPrince.data.toList.drop 0 = dktX1_isPrince_0 := by decide +kernel
theorem dX1_isPrince_0 : decode cX1_isPrince 0 = .ok (.iload_n 1, 1) := dk_27 (dk_at dksX1_isPrince_0 0 rfl rfl)
theorem dX1_isPrince_1 : decode cX1_isPrince 1 = .ok (.iconst 0, 1) := dk_3 (dk_at dksX1_isPrince_0 1 rfl rfl)
theorem dX1_isPrince_2 : decode cX1_isPrince 2 = .ok (.aload_n 0, 1) := dk_42 (dk_at dksX1_isPrince_0 2 rfl rfl)
theorem dX1_isPrince_3 : decode cX1_isPrince 3 = .ok (.getfield 116, 3) := dk_180 0 116 (dk_at dksX1_isPrince_0 3 rfl rfl)
theorem dX1_isPrince_6 : decode cX1_isPrince 6 = .ok (.iconst 1, 1) := dk_4 (dk_at dksX1_isPrince_0 6 rfl rfl)
theorem dX1_isPrince_7 : decode cX1_isPrince 7 = .ok (.isub, 1) := dk_100 (dk_at dksX1_isPrince_0 7 rfl rfl)
theorem dX1_isPrince_8 : decode cX1_isPrince 8 = .ok (.invokestatic 77, 3) := dk_184 0 77 (dk_at dksX1_isPrince_0 8 rfl rfl)
theorem dX1_isPrince_11 : decode cX1_isPrince 11 = .ok (.ireturn, 1) := dk_172 (dk_at dksX1_isPrince_0 11 rfl rfl)
abbrev cX1_princeNow : ByteArray := prog_9_method_27_code
def yX1_princeNow : MethodName := ⟨RX1, "princeNow", "(II)I"⟩
def dkwX1_princeNow_4 : List UInt8 := [172]
abbrev dktX1_princeNow_4 : List UInt8 := dkwX1_princeNow_4 ++ []
def dkwX1_princeNow_3 : List UInt8 := [182, 0, 146, 172, 42, 180, 0, 28, 27, 46, 172, 42, 180, 0, 31, 6, 27, 104, 28, 96, 16, 10, 100, 46]
abbrev dktX1_princeNow_3 : List UInt8 := dkwX1_princeNow_3 ++ dktX1_princeNow_4
def dkwX1_princeNow_2 : List UInt8 := [42, 180, 0, 19, 27, 46, 172, 42, 180, 0, 22, 27, 46, 172, 42, 180, 0, 25, 27, 46, 172, 42, 27]
abbrev dktX1_princeNow_2 : List UInt8 := dkwX1_princeNow_2 ++ dktX1_princeNow_3
def dkwX1_princeNow_1 : List UInt8 := [170, 0, 0, 0, 0, 0, 69, 0, 0, 0, 0, 0, 0, 0, 4, 0, 0, 0, 35, 0, 0, 0, 42, 0, 0, 0, 49, 0, 0, 0, 56, 0, 0, 0, 62]
abbrev dktX1_princeNow_1 : List UInt8 := dkwX1_princeNow_1 ++ dktX1_princeNow_2
def dkwX1_princeNow_0 : List UInt8 := [28]
abbrev dktX1_princeNow_0 : List UInt8 := dkwX1_princeNow_0 ++ dktX1_princeNow_1
theorem dksX1_princeNow_0 : cX1_princeNow.data.toList.drop 0 = dktX1_princeNow_0 := by decide +kernel
theorem dksX1_princeNow_1 : cX1_princeNow.data.toList.drop 1 = dktX1_princeNow_1 := dk_seg dksX1_princeNow_0 1 rfl rfl
theorem dksX1_princeNow_2 : cX1_princeNow.data.toList.drop 36 = dktX1_princeNow_2 := dk_seg dksX1_princeNow_1 35 rfl rfl
theorem dksX1_princeNow_3 : cX1_princeNow.data.toList.drop 59 = dktX1_princeNow_3 := dk_seg dksX1_princeNow_2 23 rfl rfl
theorem dksX1_princeNow_4 : cX1_princeNow.data.toList.drop 83 = dktX1_princeNow_4 := dk_seg dksX1_princeNow_3 24 rfl rfl
theorem dX1_princeNow_0 : decode cX1_princeNow 0 = .ok (.iload_n 2, 1) := dk_28 (dk_at dksX1_princeNow_0 0 rfl rfl)
theorem dX1_princeNow_1 : decode cX1_princeNow 1 = .ok (.tableswitch 69 0 4 #[35, 42, 49, 56, 62], 35) := by decide +kernel
theorem dX1_princeNow_36 : decode cX1_princeNow 36 = .ok (.aload_n 0, 1) := dk_42 (dk_at dksX1_princeNow_2 0 rfl rfl)
theorem dX1_princeNow_37 : decode cX1_princeNow 37 = .ok (.getfield 19, 3) := dk_180 0 19 (dk_at dksX1_princeNow_2 1 rfl rfl)
theorem dX1_princeNow_40 : decode cX1_princeNow 40 = .ok (.iload_n 1, 1) := dk_27 (dk_at dksX1_princeNow_2 4 rfl rfl)
theorem dX1_princeNow_41 : decode cX1_princeNow 41 = .ok (.iaload, 1) := dk_46 (dk_at dksX1_princeNow_2 5 rfl rfl)
theorem dX1_princeNow_42 : decode cX1_princeNow 42 = .ok (.ireturn, 1) := dk_172 (dk_at dksX1_princeNow_2 6 rfl rfl)
theorem dX1_princeNow_43 : decode cX1_princeNow 43 = .ok (.aload_n 0, 1) := dk_42 (dk_at dksX1_princeNow_2 7 rfl rfl)
theorem dX1_princeNow_44 : decode cX1_princeNow 44 = .ok (.getfield 22, 3) := dk_180 0 22 (dk_at dksX1_princeNow_2 8 rfl rfl)
theorem dX1_princeNow_47 : decode cX1_princeNow 47 = .ok (.iload_n 1, 1) := dk_27 (dk_at dksX1_princeNow_2 11 rfl rfl)
theorem dX1_princeNow_48 : decode cX1_princeNow 48 = .ok (.iaload, 1) := dk_46 (dk_at dksX1_princeNow_2 12 rfl rfl)
theorem dX1_princeNow_49 : decode cX1_princeNow 49 = .ok (.ireturn, 1) := dk_172 (dk_at dksX1_princeNow_2 13 rfl rfl)
theorem dX1_princeNow_50 : decode cX1_princeNow 50 = .ok (.aload_n 0, 1) := dk_42 (dk_at dksX1_princeNow_2 14 rfl rfl)
theorem dX1_princeNow_51 : decode cX1_princeNow 51 = .ok (.getfield 25, 3) := dk_180 0 25 (dk_at dksX1_princeNow_2 15 rfl rfl)
theorem dX1_princeNow_54 : decode cX1_princeNow 54 = .ok (.iload_n 1, 1) := dk_27 (dk_at dksX1_princeNow_2 18 rfl rfl)
theorem dX1_princeNow_55 : decode cX1_princeNow 55 = .ok (.iaload, 1) := dk_46 (dk_at dksX1_princeNow_2 19 rfl rfl)
theorem dX1_princeNow_56 : decode cX1_princeNow 56 = .ok (.ireturn, 1) := dk_172 (dk_at dksX1_princeNow_2 20 rfl rfl)
theorem dX1_princeNow_57 : decode cX1_princeNow 57 = .ok (.aload_n 0, 1) := dk_42 (dk_at dksX1_princeNow_2 21 rfl rfl)
theorem dX1_princeNow_58 : decode cX1_princeNow 58 = .ok (.iload_n 1, 1) := dk_27 (dk_at dksX1_princeNow_2 22 rfl rfl)
theorem dX1_princeNow_59 : decode cX1_princeNow 59 = .ok (.invokevirtual 146, 3) := dk_182 0 146 (dk_at dksX1_princeNow_3 0 rfl rfl)
theorem dX1_princeNow_62 : decode cX1_princeNow 62 = .ok (.ireturn, 1) := dk_172 (dk_at dksX1_princeNow_3 3 rfl rfl)
theorem dX1_princeNow_63 : decode cX1_princeNow 63 = .ok (.aload_n 0, 1) := dk_42 (dk_at dksX1_princeNow_3 4 rfl rfl)
theorem dX1_princeNow_64 : decode cX1_princeNow 64 = .ok (.getfield 28, 3) := dk_180 0 28 (dk_at dksX1_princeNow_3 5 rfl rfl)
theorem dX1_princeNow_67 : decode cX1_princeNow 67 = .ok (.iload_n 1, 1) := dk_27 (dk_at dksX1_princeNow_3 8 rfl rfl)
theorem dX1_princeNow_68 : decode cX1_princeNow 68 = .ok (.iaload, 1) := dk_46 (dk_at dksX1_princeNow_3 9 rfl rfl)
theorem dX1_princeNow_69 : decode cX1_princeNow 69 = .ok (.ireturn, 1) := dk_172 (dk_at dksX1_princeNow_3 10 rfl rfl)
theorem dX1_princeNow_70 : decode cX1_princeNow 70 = .ok (.aload_n 0, 1) := dk_42 (dk_at dksX1_princeNow_3 11 rfl rfl)
theorem dX1_princeNow_71 : decode cX1_princeNow 71 = .ok (.getfield 31, 3) := dk_180 0 31 (dk_at dksX1_princeNow_3 12 rfl rfl)
theorem dX1_princeNow_74 : decode cX1_princeNow 74 = .ok (.iconst 3, 1) := dk_6 (dk_at dksX1_princeNow_3 15 rfl rfl)
theorem dX1_princeNow_75 : decode cX1_princeNow 75 = .ok (.iload_n 1, 1) := dk_27 (dk_at dksX1_princeNow_3 16 rfl rfl)
theorem dX1_princeNow_76 : decode cX1_princeNow 76 = .ok (.imul, 1) := dk_104 (dk_at dksX1_princeNow_3 17 rfl rfl)
theorem dX1_princeNow_77 : decode cX1_princeNow 77 = .ok (.iload_n 2, 1) := dk_28 (dk_at dksX1_princeNow_3 18 rfl rfl)
theorem dX1_princeNow_78 : decode cX1_princeNow 78 = .ok (.iadd, 1) := dk_96 (dk_at dksX1_princeNow_3 19 rfl rfl)
theorem dX1_princeNow_79 : decode cX1_princeNow 79 = .ok (.bipush 10, 2) := dk_16 10 (dk_at dksX1_princeNow_3 20 rfl rfl)
theorem dX1_princeNow_81 : decode cX1_princeNow 81 = .ok (.isub, 1) := dk_100 (dk_at dksX1_princeNow_3 22 rfl rfl)
theorem dX1_princeNow_82 : decode cX1_princeNow 82 = .ok (.iaload, 1) := dk_46 (dk_at dksX1_princeNow_3 23 rfl rfl)
theorem dX1_princeNow_83 : decode cX1_princeNow 83 = .ok (.ireturn, 1) := dk_172 (dk_at dksX1_princeNow_4 0 rfl rfl)
abbrev cX1_feelsNow : ByteArray := prog_9_method_24_code
def yX1_feelsNow : MethodName := ⟨RX1, "feelsNow", "(I)I"⟩
def dkwX1_feelsNow_1 : List UInt8 := [172]
abbrev dktX1_feelsNow_1 : List UInt8 := dkwX1_feelsNow_1 ++ []
def dkwX1_feelsNow_0 : List UInt8 := [42, 180, 0, 19, 27, 46, 42, 180, 0, 31, 6, 27, 104, 42, 180, 0, 25, 27, 46, 96, 46, 184, 0, 139]
abbrev dktX1_feelsNow_0 : List UInt8 := dkwX1_feelsNow_0 ++ dktX1_feelsNow_1
theorem dksX1_feelsNow_0 : cX1_feelsNow.data.toList.drop 0 = dktX1_feelsNow_0 := by decide +kernel
theorem dksX1_feelsNow_1 : cX1_feelsNow.data.toList.drop 24 = dktX1_feelsNow_1 := dk_seg dksX1_feelsNow_0 24 rfl rfl
theorem dX1_feelsNow_0 : decode cX1_feelsNow 0 = .ok (.aload_n 0, 1) := dk_42 (dk_at dksX1_feelsNow_0 0 rfl rfl)
theorem dX1_feelsNow_1 : decode cX1_feelsNow 1 = .ok (.getfield 19, 3) := dk_180 0 19 (dk_at dksX1_feelsNow_0 1 rfl rfl)
theorem dX1_feelsNow_4 : decode cX1_feelsNow 4 = .ok (.iload_n 1, 1) := dk_27 (dk_at dksX1_feelsNow_0 4 rfl rfl)
theorem dX1_feelsNow_5 : decode cX1_feelsNow 5 = .ok (.iaload, 1) := dk_46 (dk_at dksX1_feelsNow_0 5 rfl rfl)
theorem dX1_feelsNow_6 : decode cX1_feelsNow 6 = .ok (.aload_n 0, 1) := dk_42 (dk_at dksX1_feelsNow_0 6 rfl rfl)
theorem dX1_feelsNow_7 : decode cX1_feelsNow 7 = .ok (.getfield 31, 3) := dk_180 0 31 (dk_at dksX1_feelsNow_0 7 rfl rfl)
theorem dX1_feelsNow_10 : decode cX1_feelsNow 10 = .ok (.iconst 3, 1) := dk_6 (dk_at dksX1_feelsNow_0 10 rfl rfl)
theorem dX1_feelsNow_11 : decode cX1_feelsNow 11 = .ok (.iload_n 1, 1) := dk_27 (dk_at dksX1_feelsNow_0 11 rfl rfl)
theorem dX1_feelsNow_12 : decode cX1_feelsNow 12 = .ok (.imul, 1) := dk_104 (dk_at dksX1_feelsNow_0 12 rfl rfl)
theorem dX1_feelsNow_13 : decode cX1_feelsNow 13 = .ok (.aload_n 0, 1) := dk_42 (dk_at dksX1_feelsNow_0 13 rfl rfl)
theorem dX1_feelsNow_14 : decode cX1_feelsNow 14 = .ok (.getfield 25, 3) := dk_180 0 25 (dk_at dksX1_feelsNow_0 14 rfl rfl)
theorem dX1_feelsNow_17 : decode cX1_feelsNow 17 = .ok (.iload_n 1, 1) := dk_27 (dk_at dksX1_feelsNow_0 17 rfl rfl)
theorem dX1_feelsNow_18 : decode cX1_feelsNow 18 = .ok (.iaload, 1) := dk_46 (dk_at dksX1_feelsNow_0 18 rfl rfl)
theorem dX1_feelsNow_19 : decode cX1_feelsNow 19 = .ok (.iadd, 1) := dk_96 (dk_at dksX1_feelsNow_0 19 rfl rfl)
theorem dX1_feelsNow_20 : decode cX1_feelsNow 20 = .ok (.iaload, 1) := dk_46 (dk_at dksX1_feelsNow_0 20 rfl rfl)
theorem dX1_feelsNow_21 : decode cX1_feelsNow 21 = .ok (.invokestatic 139, 3) := dk_184 0 139 (dk_at dksX1_feelsNow_0 21 rfl rfl)
theorem dX1_feelsNow_24 : decode cX1_feelsNow 24 = .ok (.ireturn, 1) := dk_172 (dk_at dksX1_feelsNow_1 0 rfl rfl)
abbrev cX1_feels : ByteArray := prog_9_method_23_code
def yX1_feels : MethodName := ⟨RX1, "feels", "(II)I"⟩
def dkwX1_feels_2 : List UInt8 := [28, 172, 16, 9, 27, 100, 172, 27, 5, 108, 172, 28, 5, 96, 172, 27, 172]
abbrev dktX1_feels_2 : List UInt8 := dkwX1_feels_2 ++ []
def dkwX1_feels_1 : List UInt8 := [170, 0, 0, 0, 0, 0, 0, 47, 0, 0, 0, 1, 0, 0, 0, 4, 0, 0, 0, 32, 0, 0, 0, 34, 0, 0, 0, 39, 0, 0, 0, 43]
abbrev dktX1_feels_1 : List UInt8 := dkwX1_feels_1 ++ dktX1_feels_2
def dkwX1_feels_0 : List UInt8 := [27, 8, 162, 0, 7, 3, 167, 0, 4, 27, 61, 26]
abbrev dktX1_feels_0 : List UInt8 := dkwX1_feels_0 ++ dktX1_feels_1
theorem dksX1_feels_0 : cX1_feels.data.toList.drop 0 = dktX1_feels_0 := by decide +kernel
theorem dksX1_feels_1 : cX1_feels.data.toList.drop 12 = dktX1_feels_1 := dk_seg dksX1_feels_0 12 rfl rfl
theorem dksX1_feels_2 : cX1_feels.data.toList.drop 44 = dktX1_feels_2 := dk_seg dksX1_feels_1 32 rfl rfl
theorem dX1_feels_0 : decode cX1_feels 0 = .ok (.iload_n 1, 1) := dk_27 (dk_at dksX1_feels_0 0 rfl rfl)
theorem dX1_feels_1 : decode cX1_feels 1 = .ok (.iconst 5, 1) := dk_8 (dk_at dksX1_feels_0 1 rfl rfl)
theorem dX1_feels_2 : decode cX1_feels 2 = .ok (.if_icmp .ge 7, 3) := dk_162 0 7 (dk_at dksX1_feels_0 2 rfl rfl)
theorem dX1_feels_5 : decode cX1_feels 5 = .ok (.iconst 0, 1) := dk_3 (dk_at dksX1_feels_0 5 rfl rfl)
theorem dX1_feels_6 : decode cX1_feels 6 = .ok (.goto 4, 3) := dk_167 0 4 (dk_at dksX1_feels_0 6 rfl rfl)
theorem dX1_feels_9 : decode cX1_feels 9 = .ok (.iload_n 1, 1) := dk_27 (dk_at dksX1_feels_0 9 rfl rfl)
theorem dX1_feels_10 : decode cX1_feels 10 = .ok (.istore_n 2, 1) := dk_61 (dk_at dksX1_feels_0 10 rfl rfl)
theorem dX1_feels_11 : decode cX1_feels 11 = .ok (.iload_n 0, 1) := dk_26 (dk_at dksX1_feels_0 11 rfl rfl)
theorem dX1_feels_12 : decode cX1_feels 12 = .ok (.tableswitch 47 1 4 #[32, 34, 39, 43], 32) := by decide +kernel
theorem dX1_feels_44 : decode cX1_feels 44 = .ok (.iload_n 2, 1) := dk_28 (dk_at dksX1_feels_2 0 rfl rfl)
theorem dX1_feels_45 : decode cX1_feels 45 = .ok (.ireturn, 1) := dk_172 (dk_at dksX1_feels_2 1 rfl rfl)
theorem dX1_feels_46 : decode cX1_feels 46 = .ok (.bipush 9, 2) := dk_16 9 (dk_at dksX1_feels_2 2 rfl rfl)
theorem dX1_feels_48 : decode cX1_feels 48 = .ok (.iload_n 1, 1) := dk_27 (dk_at dksX1_feels_2 4 rfl rfl)
theorem dX1_feels_49 : decode cX1_feels 49 = .ok (.isub, 1) := dk_100 (dk_at dksX1_feels_2 5 rfl rfl)
theorem dX1_feels_50 : decode cX1_feels 50 = .ok (.ireturn, 1) := dk_172 (dk_at dksX1_feels_2 6 rfl rfl)
theorem dX1_feels_51 : decode cX1_feels 51 = .ok (.iload_n 1, 1) := dk_27 (dk_at dksX1_feels_2 7 rfl rfl)
theorem dX1_feels_52 : decode cX1_feels 52 = .ok (.iconst 2, 1) := dk_5 (dk_at dksX1_feels_2 8 rfl rfl)
theorem dX1_feels_53 : decode cX1_feels 53 = .ok (.idiv, 1) := dk_108 (dk_at dksX1_feels_2 9 rfl rfl)
theorem dX1_feels_54 : decode cX1_feels 54 = .ok (.ireturn, 1) := dk_172 (dk_at dksX1_feels_2 10 rfl rfl)
theorem dX1_feels_55 : decode cX1_feels 55 = .ok (.iload_n 2, 1) := dk_28 (dk_at dksX1_feels_2 11 rfl rfl)
theorem dX1_feels_56 : decode cX1_feels 56 = .ok (.iconst 2, 1) := dk_5 (dk_at dksX1_feels_2 12 rfl rfl)
theorem dX1_feels_57 : decode cX1_feels 57 = .ok (.iadd, 1) := dk_96 (dk_at dksX1_feels_2 13 rfl rfl)
theorem dX1_feels_58 : decode cX1_feels 58 = .ok (.ireturn, 1) := dk_172 (dk_at dksX1_feels_2 14 rfl rfl)
theorem dX1_feels_59 : decode cX1_feels 59 = .ok (.iload_n 1, 1) := dk_27 (dk_at dksX1_feels_2 15 rfl rfl)
theorem dX1_feels_60 : decode cX1_feels 60 = .ok (.ireturn, 1) := dk_172 (dk_at dksX1_feels_2 16 rfl rfl)
abbrev cX1_as : ByteArray := prog_9_method_29_code
def yX1_as : MethodName := ⟨RX1, "as", "(II)I"⟩
def dkwX1_as_2 : List UInt8 := [160, 0, 7, 27, 167, 0, 4, 2, 172]
abbrev dktX1_as_2 : List UInt8 := dkwX1_as_2 ++ []
def dkwX1_as_1 : List UInt8 := [180, 0, 19, 27, 46, 62, 28, 153, 0, 18, 29, 28, 159, 0, 13, 28, 4, 160, 0, 12, 29, 7]
abbrev dktX1_as_1 : List UInt8 := dkwX1_as_1 ++ dktX1_as_2
def dkwX1_as_0 : List UInt8 := [42, 27, 182, 0, 149, 154, 0, 6, 16, 155, 172, 28, 3, 7, 184, 0, 77, 154, 0, 6, 16, 154, 172, 42]
abbrev dktX1_as_0 : List UInt8 := dkwX1_as_0 ++ dktX1_as_1
theorem dksX1_as_0 : cX1_as.data.toList.drop 0 = dktX1_as_0 := by decide +kernel
theorem dksX1_as_1 : cX1_as.data.toList.drop 24 = dktX1_as_1 := dk_seg dksX1_as_0 24 rfl rfl
theorem dksX1_as_2 : cX1_as.data.toList.drop 46 = dktX1_as_2 := dk_seg dksX1_as_1 22 rfl rfl
theorem dX1_as_0 : decode cX1_as 0 = .ok (.aload_n 0, 1) := dk_42 (dk_at dksX1_as_0 0 rfl rfl)
theorem dX1_as_1 : decode cX1_as 1 = .ok (.iload_n 1, 1) := dk_27 (dk_at dksX1_as_0 1 rfl rfl)
theorem dX1_as_2 : decode cX1_as 2 = .ok (.invokevirtual 149, 3) := dk_182 0 149 (dk_at dksX1_as_0 2 rfl rfl)
theorem dX1_as_5 : decode cX1_as 5 = .ok (.ifCond .ne 6, 3) := dk_154 0 6 (dk_at dksX1_as_0 5 rfl rfl)
theorem dX1_as_8 : decode cX1_as 8 = .ok (.bipush (-101), 2) := dk_16 155 (dk_at dksX1_as_0 8 rfl rfl)
theorem dX1_as_10 : decode cX1_as 10 = .ok (.ireturn, 1) := dk_172 (dk_at dksX1_as_0 10 rfl rfl)
theorem dX1_as_11 : decode cX1_as 11 = .ok (.iload_n 2, 1) := dk_28 (dk_at dksX1_as_0 11 rfl rfl)
theorem dX1_as_12 : decode cX1_as 12 = .ok (.iconst 0, 1) := dk_3 (dk_at dksX1_as_0 12 rfl rfl)
theorem dX1_as_13 : decode cX1_as 13 = .ok (.iconst 4, 1) := dk_7 (dk_at dksX1_as_0 13 rfl rfl)
theorem dX1_as_14 : decode cX1_as 14 = .ok (.invokestatic 77, 3) := dk_184 0 77 (dk_at dksX1_as_0 14 rfl rfl)
theorem dX1_as_17 : decode cX1_as 17 = .ok (.ifCond .ne 6, 3) := dk_154 0 6 (dk_at dksX1_as_0 17 rfl rfl)
theorem dX1_as_20 : decode cX1_as 20 = .ok (.bipush (-102), 2) := dk_16 154 (dk_at dksX1_as_0 20 rfl rfl)
theorem dX1_as_22 : decode cX1_as 22 = .ok (.ireturn, 1) := dk_172 (dk_at dksX1_as_0 22 rfl rfl)
theorem dX1_as_23 : decode cX1_as 23 = .ok (.aload_n 0, 1) := dk_42 (dk_at dksX1_as_0 23 rfl rfl)
theorem dX1_as_24 : decode cX1_as 24 = .ok (.getfield 19, 3) := dk_180 0 19 (dk_at dksX1_as_1 0 rfl rfl)
theorem dX1_as_27 : decode cX1_as 27 = .ok (.iload_n 1, 1) := dk_27 (dk_at dksX1_as_1 3 rfl rfl)
theorem dX1_as_28 : decode cX1_as 28 = .ok (.iaload, 1) := dk_46 (dk_at dksX1_as_1 4 rfl rfl)
theorem dX1_as_29 : decode cX1_as 29 = .ok (.istore_n 3, 1) := dk_62 (dk_at dksX1_as_1 5 rfl rfl)
theorem dX1_as_30 : decode cX1_as 30 = .ok (.iload_n 2, 1) := dk_28 (dk_at dksX1_as_1 6 rfl rfl)
theorem dX1_as_31 : decode cX1_as 31 = .ok (.ifCond .eq 18, 3) := dk_153 0 18 (dk_at dksX1_as_1 7 rfl rfl)
theorem dX1_as_34 : decode cX1_as 34 = .ok (.iload_n 3, 1) := dk_29 (dk_at dksX1_as_1 10 rfl rfl)
theorem dX1_as_35 : decode cX1_as 35 = .ok (.iload_n 2, 1) := dk_28 (dk_at dksX1_as_1 11 rfl rfl)
theorem dX1_as_36 : decode cX1_as 36 = .ok (.if_icmp .eq 13, 3) := dk_159 0 13 (dk_at dksX1_as_1 12 rfl rfl)
theorem dX1_as_39 : decode cX1_as 39 = .ok (.iload_n 2, 1) := dk_28 (dk_at dksX1_as_1 15 rfl rfl)
theorem dX1_as_40 : decode cX1_as 40 = .ok (.iconst 1, 1) := dk_4 (dk_at dksX1_as_1 16 rfl rfl)
theorem dX1_as_41 : decode cX1_as 41 = .ok (.if_icmp .ne 12, 3) := dk_160 0 12 (dk_at dksX1_as_1 17 rfl rfl)
theorem dX1_as_44 : decode cX1_as 44 = .ok (.iload_n 3, 1) := dk_29 (dk_at dksX1_as_1 20 rfl rfl)
theorem dX1_as_45 : decode cX1_as 45 = .ok (.iconst 4, 1) := dk_7 (dk_at dksX1_as_1 21 rfl rfl)
theorem dX1_as_46 : decode cX1_as 46 = .ok (.if_icmp .ne 7, 3) := dk_160 0 7 (dk_at dksX1_as_2 0 rfl rfl)
theorem dX1_as_49 : decode cX1_as 49 = .ok (.iload_n 1, 1) := dk_27 (dk_at dksX1_as_2 3 rfl rfl)
theorem dX1_as_50 : decode cX1_as 50 = .ok (.goto 4, 3) := dk_167 0 4 (dk_at dksX1_as_2 4 rfl rfl)
theorem dX1_as_53 : decode cX1_as 53 = .ok (.iconst (-1), 1) := dk_2 (dk_at dksX1_as_2 7 rfl rfl)
theorem dX1_as_54 : decode cX1_as 54 = .ok (.ireturn, 1) := dk_172 (dk_at dksX1_as_2 8 rfl rfl)
abbrev cX1_give : ByteArray := prog_9_method_30_code
def yX1_give : MethodName := ⟨RX1, "give", "(II)I"⟩
def dkwX1_give_1 : List UInt8 := [46, 62, 42, 180, 0, 25, 27, 28, 79, 29, 172]
abbrev dktX1_give_1 : List UInt8 := dkwX1_give_1 ++ []
def dkwX1_give_0 : List UInt8 := [42, 27, 182, 0, 149, 153, 0, 11, 42, 28, 182, 0, 136, 154, 0, 6, 16, 155, 172, 42, 180, 0, 25, 27]
abbrev dktX1_give_0 : List UInt8 := dkwX1_give_0 ++ dktX1_give_1
theorem dksX1_give_0 : cX1_give.data.toList.drop 0 = dktX1_give_0 := by decide +kernel
theorem dksX1_give_1 : cX1_give.data.toList.drop 24 = dktX1_give_1 := dk_seg dksX1_give_0 24 rfl rfl
theorem dX1_give_0 : decode cX1_give 0 = .ok (.aload_n 0, 1) := dk_42 (dk_at dksX1_give_0 0 rfl rfl)
theorem dX1_give_1 : decode cX1_give 1 = .ok (.iload_n 1, 1) := dk_27 (dk_at dksX1_give_0 1 rfl rfl)
theorem dX1_give_2 : decode cX1_give 2 = .ok (.invokevirtual 149, 3) := dk_182 0 149 (dk_at dksX1_give_0 2 rfl rfl)
theorem dX1_give_5 : decode cX1_give 5 = .ok (.ifCond .eq 11, 3) := dk_153 0 11 (dk_at dksX1_give_0 5 rfl rfl)
theorem dX1_give_8 : decode cX1_give 8 = .ok (.aload_n 0, 1) := dk_42 (dk_at dksX1_give_0 8 rfl rfl)
theorem dX1_give_9 : decode cX1_give 9 = .ok (.iload_n 2, 1) := dk_28 (dk_at dksX1_give_0 9 rfl rfl)
theorem dX1_give_10 : decode cX1_give 10 = .ok (.invokevirtual 136, 3) := dk_182 0 136 (dk_at dksX1_give_0 10 rfl rfl)
theorem dX1_give_13 : decode cX1_give 13 = .ok (.ifCond .ne 6, 3) := dk_154 0 6 (dk_at dksX1_give_0 13 rfl rfl)
theorem dX1_give_16 : decode cX1_give 16 = .ok (.bipush (-101), 2) := dk_16 155 (dk_at dksX1_give_0 16 rfl rfl)
theorem dX1_give_18 : decode cX1_give 18 = .ok (.ireturn, 1) := dk_172 (dk_at dksX1_give_0 18 rfl rfl)
theorem dX1_give_19 : decode cX1_give 19 = .ok (.aload_n 0, 1) := dk_42 (dk_at dksX1_give_0 19 rfl rfl)
theorem dX1_give_20 : decode cX1_give 20 = .ok (.getfield 25, 3) := dk_180 0 25 (dk_at dksX1_give_0 20 rfl rfl)
theorem dX1_give_23 : decode cX1_give 23 = .ok (.iload_n 1, 1) := dk_27 (dk_at dksX1_give_0 23 rfl rfl)
theorem dX1_give_24 : decode cX1_give 24 = .ok (.iaload, 1) := dk_46 (dk_at dksX1_give_1 0 rfl rfl)
theorem dX1_give_25 : decode cX1_give 25 = .ok (.istore_n 3, 1) := dk_62 (dk_at dksX1_give_1 1 rfl rfl)
theorem dX1_give_26 : decode cX1_give 26 = .ok (.aload_n 0, 1) := dk_42 (dk_at dksX1_give_1 2 rfl rfl)
theorem dX1_give_27 : decode cX1_give 27 = .ok (.getfield 25, 3) := dk_180 0 25 (dk_at dksX1_give_1 3 rfl rfl)
theorem dX1_give_30 : decode cX1_give 30 = .ok (.iload_n 1, 1) := dk_27 (dk_at dksX1_give_1 6 rfl rfl)
theorem dX1_give_31 : decode cX1_give 31 = .ok (.iload_n 2, 1) := dk_28 (dk_at dksX1_give_1 7 rfl rfl)
theorem dX1_give_32 : decode cX1_give 32 = .ok (.iastore, 1) := dk_79 (dk_at dksX1_give_1 8 rfl rfl)
theorem dX1_give_33 : decode cX1_give 33 = .ok (.iload_n 3, 1) := dk_29 (dk_at dksX1_give_1 9 rfl rfl)
theorem dX1_give_34 : decode cX1_give 34 = .ok (.ireturn, 1) := dk_172 (dk_at dksX1_give_1 10 rfl rfl)
abbrev cX1_fond : ByteArray := prog_9_method_31_code
def yX1_fond : MethodName := ⟨RX1, "fond", "(III)I"⟩
def dkwX1_fond_2 : List UInt8 := [180, 0, 31, 6, 27, 104, 28, 96, 29, 79, 21, 4, 172]
abbrev dktX1_fond_2 : List UInt8 := dkwX1_fond_2 ++ []
def dkwX1_fond_1 : List UInt8 := [184, 0, 77, 154, 0, 6, 16, 154, 172, 42, 180, 0, 31, 6, 27, 104, 28, 96, 46, 54, 4, 42]
abbrev dktX1_fond_1 : List UInt8 := dkwX1_fond_1 ++ dktX1_fond_2
def dkwX1_fond_0 : List UInt8 := [42, 27, 182, 0, 149, 153, 0, 11, 42, 28, 182, 0, 136, 154, 0, 6, 16, 155, 172, 29, 3, 16, 9]
abbrev dktX1_fond_0 : List UInt8 := dkwX1_fond_0 ++ dktX1_fond_1
theorem dksX1_fond_0 : cX1_fond.data.toList.drop 0 = dktX1_fond_0 := by decide +kernel
theorem dksX1_fond_1 : cX1_fond.data.toList.drop 23 = dktX1_fond_1 := dk_seg dksX1_fond_0 23 rfl rfl
theorem dksX1_fond_2 : cX1_fond.data.toList.drop 45 = dktX1_fond_2 := dk_seg dksX1_fond_1 22 rfl rfl
theorem dX1_fond_0 : decode cX1_fond 0 = .ok (.aload_n 0, 1) := dk_42 (dk_at dksX1_fond_0 0 rfl rfl)
theorem dX1_fond_1 : decode cX1_fond 1 = .ok (.iload_n 1, 1) := dk_27 (dk_at dksX1_fond_0 1 rfl rfl)
theorem dX1_fond_2 : decode cX1_fond 2 = .ok (.invokevirtual 149, 3) := dk_182 0 149 (dk_at dksX1_fond_0 2 rfl rfl)
theorem dX1_fond_5 : decode cX1_fond 5 = .ok (.ifCond .eq 11, 3) := dk_153 0 11 (dk_at dksX1_fond_0 5 rfl rfl)
theorem dX1_fond_8 : decode cX1_fond 8 = .ok (.aload_n 0, 1) := dk_42 (dk_at dksX1_fond_0 8 rfl rfl)
theorem dX1_fond_9 : decode cX1_fond 9 = .ok (.iload_n 2, 1) := dk_28 (dk_at dksX1_fond_0 9 rfl rfl)
theorem dX1_fond_10 : decode cX1_fond 10 = .ok (.invokevirtual 136, 3) := dk_182 0 136 (dk_at dksX1_fond_0 10 rfl rfl)
theorem dX1_fond_13 : decode cX1_fond 13 = .ok (.ifCond .ne 6, 3) := dk_154 0 6 (dk_at dksX1_fond_0 13 rfl rfl)
theorem dX1_fond_16 : decode cX1_fond 16 = .ok (.bipush (-101), 2) := dk_16 155 (dk_at dksX1_fond_0 16 rfl rfl)
theorem dX1_fond_18 : decode cX1_fond 18 = .ok (.ireturn, 1) := dk_172 (dk_at dksX1_fond_0 18 rfl rfl)
theorem dX1_fond_19 : decode cX1_fond 19 = .ok (.iload_n 3, 1) := dk_29 (dk_at dksX1_fond_0 19 rfl rfl)
theorem dX1_fond_20 : decode cX1_fond 20 = .ok (.iconst 0, 1) := dk_3 (dk_at dksX1_fond_0 20 rfl rfl)
theorem dX1_fond_21 : decode cX1_fond 21 = .ok (.bipush 9, 2) := dk_16 9 (dk_at dksX1_fond_0 21 rfl rfl)
theorem dX1_fond_23 : decode cX1_fond 23 = .ok (.invokestatic 77, 3) := dk_184 0 77 (dk_at dksX1_fond_1 0 rfl rfl)
theorem dX1_fond_26 : decode cX1_fond 26 = .ok (.ifCond .ne 6, 3) := dk_154 0 6 (dk_at dksX1_fond_1 3 rfl rfl)
theorem dX1_fond_29 : decode cX1_fond 29 = .ok (.bipush (-102), 2) := dk_16 154 (dk_at dksX1_fond_1 6 rfl rfl)
theorem dX1_fond_31 : decode cX1_fond 31 = .ok (.ireturn, 1) := dk_172 (dk_at dksX1_fond_1 8 rfl rfl)
theorem dX1_fond_32 : decode cX1_fond 32 = .ok (.aload_n 0, 1) := dk_42 (dk_at dksX1_fond_1 9 rfl rfl)
theorem dX1_fond_33 : decode cX1_fond 33 = .ok (.getfield 31, 3) := dk_180 0 31 (dk_at dksX1_fond_1 10 rfl rfl)
theorem dX1_fond_36 : decode cX1_fond 36 = .ok (.iconst 3, 1) := dk_6 (dk_at dksX1_fond_1 13 rfl rfl)
theorem dX1_fond_37 : decode cX1_fond 37 = .ok (.iload_n 1, 1) := dk_27 (dk_at dksX1_fond_1 14 rfl rfl)
theorem dX1_fond_38 : decode cX1_fond 38 = .ok (.imul, 1) := dk_104 (dk_at dksX1_fond_1 15 rfl rfl)
theorem dX1_fond_39 : decode cX1_fond 39 = .ok (.iload_n 2, 1) := dk_28 (dk_at dksX1_fond_1 16 rfl rfl)
theorem dX1_fond_40 : decode cX1_fond 40 = .ok (.iadd, 1) := dk_96 (dk_at dksX1_fond_1 17 rfl rfl)
theorem dX1_fond_41 : decode cX1_fond 41 = .ok (.iaload, 1) := dk_46 (dk_at dksX1_fond_1 18 rfl rfl)
theorem dX1_fond_42 : decode cX1_fond 42 = .ok (.istore 4, 2) := dk_54 4 (dk_at dksX1_fond_1 19 rfl rfl)
theorem dX1_fond_44 : decode cX1_fond 44 = .ok (.aload_n 0, 1) := dk_42 (dk_at dksX1_fond_1 21 rfl rfl)
theorem dX1_fond_45 : decode cX1_fond 45 = .ok (.getfield 31, 3) := dk_180 0 31 (dk_at dksX1_fond_2 0 rfl rfl)
theorem dX1_fond_48 : decode cX1_fond 48 = .ok (.iconst 3, 1) := dk_6 (dk_at dksX1_fond_2 3 rfl rfl)
theorem dX1_fond_49 : decode cX1_fond 49 = .ok (.iload_n 1, 1) := dk_27 (dk_at dksX1_fond_2 4 rfl rfl)
theorem dX1_fond_50 : decode cX1_fond 50 = .ok (.imul, 1) := dk_104 (dk_at dksX1_fond_2 5 rfl rfl)
theorem dX1_fond_51 : decode cX1_fond 51 = .ok (.iload_n 2, 1) := dk_28 (dk_at dksX1_fond_2 6 rfl rfl)
theorem dX1_fond_52 : decode cX1_fond 52 = .ok (.iadd, 1) := dk_96 (dk_at dksX1_fond_2 7 rfl rfl)
theorem dX1_fond_53 : decode cX1_fond 53 = .ok (.iload_n 3, 1) := dk_29 (dk_at dksX1_fond_2 8 rfl rfl)
theorem dX1_fond_54 : decode cX1_fond 54 = .ok (.iastore, 1) := dk_79 (dk_at dksX1_fond_2 9 rfl rfl)
theorem dX1_fond_55 : decode cX1_fond 55 = .ok (.iload 4, 2) := dk_21 4 (dk_at dksX1_fond_2 10 rfl rfl)
theorem dX1_fond_57 : decode cX1_fond 57 = .ok (.ireturn, 1) := dk_172 (dk_at dksX1_fond_2 12 rfl rfl)
abbrev cX1_tenths : ByteArray := prog_9_method_32_code
def yX1_tenths : MethodName := ⟨RX1, "tenths", "(II)I"⟩
def dkwX1_tenths_1 : List UInt8 := [167, 0, 5, 16, 155, 172]
abbrev dktX1_tenths_1 : List UInt8 := dkwX1_tenths_1 ++ []
def dkwX1_tenths_0 : List UInt8 := [42, 27, 182, 0, 149, 153, 0, 20, 42, 28, 182, 0, 128, 153, 0, 12, 42, 27, 28, 182, 0, 155]
abbrev dktX1_tenths_0 : List UInt8 := dkwX1_tenths_0 ++ dktX1_tenths_1
theorem dksX1_tenths_0 : cX1_tenths.data.toList.drop 0 = dktX1_tenths_0 := by decide +kernel
theorem dksX1_tenths_1 : cX1_tenths.data.toList.drop 22 = dktX1_tenths_1 := dk_seg dksX1_tenths_0 22 rfl rfl
theorem dX1_tenths_0 : decode cX1_tenths 0 = .ok (.aload_n 0, 1) := dk_42 (dk_at dksX1_tenths_0 0 rfl rfl)
theorem dX1_tenths_1 : decode cX1_tenths 1 = .ok (.iload_n 1, 1) := dk_27 (dk_at dksX1_tenths_0 1 rfl rfl)
theorem dX1_tenths_2 : decode cX1_tenths 2 = .ok (.invokevirtual 149, 3) := dk_182 0 149 (dk_at dksX1_tenths_0 2 rfl rfl)
theorem dX1_tenths_5 : decode cX1_tenths 5 = .ok (.ifCond .eq 20, 3) := dk_153 0 20 (dk_at dksX1_tenths_0 5 rfl rfl)
theorem dX1_tenths_8 : decode cX1_tenths 8 = .ok (.aload_n 0, 1) := dk_42 (dk_at dksX1_tenths_0 8 rfl rfl)
theorem dX1_tenths_9 : decode cX1_tenths 9 = .ok (.iload_n 2, 1) := dk_28 (dk_at dksX1_tenths_0 9 rfl rfl)
theorem dX1_tenths_10 : decode cX1_tenths 10 = .ok (.invokevirtual 128, 3) := dk_182 0 128 (dk_at dksX1_tenths_0 10 rfl rfl)
theorem dX1_tenths_13 : decode cX1_tenths 13 = .ok (.ifCond .eq 12, 3) := dk_153 0 12 (dk_at dksX1_tenths_0 13 rfl rfl)
theorem dX1_tenths_16 : decode cX1_tenths 16 = .ok (.aload_n 0, 1) := dk_42 (dk_at dksX1_tenths_0 16 rfl rfl)
theorem dX1_tenths_17 : decode cX1_tenths 17 = .ok (.iload_n 1, 1) := dk_27 (dk_at dksX1_tenths_0 17 rfl rfl)
theorem dX1_tenths_18 : decode cX1_tenths 18 = .ok (.iload_n 2, 1) := dk_28 (dk_at dksX1_tenths_0 18 rfl rfl)
theorem dX1_tenths_19 : decode cX1_tenths 19 = .ok (.invokevirtual 155, 3) := dk_182 0 155 (dk_at dksX1_tenths_0 19 rfl rfl)
theorem dX1_tenths_22 : decode cX1_tenths 22 = .ok (.goto 5, 3) := dk_167 0 5 (dk_at dksX1_tenths_1 0 rfl rfl)
theorem dX1_tenths_25 : decode cX1_tenths 25 = .ok (.bipush (-101), 2) := dk_16 155 (dk_at dksX1_tenths_1 3 rfl rfl)
theorem dX1_tenths_27 : decode cX1_tenths 27 = .ok (.ireturn, 1) := dk_172 (dk_at dksX1_tenths_1 5 rfl rfl)
abbrev cX1_tenthsNow : ByteArray := prog_9_method_26_code
def yX1_tenthsNow : MethodName := ⟨RX1, "tenthsNow", "(II)I"⟩
def dkwX1_tenthsNow_0 : List UInt8 := [42, 27, 28, 42, 180, 0, 31, 6, 27, 104, 42, 180, 0, 25, 27, 46, 96, 46, 182, 0, 142, 172]
abbrev dktX1_tenthsNow_0 : List UInt8 := dkwX1_tenthsNow_0 ++ []
theorem dksX1_tenthsNow_0 : cX1_tenthsNow.data.toList.drop 0 = dktX1_tenthsNow_0 := by decide +kernel
theorem dX1_tenthsNow_0 : decode cX1_tenthsNow 0 = .ok (.aload_n 0, 1) := dk_42 (dk_at dksX1_tenthsNow_0 0 rfl rfl)
theorem dX1_tenthsNow_1 : decode cX1_tenthsNow 1 = .ok (.iload_n 1, 1) := dk_27 (dk_at dksX1_tenthsNow_0 1 rfl rfl)
theorem dX1_tenthsNow_2 : decode cX1_tenthsNow 2 = .ok (.iload_n 2, 1) := dk_28 (dk_at dksX1_tenthsNow_0 2 rfl rfl)
theorem dX1_tenthsNow_3 : decode cX1_tenthsNow 3 = .ok (.aload_n 0, 1) := dk_42 (dk_at dksX1_tenthsNow_0 3 rfl rfl)
theorem dX1_tenthsNow_4 : decode cX1_tenthsNow 4 = .ok (.getfield 31, 3) := dk_180 0 31 (dk_at dksX1_tenthsNow_0 4 rfl rfl)
theorem dX1_tenthsNow_7 : decode cX1_tenthsNow 7 = .ok (.iconst 3, 1) := dk_6 (dk_at dksX1_tenthsNow_0 7 rfl rfl)
theorem dX1_tenthsNow_8 : decode cX1_tenthsNow 8 = .ok (.iload_n 1, 1) := dk_27 (dk_at dksX1_tenthsNow_0 8 rfl rfl)
theorem dX1_tenthsNow_9 : decode cX1_tenthsNow 9 = .ok (.imul, 1) := dk_104 (dk_at dksX1_tenthsNow_0 9 rfl rfl)
theorem dX1_tenthsNow_10 : decode cX1_tenthsNow 10 = .ok (.aload_n 0, 1) := dk_42 (dk_at dksX1_tenthsNow_0 10 rfl rfl)
theorem dX1_tenthsNow_11 : decode cX1_tenthsNow 11 = .ok (.getfield 25, 3) := dk_180 0 25 (dk_at dksX1_tenthsNow_0 11 rfl rfl)
theorem dX1_tenthsNow_14 : decode cX1_tenthsNow 14 = .ok (.iload_n 1, 1) := dk_27 (dk_at dksX1_tenthsNow_0 14 rfl rfl)
theorem dX1_tenthsNow_15 : decode cX1_tenthsNow 15 = .ok (.iaload, 1) := dk_46 (dk_at dksX1_tenthsNow_0 15 rfl rfl)
theorem dX1_tenthsNow_16 : decode cX1_tenthsNow 16 = .ok (.iadd, 1) := dk_96 (dk_at dksX1_tenthsNow_0 16 rfl rfl)
theorem dX1_tenthsNow_17 : decode cX1_tenthsNow 17 = .ok (.iaload, 1) := dk_46 (dk_at dksX1_tenthsNow_0 17 rfl rfl)
theorem dX1_tenthsNow_18 : decode cX1_tenthsNow 18 = .ok (.invokevirtual 142, 3) := dk_182 0 142 (dk_at dksX1_tenthsNow_0 18 rfl rfl)
theorem dX1_tenthsNow_21 : decode cX1_tenthsNow 21 = .ok (.ireturn, 1) := dk_172 (dk_at dksX1_tenthsNow_0 21 rfl rfl)
abbrev cX1_tenthsBy : ByteArray := prog_9_method_25_code
def yX1_tenthsBy : MethodName := ⟨RX1, "tenthsBy", "(III)I"⟩
def dkwX1_tenthsBy_2 : List UInt8 := [21, 4, 172]
abbrev dktX1_tenthsBy_2 : List UInt8 := dkwX1_tenthsBy_2 ++ []
def dkwX1_tenthsBy_1 : List UInt8 := [54, 4, 21, 4, 156, 0, 7, 3, 167, 0, 17, 21, 4, 16, 10, 164, 0, 8, 16, 10, 167, 0, 5]
abbrev dktX1_tenthsBy_1 : List UInt8 := dkwX1_tenthsBy_1 ++ dktX1_tenthsBy_2
def dkwX1_tenthsBy_0 : List UInt8 := [42, 180, 0, 22, 27, 46, 42, 180, 0, 19, 27, 46, 29, 184, 0, 139, 96, 42, 180, 0, 7, 28, 46, 100]
abbrev dktX1_tenthsBy_0 : List UInt8 := dkwX1_tenthsBy_0 ++ dktX1_tenthsBy_1
theorem dksX1_tenthsBy_0 : cX1_tenthsBy.data.toList.drop 0 = dktX1_tenthsBy_0 := by decide +kernel
theorem dksX1_tenthsBy_1 : cX1_tenthsBy.data.toList.drop 24 = dktX1_tenthsBy_1 := dk_seg dksX1_tenthsBy_0 24 rfl rfl
theorem dksX1_tenthsBy_2 : cX1_tenthsBy.data.toList.drop 47 = dktX1_tenthsBy_2 := dk_seg dksX1_tenthsBy_1 23 rfl rfl
theorem dX1_tenthsBy_0 : decode cX1_tenthsBy 0 = .ok (.aload_n 0, 1) := dk_42 (dk_at dksX1_tenthsBy_0 0 rfl rfl)
theorem dX1_tenthsBy_1 : decode cX1_tenthsBy 1 = .ok (.getfield 22, 3) := dk_180 0 22 (dk_at dksX1_tenthsBy_0 1 rfl rfl)
theorem dX1_tenthsBy_4 : decode cX1_tenthsBy 4 = .ok (.iload_n 1, 1) := dk_27 (dk_at dksX1_tenthsBy_0 4 rfl rfl)
theorem dX1_tenthsBy_5 : decode cX1_tenthsBy 5 = .ok (.iaload, 1) := dk_46 (dk_at dksX1_tenthsBy_0 5 rfl rfl)
theorem dX1_tenthsBy_6 : decode cX1_tenthsBy 6 = .ok (.aload_n 0, 1) := dk_42 (dk_at dksX1_tenthsBy_0 6 rfl rfl)
theorem dX1_tenthsBy_7 : decode cX1_tenthsBy 7 = .ok (.getfield 19, 3) := dk_180 0 19 (dk_at dksX1_tenthsBy_0 7 rfl rfl)
theorem dX1_tenthsBy_10 : decode cX1_tenthsBy 10 = .ok (.iload_n 1, 1) := dk_27 (dk_at dksX1_tenthsBy_0 10 rfl rfl)
theorem dX1_tenthsBy_11 : decode cX1_tenthsBy 11 = .ok (.iaload, 1) := dk_46 (dk_at dksX1_tenthsBy_0 11 rfl rfl)
theorem dX1_tenthsBy_12 : decode cX1_tenthsBy 12 = .ok (.iload_n 3, 1) := dk_29 (dk_at dksX1_tenthsBy_0 12 rfl rfl)
theorem dX1_tenthsBy_13 : decode cX1_tenthsBy 13 = .ok (.invokestatic 139, 3) := dk_184 0 139 (dk_at dksX1_tenthsBy_0 13 rfl rfl)
theorem dX1_tenthsBy_16 : decode cX1_tenthsBy 16 = .ok (.iadd, 1) := dk_96 (dk_at dksX1_tenthsBy_0 16 rfl rfl)
theorem dX1_tenthsBy_17 : decode cX1_tenthsBy 17 = .ok (.aload_n 0, 1) := dk_42 (dk_at dksX1_tenthsBy_0 17 rfl rfl)
theorem dX1_tenthsBy_18 : decode cX1_tenthsBy 18 = .ok (.getfield 7, 3) := dk_180 0 7 (dk_at dksX1_tenthsBy_0 18 rfl rfl)
theorem dX1_tenthsBy_21 : decode cX1_tenthsBy 21 = .ok (.iload_n 2, 1) := dk_28 (dk_at dksX1_tenthsBy_0 21 rfl rfl)
theorem dX1_tenthsBy_22 : decode cX1_tenthsBy 22 = .ok (.iaload, 1) := dk_46 (dk_at dksX1_tenthsBy_0 22 rfl rfl)
theorem dX1_tenthsBy_23 : decode cX1_tenthsBy 23 = .ok (.isub, 1) := dk_100 (dk_at dksX1_tenthsBy_0 23 rfl rfl)
theorem dX1_tenthsBy_24 : decode cX1_tenthsBy 24 = .ok (.istore 4, 2) := dk_54 4 (dk_at dksX1_tenthsBy_1 0 rfl rfl)
theorem dX1_tenthsBy_26 : decode cX1_tenthsBy 26 = .ok (.iload 4, 2) := dk_21 4 (dk_at dksX1_tenthsBy_1 2 rfl rfl)
theorem dX1_tenthsBy_28 : decode cX1_tenthsBy 28 = .ok (.ifCond .ge 7, 3) := dk_156 0 7 (dk_at dksX1_tenthsBy_1 4 rfl rfl)
theorem dX1_tenthsBy_31 : decode cX1_tenthsBy 31 = .ok (.iconst 0, 1) := dk_3 (dk_at dksX1_tenthsBy_1 7 rfl rfl)
theorem dX1_tenthsBy_32 : decode cX1_tenthsBy 32 = .ok (.goto 17, 3) := dk_167 0 17 (dk_at dksX1_tenthsBy_1 8 rfl rfl)
theorem dX1_tenthsBy_35 : decode cX1_tenthsBy 35 = .ok (.iload 4, 2) := dk_21 4 (dk_at dksX1_tenthsBy_1 11 rfl rfl)
theorem dX1_tenthsBy_37 : decode cX1_tenthsBy 37 = .ok (.bipush 10, 2) := dk_16 10 (dk_at dksX1_tenthsBy_1 13 rfl rfl)
theorem dX1_tenthsBy_39 : decode cX1_tenthsBy 39 = .ok (.if_icmp .le 8, 3) := dk_164 0 8 (dk_at dksX1_tenthsBy_1 15 rfl rfl)
theorem dX1_tenthsBy_42 : decode cX1_tenthsBy 42 = .ok (.bipush 10, 2) := dk_16 10 (dk_at dksX1_tenthsBy_1 18 rfl rfl)
theorem dX1_tenthsBy_44 : decode cX1_tenthsBy 44 = .ok (.goto 5, 3) := dk_167 0 5 (dk_at dksX1_tenthsBy_1 20 rfl rfl)
theorem dX1_tenthsBy_47 : decode cX1_tenthsBy 47 = .ok (.iload 4, 2) := dk_21 4 (dk_at dksX1_tenthsBy_2 0 rfl rfl)
theorem dX1_tenthsBy_49 : decode cX1_tenthsBy 49 = .ok (.ireturn, 1) := dk_172 (dk_at dksX1_tenthsBy_2 2 rfl rfl)
abbrev cX1_teach : ByteArray := prog_9_method_34_code
def yX1_teach : MethodName := ⟨RX1, "teach", "(IIZ)I"⟩
def dkwX1_teach_3 : List UInt8 := [167, 0, 9, 42, 27, 28, 182, 0, 158, 42, 180, 0, 16, 42, 180, 0, 25, 27, 46, 46, 172]
abbrev dktX1_teach_3 : List UInt8 := dkwX1_teach_3 ++ []
def dkwX1_teach_2 : List UInt8 := [160, 0, 6, 16, 153, 172, 29, 153, 0, 18, 42, 180, 0, 28, 27, 92, 46, 4, 28, 120, 128, 79]
abbrev dktX1_teach_2 : List UInt8 := dkwX1_teach_2 ++ dktX1_teach_3
def dkwX1_teach_1 : List UInt8 := [46, 28, 184, 0, 122, 154, 0, 22, 42, 27, 28, 182, 0, 155, 29, 153, 0, 7, 3, 167, 0, 5, 16, 10]
abbrev dktX1_teach_1 : List UInt8 := dkwX1_teach_1 ++ dktX1_teach_2
def dkwX1_teach_0 : List UInt8 := [42, 27, 182, 0, 149, 153, 0, 11, 42, 28, 182, 0, 128, 154, 0, 6, 16, 155, 172, 42, 180, 0, 28, 27]
abbrev dktX1_teach_0 : List UInt8 := dkwX1_teach_0 ++ dktX1_teach_1
theorem dksX1_teach_0 : cX1_teach.data.toList.drop 0 = dktX1_teach_0 := by decide +kernel
theorem dksX1_teach_1 : cX1_teach.data.toList.drop 24 = dktX1_teach_1 := dk_seg dksX1_teach_0 24 rfl rfl
theorem dksX1_teach_2 : cX1_teach.data.toList.drop 48 = dktX1_teach_2 := dk_seg dksX1_teach_1 24 rfl rfl
theorem dksX1_teach_3 : cX1_teach.data.toList.drop 70 = dktX1_teach_3 := dk_seg dksX1_teach_2 22 rfl rfl
theorem dX1_teach_0 : decode cX1_teach 0 = .ok (.aload_n 0, 1) := dk_42 (dk_at dksX1_teach_0 0 rfl rfl)
theorem dX1_teach_1 : decode cX1_teach 1 = .ok (.iload_n 1, 1) := dk_27 (dk_at dksX1_teach_0 1 rfl rfl)
theorem dX1_teach_2 : decode cX1_teach 2 = .ok (.invokevirtual 149, 3) := dk_182 0 149 (dk_at dksX1_teach_0 2 rfl rfl)
theorem dX1_teach_5 : decode cX1_teach 5 = .ok (.ifCond .eq 11, 3) := dk_153 0 11 (dk_at dksX1_teach_0 5 rfl rfl)
theorem dX1_teach_8 : decode cX1_teach 8 = .ok (.aload_n 0, 1) := dk_42 (dk_at dksX1_teach_0 8 rfl rfl)
theorem dX1_teach_9 : decode cX1_teach 9 = .ok (.iload_n 2, 1) := dk_28 (dk_at dksX1_teach_0 9 rfl rfl)
theorem dX1_teach_10 : decode cX1_teach 10 = .ok (.invokevirtual 128, 3) := dk_182 0 128 (dk_at dksX1_teach_0 10 rfl rfl)
theorem dX1_teach_13 : decode cX1_teach 13 = .ok (.ifCond .ne 6, 3) := dk_154 0 6 (dk_at dksX1_teach_0 13 rfl rfl)
theorem dX1_teach_16 : decode cX1_teach 16 = .ok (.bipush (-101), 2) := dk_16 155 (dk_at dksX1_teach_0 16 rfl rfl)
theorem dX1_teach_18 : decode cX1_teach 18 = .ok (.ireturn, 1) := dk_172 (dk_at dksX1_teach_0 18 rfl rfl)
theorem dX1_teach_19 : decode cX1_teach 19 = .ok (.aload_n 0, 1) := dk_42 (dk_at dksX1_teach_0 19 rfl rfl)
theorem dX1_teach_20 : decode cX1_teach 20 = .ok (.getfield 28, 3) := dk_180 0 28 (dk_at dksX1_teach_0 20 rfl rfl)
theorem dX1_teach_23 : decode cX1_teach 23 = .ok (.iload_n 1, 1) := dk_27 (dk_at dksX1_teach_0 23 rfl rfl)
theorem dX1_teach_24 : decode cX1_teach 24 = .ok (.iaload, 1) := dk_46 (dk_at dksX1_teach_1 0 rfl rfl)
theorem dX1_teach_25 : decode cX1_teach 25 = .ok (.iload_n 2, 1) := dk_28 (dk_at dksX1_teach_1 1 rfl rfl)
theorem dX1_teach_26 : decode cX1_teach 26 = .ok (.invokestatic 122, 3) := dk_184 0 122 (dk_at dksX1_teach_1 2 rfl rfl)
theorem dX1_teach_29 : decode cX1_teach 29 = .ok (.ifCond .ne 22, 3) := dk_154 0 22 (dk_at dksX1_teach_1 5 rfl rfl)
theorem dX1_teach_32 : decode cX1_teach 32 = .ok (.aload_n 0, 1) := dk_42 (dk_at dksX1_teach_1 8 rfl rfl)
theorem dX1_teach_33 : decode cX1_teach 33 = .ok (.iload_n 1, 1) := dk_27 (dk_at dksX1_teach_1 9 rfl rfl)
theorem dX1_teach_34 : decode cX1_teach 34 = .ok (.iload_n 2, 1) := dk_28 (dk_at dksX1_teach_1 10 rfl rfl)
theorem dX1_teach_35 : decode cX1_teach 35 = .ok (.invokevirtual 155, 3) := dk_182 0 155 (dk_at dksX1_teach_1 11 rfl rfl)
theorem dX1_teach_38 : decode cX1_teach 38 = .ok (.iload_n 3, 1) := dk_29 (dk_at dksX1_teach_1 14 rfl rfl)
theorem dX1_teach_39 : decode cX1_teach 39 = .ok (.ifCond .eq 7, 3) := dk_153 0 7 (dk_at dksX1_teach_1 15 rfl rfl)
theorem dX1_teach_42 : decode cX1_teach 42 = .ok (.iconst 0, 1) := dk_3 (dk_at dksX1_teach_1 18 rfl rfl)
theorem dX1_teach_43 : decode cX1_teach 43 = .ok (.goto 5, 3) := dk_167 0 5 (dk_at dksX1_teach_1 19 rfl rfl)
theorem dX1_teach_46 : decode cX1_teach 46 = .ok (.bipush 10, 2) := dk_16 10 (dk_at dksX1_teach_1 22 rfl rfl)
theorem dX1_teach_48 : decode cX1_teach 48 = .ok (.if_icmp .ne 6, 3) := dk_160 0 6 (dk_at dksX1_teach_2 0 rfl rfl)
theorem dX1_teach_51 : decode cX1_teach 51 = .ok (.bipush (-103), 2) := dk_16 153 (dk_at dksX1_teach_2 3 rfl rfl)
theorem dX1_teach_53 : decode cX1_teach 53 = .ok (.ireturn, 1) := dk_172 (dk_at dksX1_teach_2 5 rfl rfl)
theorem dX1_teach_54 : decode cX1_teach 54 = .ok (.iload_n 3, 1) := dk_29 (dk_at dksX1_teach_2 6 rfl rfl)
theorem dX1_teach_55 : decode cX1_teach 55 = .ok (.ifCond .eq 18, 3) := dk_153 0 18 (dk_at dksX1_teach_2 7 rfl rfl)
theorem dX1_teach_58 : decode cX1_teach 58 = .ok (.aload_n 0, 1) := dk_42 (dk_at dksX1_teach_2 10 rfl rfl)
theorem dX1_teach_59 : decode cX1_teach 59 = .ok (.getfield 28, 3) := dk_180 0 28 (dk_at dksX1_teach_2 11 rfl rfl)
theorem dX1_teach_62 : decode cX1_teach 62 = .ok (.iload_n 1, 1) := dk_27 (dk_at dksX1_teach_2 14 rfl rfl)
theorem dX1_teach_63 : decode cX1_teach 63 = .ok (.dup2, 1) := dk_92 (dk_at dksX1_teach_2 15 rfl rfl)
theorem dX1_teach_64 : decode cX1_teach 64 = .ok (.iaload, 1) := dk_46 (dk_at dksX1_teach_2 16 rfl rfl)
theorem dX1_teach_65 : decode cX1_teach 65 = .ok (.iconst 1, 1) := dk_4 (dk_at dksX1_teach_2 17 rfl rfl)
theorem dX1_teach_66 : decode cX1_teach 66 = .ok (.iload_n 2, 1) := dk_28 (dk_at dksX1_teach_2 18 rfl rfl)
theorem dX1_teach_67 : decode cX1_teach 67 = .ok (.ishl, 1) := dk_120 (dk_at dksX1_teach_2 19 rfl rfl)
theorem dX1_teach_68 : decode cX1_teach 68 = .ok (.ior, 1) := dk_128 (dk_at dksX1_teach_2 20 rfl rfl)
theorem dX1_teach_69 : decode cX1_teach 69 = .ok (.iastore, 1) := dk_79 (dk_at dksX1_teach_2 21 rfl rfl)
theorem dX1_teach_70 : decode cX1_teach 70 = .ok (.goto 9, 3) := dk_167 0 9 (dk_at dksX1_teach_3 0 rfl rfl)
theorem dX1_teach_73 : decode cX1_teach 73 = .ok (.aload_n 0, 1) := dk_42 (dk_at dksX1_teach_3 3 rfl rfl)
theorem dX1_teach_74 : decode cX1_teach 74 = .ok (.iload_n 1, 1) := dk_27 (dk_at dksX1_teach_3 4 rfl rfl)
theorem dX1_teach_75 : decode cX1_teach 75 = .ok (.iload_n 2, 1) := dk_28 (dk_at dksX1_teach_3 5 rfl rfl)
theorem dX1_teach_76 : decode cX1_teach 76 = .ok (.invokevirtual 158, 3) := dk_182 0 158 (dk_at dksX1_teach_3 6 rfl rfl)
theorem dX1_teach_79 : decode cX1_teach 79 = .ok (.aload_n 0, 1) := dk_42 (dk_at dksX1_teach_3 9 rfl rfl)
theorem dX1_teach_80 : decode cX1_teach 80 = .ok (.getfield 16, 3) := dk_180 0 16 (dk_at dksX1_teach_3 10 rfl rfl)
theorem dX1_teach_83 : decode cX1_teach 83 = .ok (.aload_n 0, 1) := dk_42 (dk_at dksX1_teach_3 13 rfl rfl)
theorem dX1_teach_84 : decode cX1_teach 84 = .ok (.getfield 25, 3) := dk_180 0 25 (dk_at dksX1_teach_3 14 rfl rfl)
theorem dX1_teach_87 : decode cX1_teach 87 = .ok (.iload_n 1, 1) := dk_27 (dk_at dksX1_teach_3 17 rfl rfl)
theorem dX1_teach_88 : decode cX1_teach 88 = .ok (.iaload, 1) := dk_46 (dk_at dksX1_teach_3 18 rfl rfl)
theorem dX1_teach_89 : decode cX1_teach 89 = .ok (.iaload, 1) := dk_46 (dk_at dksX1_teach_3 19 rfl rfl)
theorem dX1_teach_90 : decode cX1_teach 90 = .ok (.ireturn, 1) := dk_172 (dk_at dksX1_teach_3 20 rfl rfl)
abbrev cX1_fails : ByteArray := prog_9_method_33_code
def yX1_fails : MethodName := ⟨RX1, "fails", "(II)V"⟩
def dkwX1_fails_3 : List UInt8 := [167, 0, 17, 21, 4, 16, 9, 164, 0, 8, 16, 9, 167, 0, 5, 21, 4, 79, 177]
abbrev dktX1_fails_3 : List UInt8 := dkwX1_fails_3 ++ []
def dkwX1_fails_2 : List UInt8 := [167, 0, 5, 16, 254, 96, 54, 4, 42, 180, 0, 31, 6, 27, 104, 29, 96, 21, 4, 156, 0, 7, 3]
abbrev dktX1_fails_2 : List UInt8 := dkwX1_fails_2 ++ dktX1_fails_3
def dkwX1_fails_1 : List UInt8 := [180, 0, 31, 6, 27, 104, 29, 96, 46, 42, 180, 0, 16, 29, 46, 42, 180, 0, 110, 163, 0, 7, 4]
abbrev dktX1_fails_1 : List UInt8 := dkwX1_fails_1 ++ dktX1_fails_2
def dkwX1_fails_0 : List UInt8 := [42, 180, 0, 25, 27, 46, 62, 42, 180, 0, 16, 29, 92, 46, 42, 180, 0, 13, 28, 46, 96, 79, 42]
abbrev dktX1_fails_0 : List UInt8 := dkwX1_fails_0 ++ dktX1_fails_1
theorem dksX1_fails_0 : cX1_fails.data.toList.drop 0 = dktX1_fails_0 := by decide +kernel
theorem dksX1_fails_1 : cX1_fails.data.toList.drop 23 = dktX1_fails_1 := dk_seg dksX1_fails_0 23 rfl rfl
theorem dksX1_fails_2 : cX1_fails.data.toList.drop 46 = dktX1_fails_2 := dk_seg dksX1_fails_1 23 rfl rfl
theorem dksX1_fails_3 : cX1_fails.data.toList.drop 69 = dktX1_fails_3 := dk_seg dksX1_fails_2 23 rfl rfl
theorem dX1_fails_0 : decode cX1_fails 0 = .ok (.aload_n 0, 1) := dk_42 (dk_at dksX1_fails_0 0 rfl rfl)
theorem dX1_fails_1 : decode cX1_fails 1 = .ok (.getfield 25, 3) := dk_180 0 25 (dk_at dksX1_fails_0 1 rfl rfl)
theorem dX1_fails_4 : decode cX1_fails 4 = .ok (.iload_n 1, 1) := dk_27 (dk_at dksX1_fails_0 4 rfl rfl)
theorem dX1_fails_5 : decode cX1_fails 5 = .ok (.iaload, 1) := dk_46 (dk_at dksX1_fails_0 5 rfl rfl)
theorem dX1_fails_6 : decode cX1_fails 6 = .ok (.istore_n 3, 1) := dk_62 (dk_at dksX1_fails_0 6 rfl rfl)
theorem dX1_fails_7 : decode cX1_fails 7 = .ok (.aload_n 0, 1) := dk_42 (dk_at dksX1_fails_0 7 rfl rfl)
theorem dX1_fails_8 : decode cX1_fails 8 = .ok (.getfield 16, 3) := dk_180 0 16 (dk_at dksX1_fails_0 8 rfl rfl)
theorem dX1_fails_11 : decode cX1_fails 11 = .ok (.iload_n 3, 1) := dk_29 (dk_at dksX1_fails_0 11 rfl rfl)
theorem dX1_fails_12 : decode cX1_fails 12 = .ok (.dup2, 1) := dk_92 (dk_at dksX1_fails_0 12 rfl rfl)
theorem dX1_fails_13 : decode cX1_fails 13 = .ok (.iaload, 1) := dk_46 (dk_at dksX1_fails_0 13 rfl rfl)
theorem dX1_fails_14 : decode cX1_fails 14 = .ok (.aload_n 0, 1) := dk_42 (dk_at dksX1_fails_0 14 rfl rfl)
theorem dX1_fails_15 : decode cX1_fails 15 = .ok (.getfield 13, 3) := dk_180 0 13 (dk_at dksX1_fails_0 15 rfl rfl)
theorem dX1_fails_18 : decode cX1_fails 18 = .ok (.iload_n 2, 1) := dk_28 (dk_at dksX1_fails_0 18 rfl rfl)
theorem dX1_fails_19 : decode cX1_fails 19 = .ok (.iaload, 1) := dk_46 (dk_at dksX1_fails_0 19 rfl rfl)
theorem dX1_fails_20 : decode cX1_fails 20 = .ok (.iadd, 1) := dk_96 (dk_at dksX1_fails_0 20 rfl rfl)
theorem dX1_fails_21 : decode cX1_fails 21 = .ok (.iastore, 1) := dk_79 (dk_at dksX1_fails_0 21 rfl rfl)
theorem dX1_fails_22 : decode cX1_fails 22 = .ok (.aload_n 0, 1) := dk_42 (dk_at dksX1_fails_0 22 rfl rfl)
theorem dX1_fails_23 : decode cX1_fails 23 = .ok (.getfield 31, 3) := dk_180 0 31 (dk_at dksX1_fails_1 0 rfl rfl)
theorem dX1_fails_26 : decode cX1_fails 26 = .ok (.iconst 3, 1) := dk_6 (dk_at dksX1_fails_1 3 rfl rfl)
theorem dX1_fails_27 : decode cX1_fails 27 = .ok (.iload_n 1, 1) := dk_27 (dk_at dksX1_fails_1 4 rfl rfl)
theorem dX1_fails_28 : decode cX1_fails 28 = .ok (.imul, 1) := dk_104 (dk_at dksX1_fails_1 5 rfl rfl)
theorem dX1_fails_29 : decode cX1_fails 29 = .ok (.iload_n 3, 1) := dk_29 (dk_at dksX1_fails_1 6 rfl rfl)
theorem dX1_fails_30 : decode cX1_fails 30 = .ok (.iadd, 1) := dk_96 (dk_at dksX1_fails_1 7 rfl rfl)
theorem dX1_fails_31 : decode cX1_fails 31 = .ok (.iaload, 1) := dk_46 (dk_at dksX1_fails_1 8 rfl rfl)
theorem dX1_fails_32 : decode cX1_fails 32 = .ok (.aload_n 0, 1) := dk_42 (dk_at dksX1_fails_1 9 rfl rfl)
theorem dX1_fails_33 : decode cX1_fails 33 = .ok (.getfield 16, 3) := dk_180 0 16 (dk_at dksX1_fails_1 10 rfl rfl)
theorem dX1_fails_36 : decode cX1_fails 36 = .ok (.iload_n 3, 1) := dk_29 (dk_at dksX1_fails_1 13 rfl rfl)
theorem dX1_fails_37 : decode cX1_fails 37 = .ok (.iaload, 1) := dk_46 (dk_at dksX1_fails_1 14 rfl rfl)
theorem dX1_fails_38 : decode cX1_fails 38 = .ok (.aload_n 0, 1) := dk_42 (dk_at dksX1_fails_1 15 rfl rfl)
theorem dX1_fails_39 : decode cX1_fails 39 = .ok (.getfield 110, 3) := dk_180 0 110 (dk_at dksX1_fails_1 16 rfl rfl)
theorem dX1_fails_42 : decode cX1_fails 42 = .ok (.if_icmp .gt 7, 3) := dk_163 0 7 (dk_at dksX1_fails_1 19 rfl rfl)
theorem dX1_fails_45 : decode cX1_fails 45 = .ok (.iconst 1, 1) := dk_4 (dk_at dksX1_fails_1 22 rfl rfl)
theorem dX1_fails_46 : decode cX1_fails 46 = .ok (.goto 5, 3) := dk_167 0 5 (dk_at dksX1_fails_2 0 rfl rfl)
theorem dX1_fails_49 : decode cX1_fails 49 = .ok (.bipush (-2), 2) := dk_16 254 (dk_at dksX1_fails_2 3 rfl rfl)
theorem dX1_fails_51 : decode cX1_fails 51 = .ok (.iadd, 1) := dk_96 (dk_at dksX1_fails_2 5 rfl rfl)
theorem dX1_fails_52 : decode cX1_fails 52 = .ok (.istore 4, 2) := dk_54 4 (dk_at dksX1_fails_2 6 rfl rfl)
theorem dX1_fails_54 : decode cX1_fails 54 = .ok (.aload_n 0, 1) := dk_42 (dk_at dksX1_fails_2 8 rfl rfl)
theorem dX1_fails_55 : decode cX1_fails 55 = .ok (.getfield 31, 3) := dk_180 0 31 (dk_at dksX1_fails_2 9 rfl rfl)
theorem dX1_fails_58 : decode cX1_fails 58 = .ok (.iconst 3, 1) := dk_6 (dk_at dksX1_fails_2 12 rfl rfl)
theorem dX1_fails_59 : decode cX1_fails 59 = .ok (.iload_n 1, 1) := dk_27 (dk_at dksX1_fails_2 13 rfl rfl)
theorem dX1_fails_60 : decode cX1_fails 60 = .ok (.imul, 1) := dk_104 (dk_at dksX1_fails_2 14 rfl rfl)
theorem dX1_fails_61 : decode cX1_fails 61 = .ok (.iload_n 3, 1) := dk_29 (dk_at dksX1_fails_2 15 rfl rfl)
theorem dX1_fails_62 : decode cX1_fails 62 = .ok (.iadd, 1) := dk_96 (dk_at dksX1_fails_2 16 rfl rfl)
theorem dX1_fails_63 : decode cX1_fails 63 = .ok (.iload 4, 2) := dk_21 4 (dk_at dksX1_fails_2 17 rfl rfl)
theorem dX1_fails_65 : decode cX1_fails 65 = .ok (.ifCond .ge 7, 3) := dk_156 0 7 (dk_at dksX1_fails_2 19 rfl rfl)
theorem dX1_fails_68 : decode cX1_fails 68 = .ok (.iconst 0, 1) := dk_3 (dk_at dksX1_fails_2 22 rfl rfl)
theorem dX1_fails_69 : decode cX1_fails 69 = .ok (.goto 17, 3) := dk_167 0 17 (dk_at dksX1_fails_3 0 rfl rfl)
theorem dX1_fails_72 : decode cX1_fails 72 = .ok (.iload 4, 2) := dk_21 4 (dk_at dksX1_fails_3 3 rfl rfl)
theorem dX1_fails_74 : decode cX1_fails 74 = .ok (.bipush 9, 2) := dk_16 9 (dk_at dksX1_fails_3 5 rfl rfl)
theorem dX1_fails_76 : decode cX1_fails 76 = .ok (.if_icmp .le 8, 3) := dk_164 0 8 (dk_at dksX1_fails_3 7 rfl rfl)
theorem dX1_fails_79 : decode cX1_fails 79 = .ok (.bipush 9, 2) := dk_16 9 (dk_at dksX1_fails_3 10 rfl rfl)
theorem dX1_fails_81 : decode cX1_fails 81 = .ok (.goto 5, 3) := dk_167 0 5 (dk_at dksX1_fails_3 12 rfl rfl)
theorem dX1_fails_84 : decode cX1_fails 84 = .ok (.iload 4, 2) := dk_21 4 (dk_at dksX1_fails_3 15 rfl rfl)
theorem dX1_fails_86 : decode cX1_fails 86 = .ok (.iastore, 1) := dk_79 (dk_at dksX1_fails_3 17 rfl rfl)
theorem dX1_fails_87 : decode cX1_fails 87 = .ok (.return_, 1) := dk_177 (dk_at dksX1_fails_3 18 rfl rfl)
abbrev cX1_order : ByteArray := prog_9_method_42_code
def yX1_order : MethodName := ⟨RX1, "order", "(II)J"⟩
def dkwX1_order_2 : List UInt8 := [173, 42, 89, 180, 0, 204, 4, 96, 181, 0, 204, 42, 27, 28, 182, 0, 209, 173]
abbrev dktX1_order_2 : List UInt8 := dkwX1_order_2 ++ []
def dkwX1_order_1 : List UInt8 := [16, 14, 184, 0, 77, 154, 0, 7, 20, 0, 202, 173, 42, 180, 0, 204, 16, 20, 160, 0, 7, 20, 0, 207]
abbrev dktX1_order_1 : List UInt8 := dkwX1_order_1 ++ dktX1_order_2
def dkwX1_order_0 : List UInt8 := [42, 27, 182, 0, 149, 154, 0, 7, 20, 0, 200, 173, 28, 3, 4, 184, 0, 77, 154, 0, 18, 28, 16, 10]
abbrev dktX1_order_0 : List UInt8 := dkwX1_order_0 ++ dktX1_order_1
theorem dksX1_order_0 : cX1_order.data.toList.drop 0 = dktX1_order_0 := by decide +kernel
theorem dksX1_order_1 : cX1_order.data.toList.drop 24 = dktX1_order_1 := dk_seg dksX1_order_0 24 rfl rfl
theorem dksX1_order_2 : cX1_order.data.toList.drop 48 = dktX1_order_2 := dk_seg dksX1_order_1 24 rfl rfl
theorem dX1_order_0 : decode cX1_order 0 = .ok (.aload_n 0, 1) := dk_42 (dk_at dksX1_order_0 0 rfl rfl)
theorem dX1_order_1 : decode cX1_order 1 = .ok (.iload_n 1, 1) := dk_27 (dk_at dksX1_order_0 1 rfl rfl)
theorem dX1_order_2 : decode cX1_order 2 = .ok (.invokevirtual 149, 3) := dk_182 0 149 (dk_at dksX1_order_0 2 rfl rfl)
theorem dX1_order_5 : decode cX1_order 5 = .ok (.ifCond .ne 7, 3) := dk_154 0 7 (dk_at dksX1_order_0 5 rfl rfl)
theorem dX1_order_8 : decode cX1_order 8 = .ok (.ldc2_w 200, 3) := dk_20 0 200 (dk_at dksX1_order_0 8 rfl rfl)
theorem dX1_order_11 : decode cX1_order 11 = .ok (.lreturn, 1) := dk_173 (dk_at dksX1_order_0 11 rfl rfl)
theorem dX1_order_12 : decode cX1_order 12 = .ok (.iload_n 2, 1) := dk_28 (dk_at dksX1_order_0 12 rfl rfl)
theorem dX1_order_13 : decode cX1_order 13 = .ok (.iconst 0, 1) := dk_3 (dk_at dksX1_order_0 13 rfl rfl)
theorem dX1_order_14 : decode cX1_order 14 = .ok (.iconst 1, 1) := dk_4 (dk_at dksX1_order_0 14 rfl rfl)
theorem dX1_order_15 : decode cX1_order 15 = .ok (.invokestatic 77, 3) := dk_184 0 77 (dk_at dksX1_order_0 15 rfl rfl)
theorem dX1_order_18 : decode cX1_order 18 = .ok (.ifCond .ne 18, 3) := dk_154 0 18 (dk_at dksX1_order_0 18 rfl rfl)
theorem dX1_order_21 : decode cX1_order 21 = .ok (.iload_n 2, 1) := dk_28 (dk_at dksX1_order_0 21 rfl rfl)
theorem dX1_order_22 : decode cX1_order 22 = .ok (.bipush 10, 2) := dk_16 10 (dk_at dksX1_order_0 22 rfl rfl)
theorem dX1_order_24 : decode cX1_order 24 = .ok (.bipush 14, 2) := dk_16 14 (dk_at dksX1_order_1 0 rfl rfl)
theorem dX1_order_26 : decode cX1_order 26 = .ok (.invokestatic 77, 3) := dk_184 0 77 (dk_at dksX1_order_1 2 rfl rfl)
theorem dX1_order_29 : decode cX1_order 29 = .ok (.ifCond .ne 7, 3) := dk_154 0 7 (dk_at dksX1_order_1 5 rfl rfl)
theorem dX1_order_32 : decode cX1_order 32 = .ok (.ldc2_w 202, 3) := dk_20 0 202 (dk_at dksX1_order_1 8 rfl rfl)
theorem dX1_order_35 : decode cX1_order 35 = .ok (.lreturn, 1) := dk_173 (dk_at dksX1_order_1 11 rfl rfl)
theorem dX1_order_36 : decode cX1_order 36 = .ok (.aload_n 0, 1) := dk_42 (dk_at dksX1_order_1 12 rfl rfl)
theorem dX1_order_37 : decode cX1_order 37 = .ok (.getfield 204, 3) := dk_180 0 204 (dk_at dksX1_order_1 13 rfl rfl)
theorem dX1_order_40 : decode cX1_order 40 = .ok (.bipush 20, 2) := dk_16 20 (dk_at dksX1_order_1 16 rfl rfl)
theorem dX1_order_42 : decode cX1_order 42 = .ok (.if_icmp .ne 7, 3) := dk_160 0 7 (dk_at dksX1_order_1 18 rfl rfl)
theorem dX1_order_45 : decode cX1_order 45 = .ok (.ldc2_w 207, 3) := dk_20 0 207 (dk_at dksX1_order_1 21 rfl rfl)
theorem dX1_order_48 : decode cX1_order 48 = .ok (.lreturn, 1) := dk_173 (dk_at dksX1_order_2 0 rfl rfl)
theorem dX1_order_49 : decode cX1_order 49 = .ok (.aload_n 0, 1) := dk_42 (dk_at dksX1_order_2 1 rfl rfl)
theorem dX1_order_50 : decode cX1_order 50 = .ok (.dup, 1) := dk_89 (dk_at dksX1_order_2 2 rfl rfl)
theorem dX1_order_51 : decode cX1_order 51 = .ok (.getfield 204, 3) := dk_180 0 204 (dk_at dksX1_order_2 3 rfl rfl)
theorem dX1_order_54 : decode cX1_order 54 = .ok (.iconst 1, 1) := dk_4 (dk_at dksX1_order_2 6 rfl rfl)
theorem dX1_order_55 : decode cX1_order 55 = .ok (.iadd, 1) := dk_96 (dk_at dksX1_order_2 7 rfl rfl)
theorem dX1_order_56 : decode cX1_order 56 = .ok (.putfield 204, 3) := dk_181 0 204 (dk_at dksX1_order_2 8 rfl rfl)
theorem dX1_order_59 : decode cX1_order 59 = .ok (.aload_n 0, 1) := dk_42 (dk_at dksX1_order_2 11 rfl rfl)
theorem dX1_order_60 : decode cX1_order 60 = .ok (.iload_n 1, 1) := dk_27 (dk_at dksX1_order_2 12 rfl rfl)
theorem dX1_order_61 : decode cX1_order 61 = .ok (.iload_n 2, 1) := dk_28 (dk_at dksX1_order_2 13 rfl rfl)
theorem dX1_order_62 : decode cX1_order 62 = .ok (.invokevirtual 209, 3) := dk_182 0 209 (dk_at dksX1_order_2 14 rfl rfl)
theorem dX1_order_65 : decode cX1_order 65 = .ok (.lreturn, 1) := dk_173 (dk_at dksX1_order_2 17 rfl rfl)
abbrev cX1_orderNow : ByteArray := prog_9_method_41_code
def yX1_orderNow : MethodName := ⟨RX1, "orderNow", "(II)J"⟩
def dkwX1_orderNow_7 : List UInt8 := [46, 133, 167, 0, 6, 20, 0, 198, 173]
abbrev dktX1_orderNow_7 : List UInt8 := dkwX1_orderNow_7 ++ []
def dkwX1_orderNow_6 : List UInt8 := [28, 184, 0, 194, 173, 28, 16, 10, 100, 42, 180, 0, 162, 162, 0, 16, 42, 180, 0, 50, 28, 16, 10, 100]
abbrev dktX1_orderNow_6 : List UInt8 := dkwX1_orderNow_6 ++ dktX1_orderNow_7
def dkwX1_orderNow_5 : List UInt8 := [55, 7, 132, 9, 1, 167, 255, 184, 42, 21, 6, 29, 182, 0, 187, 28, 5, 162, 0, 12, 22, 7, 22, 4]
abbrev dktX1_orderNow_5 : List UInt8 := dkwX1_orderNow_5 ++ dktX1_orderNow_6
def dkwX1_orderNow_4 : List UInt8 := [153, 0, 8, 21, 9, 167, 0, 5, 21, 6, 54, 6, 21, 12, 153, 0, 8, 22, 10, 167, 0, 5, 22, 7]
abbrev dktX1_orderNow_4 : List UInt8 := dkwX1_orderNow_4 ++ dktX1_orderNow_5
def dkwX1_orderNow_3 : List UInt8 := [21, 6, 2, 159, 0, 11, 22, 10, 22, 7, 148, 156, 0, 7, 4, 167, 0, 4, 3, 54, 12, 21, 12]
abbrev dktX1_orderNow_3 : List UInt8 := dkwX1_orderNow_3 ++ dktX1_orderNow_4
def dkwX1_orderNow_2 : List UInt8 := [3, 54, 9, 21, 9, 29, 162, 0, 72, 42, 21, 9, 29, 182, 0, 187, 42, 27, 182, 0, 190, 55, 10]
abbrev dktX1_orderNow_2 : List UInt8 := dkwX1_orderNow_2 ++ dktX1_orderNow_3
def dkwX1_orderNow_1 : List UInt8 := [21, 6, 104, 62, 22, 4, 20, 0, 185, 105, 55, 4, 132, 6, 1, 167, 255, 231, 2, 54, 6, 9, 55, 7]
abbrev dktX1_orderNow_1 : List UInt8 := dkwX1_orderNow_1 ++ dktX1_orderNow_2
def dkwX1_orderNow_0 : List UInt8 := [42, 27, 182, 0, 182, 4, 62, 10, 55, 4, 4, 54, 6, 21, 6, 42, 180, 0, 162, 163, 0, 22, 29]
abbrev dktX1_orderNow_0 : List UInt8 := dkwX1_orderNow_0 ++ dktX1_orderNow_1
theorem dksX1_orderNow_0 : cX1_orderNow.data.toList.drop 0 = dktX1_orderNow_0 := by decide +kernel
theorem dksX1_orderNow_1 : cX1_orderNow.data.toList.drop 23 = dktX1_orderNow_1 := dk_seg dksX1_orderNow_0 23 rfl rfl
theorem dksX1_orderNow_2 : cX1_orderNow.data.toList.drop 47 = dktX1_orderNow_2 := dk_seg dksX1_orderNow_1 24 rfl rfl
theorem dksX1_orderNow_3 : cX1_orderNow.data.toList.drop 70 = dktX1_orderNow_3 := dk_seg dksX1_orderNow_2 23 rfl rfl
theorem dksX1_orderNow_4 : cX1_orderNow.data.toList.drop 93 = dktX1_orderNow_4 := dk_seg dksX1_orderNow_3 23 rfl rfl
theorem dksX1_orderNow_5 : cX1_orderNow.data.toList.drop 117 = dktX1_orderNow_5 := dk_seg dksX1_orderNow_4 24 rfl rfl
theorem dksX1_orderNow_6 : cX1_orderNow.data.toList.drop 141 = dktX1_orderNow_6 := dk_seg dksX1_orderNow_5 24 rfl rfl
theorem dksX1_orderNow_7 : cX1_orderNow.data.toList.drop 165 = dktX1_orderNow_7 := dk_seg dksX1_orderNow_6 24 rfl rfl
theorem dX1_orderNow_0 : decode cX1_orderNow 0 = .ok (.aload_n 0, 1) := dk_42 (dk_at dksX1_orderNow_0 0 rfl rfl)
theorem dX1_orderNow_1 : decode cX1_orderNow 1 = .ok (.iload_n 1, 1) := dk_27 (dk_at dksX1_orderNow_0 1 rfl rfl)
theorem dX1_orderNow_2 : decode cX1_orderNow 2 = .ok (.invokevirtual 182, 3) := dk_182 0 182 (dk_at dksX1_orderNow_0 2 rfl rfl)
theorem dX1_orderNow_5 : decode cX1_orderNow 5 = .ok (.iconst 1, 1) := dk_4 (dk_at dksX1_orderNow_0 5 rfl rfl)
theorem dX1_orderNow_6 : decode cX1_orderNow 6 = .ok (.istore_n 3, 1) := dk_62 (dk_at dksX1_orderNow_0 6 rfl rfl)
theorem dX1_orderNow_7 : decode cX1_orderNow 7 = .ok (.lconst 1, 1) := dk_10 (dk_at dksX1_orderNow_0 7 rfl rfl)
theorem dX1_orderNow_8 : decode cX1_orderNow 8 = .ok (.lstore 4, 2) := dk_55 4 (dk_at dksX1_orderNow_0 8 rfl rfl)
theorem dX1_orderNow_10 : decode cX1_orderNow 10 = .ok (.iconst 1, 1) := dk_4 (dk_at dksX1_orderNow_0 10 rfl rfl)
theorem dX1_orderNow_11 : decode cX1_orderNow 11 = .ok (.istore 6, 2) := dk_54 6 (dk_at dksX1_orderNow_0 11 rfl rfl)
theorem dX1_orderNow_13 : decode cX1_orderNow 13 = .ok (.iload 6, 2) := dk_21 6 (dk_at dksX1_orderNow_0 13 rfl rfl)
theorem dX1_orderNow_15 : decode cX1_orderNow 15 = .ok (.aload_n 0, 1) := dk_42 (dk_at dksX1_orderNow_0 15 rfl rfl)
theorem dX1_orderNow_16 : decode cX1_orderNow 16 = .ok (.getfield 162, 3) := dk_180 0 162 (dk_at dksX1_orderNow_0 16 rfl rfl)
theorem dX1_orderNow_19 : decode cX1_orderNow 19 = .ok (.if_icmp .gt 22, 3) := dk_163 0 22 (dk_at dksX1_orderNow_0 19 rfl rfl)
theorem dX1_orderNow_22 : decode cX1_orderNow 22 = .ok (.iload_n 3, 1) := dk_29 (dk_at dksX1_orderNow_0 22 rfl rfl)
theorem dX1_orderNow_23 : decode cX1_orderNow 23 = .ok (.iload 6, 2) := dk_21 6 (dk_at dksX1_orderNow_1 0 rfl rfl)
theorem dX1_orderNow_25 : decode cX1_orderNow 25 = .ok (.imul, 1) := dk_104 (dk_at dksX1_orderNow_1 2 rfl rfl)
theorem dX1_orderNow_26 : decode cX1_orderNow 26 = .ok (.istore_n 3, 1) := dk_62 (dk_at dksX1_orderNow_1 3 rfl rfl)
theorem dX1_orderNow_27 : decode cX1_orderNow 27 = .ok (.lload 4, 2) := dk_22 4 (dk_at dksX1_orderNow_1 4 rfl rfl)
theorem dX1_orderNow_29 : decode cX1_orderNow 29 = .ok (.ldc2_w 185, 3) := dk_20 0 185 (dk_at dksX1_orderNow_1 6 rfl rfl)
theorem dX1_orderNow_32 : decode cX1_orderNow 32 = .ok (.lmul, 1) := dk_105 (dk_at dksX1_orderNow_1 9 rfl rfl)
theorem dX1_orderNow_33 : decode cX1_orderNow 33 = .ok (.lstore 4, 2) := dk_55 4 (dk_at dksX1_orderNow_1 10 rfl rfl)
theorem dX1_orderNow_35 : decode cX1_orderNow 35 = .ok (.iinc 6 1, 3) := dk_132 6 1 (dk_at dksX1_orderNow_1 12 rfl rfl)
theorem dX1_orderNow_38 : decode cX1_orderNow 38 = .ok (.goto (-25), 3) := dk_167 255 231 (dk_at dksX1_orderNow_1 15 rfl rfl)
theorem dX1_orderNow_41 : decode cX1_orderNow 41 = .ok (.iconst (-1), 1) := dk_2 (dk_at dksX1_orderNow_1 18 rfl rfl)
theorem dX1_orderNow_42 : decode cX1_orderNow 42 = .ok (.istore 6, 2) := dk_54 6 (dk_at dksX1_orderNow_1 19 rfl rfl)
theorem dX1_orderNow_44 : decode cX1_orderNow 44 = .ok (.lconst 0, 1) := dk_9 (dk_at dksX1_orderNow_1 21 rfl rfl)
theorem dX1_orderNow_45 : decode cX1_orderNow 45 = .ok (.lstore 7, 2) := dk_55 7 (dk_at dksX1_orderNow_1 22 rfl rfl)
theorem dX1_orderNow_47 : decode cX1_orderNow 47 = .ok (.iconst 0, 1) := dk_3 (dk_at dksX1_orderNow_2 0 rfl rfl)
theorem dX1_orderNow_48 : decode cX1_orderNow 48 = .ok (.istore 9, 2) := dk_54 9 (dk_at dksX1_orderNow_2 1 rfl rfl)
theorem dX1_orderNow_50 : decode cX1_orderNow 50 = .ok (.iload 9, 2) := dk_21 9 (dk_at dksX1_orderNow_2 3 rfl rfl)
theorem dX1_orderNow_52 : decode cX1_orderNow 52 = .ok (.iload_n 3, 1) := dk_29 (dk_at dksX1_orderNow_2 5 rfl rfl)
theorem dX1_orderNow_53 : decode cX1_orderNow 53 = .ok (.if_icmp .ge 72, 3) := dk_162 0 72 (dk_at dksX1_orderNow_2 6 rfl rfl)
theorem dX1_orderNow_56 : decode cX1_orderNow 56 = .ok (.aload_n 0, 1) := dk_42 (dk_at dksX1_orderNow_2 9 rfl rfl)
theorem dX1_orderNow_57 : decode cX1_orderNow 57 = .ok (.iload 9, 2) := dk_21 9 (dk_at dksX1_orderNow_2 10 rfl rfl)
theorem dX1_orderNow_59 : decode cX1_orderNow 59 = .ok (.iload_n 3, 1) := dk_29 (dk_at dksX1_orderNow_2 12 rfl rfl)
theorem dX1_orderNow_60 : decode cX1_orderNow 60 = .ok (.invokevirtual 187, 3) := dk_182 0 187 (dk_at dksX1_orderNow_2 13 rfl rfl)
theorem dX1_orderNow_63 : decode cX1_orderNow 63 = .ok (.aload_n 0, 1) := dk_42 (dk_at dksX1_orderNow_2 16 rfl rfl)
theorem dX1_orderNow_64 : decode cX1_orderNow 64 = .ok (.iload_n 1, 1) := dk_27 (dk_at dksX1_orderNow_2 17 rfl rfl)
theorem dX1_orderNow_65 : decode cX1_orderNow 65 = .ok (.invokevirtual 190, 3) := dk_182 0 190 (dk_at dksX1_orderNow_2 18 rfl rfl)
theorem dX1_orderNow_68 : decode cX1_orderNow 68 = .ok (.lstore 10, 2) := dk_55 10 (dk_at dksX1_orderNow_2 21 rfl rfl)
theorem dX1_orderNow_70 : decode cX1_orderNow 70 = .ok (.iload 6, 2) := dk_21 6 (dk_at dksX1_orderNow_3 0 rfl rfl)
theorem dX1_orderNow_72 : decode cX1_orderNow 72 = .ok (.iconst (-1), 1) := dk_2 (dk_at dksX1_orderNow_3 2 rfl rfl)
theorem dX1_orderNow_73 : decode cX1_orderNow 73 = .ok (.if_icmp .eq 11, 3) := dk_159 0 11 (dk_at dksX1_orderNow_3 3 rfl rfl)
theorem dX1_orderNow_76 : decode cX1_orderNow 76 = .ok (.lload 10, 2) := dk_22 10 (dk_at dksX1_orderNow_3 6 rfl rfl)
theorem dX1_orderNow_78 : decode cX1_orderNow 78 = .ok (.lload 7, 2) := dk_22 7 (dk_at dksX1_orderNow_3 8 rfl rfl)
theorem dX1_orderNow_80 : decode cX1_orderNow 80 = .ok (.lcmp, 1) := dk_148 (dk_at dksX1_orderNow_3 10 rfl rfl)
theorem dX1_orderNow_81 : decode cX1_orderNow 81 = .ok (.ifCond .ge 7, 3) := dk_156 0 7 (dk_at dksX1_orderNow_3 11 rfl rfl)
theorem dX1_orderNow_84 : decode cX1_orderNow 84 = .ok (.iconst 1, 1) := dk_4 (dk_at dksX1_orderNow_3 14 rfl rfl)
theorem dX1_orderNow_85 : decode cX1_orderNow 85 = .ok (.goto 4, 3) := dk_167 0 4 (dk_at dksX1_orderNow_3 15 rfl rfl)
theorem dX1_orderNow_88 : decode cX1_orderNow 88 = .ok (.iconst 0, 1) := dk_3 (dk_at dksX1_orderNow_3 18 rfl rfl)
theorem dX1_orderNow_89 : decode cX1_orderNow 89 = .ok (.istore 12, 2) := dk_54 12 (dk_at dksX1_orderNow_3 19 rfl rfl)
theorem dX1_orderNow_91 : decode cX1_orderNow 91 = .ok (.iload 12, 2) := dk_21 12 (dk_at dksX1_orderNow_3 21 rfl rfl)
theorem dX1_orderNow_93 : decode cX1_orderNow 93 = .ok (.ifCond .eq 8, 3) := dk_153 0 8 (dk_at dksX1_orderNow_4 0 rfl rfl)
theorem dX1_orderNow_96 : decode cX1_orderNow 96 = .ok (.iload 9, 2) := dk_21 9 (dk_at dksX1_orderNow_4 3 rfl rfl)
theorem dX1_orderNow_98 : decode cX1_orderNow 98 = .ok (.goto 5, 3) := dk_167 0 5 (dk_at dksX1_orderNow_4 5 rfl rfl)
theorem dX1_orderNow_101 : decode cX1_orderNow 101 = .ok (.iload 6, 2) := dk_21 6 (dk_at dksX1_orderNow_4 8 rfl rfl)
theorem dX1_orderNow_103 : decode cX1_orderNow 103 = .ok (.istore 6, 2) := dk_54 6 (dk_at dksX1_orderNow_4 10 rfl rfl)
theorem dX1_orderNow_105 : decode cX1_orderNow 105 = .ok (.iload 12, 2) := dk_21 12 (dk_at dksX1_orderNow_4 12 rfl rfl)
theorem dX1_orderNow_107 : decode cX1_orderNow 107 = .ok (.ifCond .eq 8, 3) := dk_153 0 8 (dk_at dksX1_orderNow_4 14 rfl rfl)
theorem dX1_orderNow_110 : decode cX1_orderNow 110 = .ok (.lload 10, 2) := dk_22 10 (dk_at dksX1_orderNow_4 17 rfl rfl)
theorem dX1_orderNow_112 : decode cX1_orderNow 112 = .ok (.goto 5, 3) := dk_167 0 5 (dk_at dksX1_orderNow_4 19 rfl rfl)
theorem dX1_orderNow_115 : decode cX1_orderNow 115 = .ok (.lload 7, 2) := dk_22 7 (dk_at dksX1_orderNow_4 22 rfl rfl)
theorem dX1_orderNow_117 : decode cX1_orderNow 117 = .ok (.lstore 7, 2) := dk_55 7 (dk_at dksX1_orderNow_5 0 rfl rfl)
theorem dX1_orderNow_119 : decode cX1_orderNow 119 = .ok (.iinc 9 1, 3) := dk_132 9 1 (dk_at dksX1_orderNow_5 2 rfl rfl)
theorem dX1_orderNow_122 : decode cX1_orderNow 122 = .ok (.goto (-72), 3) := dk_167 255 184 (dk_at dksX1_orderNow_5 5 rfl rfl)
theorem dX1_orderNow_125 : decode cX1_orderNow 125 = .ok (.aload_n 0, 1) := dk_42 (dk_at dksX1_orderNow_5 8 rfl rfl)
theorem dX1_orderNow_126 : decode cX1_orderNow 126 = .ok (.iload 6, 2) := dk_21 6 (dk_at dksX1_orderNow_5 9 rfl rfl)
theorem dX1_orderNow_128 : decode cX1_orderNow 128 = .ok (.iload_n 3, 1) := dk_29 (dk_at dksX1_orderNow_5 11 rfl rfl)
theorem dX1_orderNow_129 : decode cX1_orderNow 129 = .ok (.invokevirtual 187, 3) := dk_182 0 187 (dk_at dksX1_orderNow_5 12 rfl rfl)
theorem dX1_orderNow_132 : decode cX1_orderNow 132 = .ok (.iload_n 2, 1) := dk_28 (dk_at dksX1_orderNow_5 15 rfl rfl)
theorem dX1_orderNow_133 : decode cX1_orderNow 133 = .ok (.iconst 2, 1) := dk_5 (dk_at dksX1_orderNow_5 16 rfl rfl)
theorem dX1_orderNow_134 : decode cX1_orderNow 134 = .ok (.if_icmp .ge 12, 3) := dk_162 0 12 (dk_at dksX1_orderNow_5 17 rfl rfl)
theorem dX1_orderNow_137 : decode cX1_orderNow 137 = .ok (.lload 7, 2) := dk_22 7 (dk_at dksX1_orderNow_5 20 rfl rfl)
theorem dX1_orderNow_139 : decode cX1_orderNow 139 = .ok (.lload 4, 2) := dk_22 4 (dk_at dksX1_orderNow_5 22 rfl rfl)
theorem dX1_orderNow_141 : decode cX1_orderNow 141 = .ok (.iload_n 2, 1) := dk_28 (dk_at dksX1_orderNow_6 0 rfl rfl)
theorem dX1_orderNow_142 : decode cX1_orderNow 142 = .ok (.invokestatic 194, 3) := dk_184 0 194 (dk_at dksX1_orderNow_6 1 rfl rfl)
theorem dX1_orderNow_145 : decode cX1_orderNow 145 = .ok (.lreturn, 1) := dk_173 (dk_at dksX1_orderNow_6 4 rfl rfl)
theorem dX1_orderNow_146 : decode cX1_orderNow 146 = .ok (.iload_n 2, 1) := dk_28 (dk_at dksX1_orderNow_6 5 rfl rfl)
theorem dX1_orderNow_147 : decode cX1_orderNow 147 = .ok (.bipush 10, 2) := dk_16 10 (dk_at dksX1_orderNow_6 6 rfl rfl)
theorem dX1_orderNow_149 : decode cX1_orderNow 149 = .ok (.isub, 1) := dk_100 (dk_at dksX1_orderNow_6 8 rfl rfl)
theorem dX1_orderNow_150 : decode cX1_orderNow 150 = .ok (.aload_n 0, 1) := dk_42 (dk_at dksX1_orderNow_6 9 rfl rfl)
theorem dX1_orderNow_151 : decode cX1_orderNow 151 = .ok (.getfield 162, 3) := dk_180 0 162 (dk_at dksX1_orderNow_6 10 rfl rfl)
theorem dX1_orderNow_154 : decode cX1_orderNow 154 = .ok (.if_icmp .ge 16, 3) := dk_162 0 16 (dk_at dksX1_orderNow_6 13 rfl rfl)
theorem dX1_orderNow_157 : decode cX1_orderNow 157 = .ok (.aload_n 0, 1) := dk_42 (dk_at dksX1_orderNow_6 16 rfl rfl)
theorem dX1_orderNow_158 : decode cX1_orderNow 158 = .ok (.getfield 50, 3) := dk_180 0 50 (dk_at dksX1_orderNow_6 17 rfl rfl)
theorem dX1_orderNow_161 : decode cX1_orderNow 161 = .ok (.iload_n 2, 1) := dk_28 (dk_at dksX1_orderNow_6 20 rfl rfl)
theorem dX1_orderNow_162 : decode cX1_orderNow 162 = .ok (.bipush 10, 2) := dk_16 10 (dk_at dksX1_orderNow_6 21 rfl rfl)
theorem dX1_orderNow_164 : decode cX1_orderNow 164 = .ok (.isub, 1) := dk_100 (dk_at dksX1_orderNow_6 23 rfl rfl)
theorem dX1_orderNow_165 : decode cX1_orderNow 165 = .ok (.iaload, 1) := dk_46 (dk_at dksX1_orderNow_7 0 rfl rfl)
theorem dX1_orderNow_166 : decode cX1_orderNow 166 = .ok (.i2l, 1) := dk_133 (dk_at dksX1_orderNow_7 1 rfl rfl)
theorem dX1_orderNow_167 : decode cX1_orderNow 167 = .ok (.goto 6, 3) := dk_167 0 6 (dk_at dksX1_orderNow_7 2 rfl rfl)
theorem dX1_orderNow_170 : decode cX1_orderNow 170 = .ok (.ldc2_w 198, 3) := dk_20 0 198 (dk_at dksX1_orderNow_7 5 rfl rfl)
theorem dX1_orderNow_173 : decode cX1_orderNow 173 = .ok (.lreturn, 1) := dk_173 (dk_at dksX1_orderNow_7 8 rfl rfl)
abbrev cX1_layLeft : ByteArray := prog_9_method_35_code
def yX1_layLeft : MethodName := ⟨RX1, "layLeft", "(I)V"⟩
def dkwX1_layLeft_2 : List UInt8 := [181, 0, 162, 132, 2, 1, 167, 255, 212, 177]
abbrev dktX1_layLeft_2 : List UInt8 := dkwX1_layLeft_2 ++ []
def dkwX1_layLeft_1 : List UInt8 := [184, 0, 122, 154, 0, 23, 42, 180, 0, 47, 42, 180, 0, 162, 28, 79, 42, 89, 180, 0, 162, 4, 96]
abbrev dktX1_layLeft_1 : List UInt8 := dkwX1_layLeft_1 ++ dktX1_layLeft_2
def dkwX1_layLeft_0 : List UInt8 := [42, 3, 181, 0, 162, 3, 61, 28, 42, 180, 0, 107, 162, 0, 42, 42, 180, 0, 28, 27, 46, 28]
abbrev dktX1_layLeft_0 : List UInt8 := dkwX1_layLeft_0 ++ dktX1_layLeft_1
theorem dksX1_layLeft_0 : cX1_layLeft.data.toList.drop 0 = dktX1_layLeft_0 := by decide +kernel
theorem dksX1_layLeft_1 : cX1_layLeft.data.toList.drop 22 = dktX1_layLeft_1 := dk_seg dksX1_layLeft_0 22 rfl rfl
theorem dksX1_layLeft_2 : cX1_layLeft.data.toList.drop 45 = dktX1_layLeft_2 := dk_seg dksX1_layLeft_1 23 rfl rfl
theorem dX1_layLeft_0 : decode cX1_layLeft 0 = .ok (.aload_n 0, 1) := dk_42 (dk_at dksX1_layLeft_0 0 rfl rfl)
theorem dX1_layLeft_1 : decode cX1_layLeft 1 = .ok (.iconst 0, 1) := dk_3 (dk_at dksX1_layLeft_0 1 rfl rfl)
theorem dX1_layLeft_2 : decode cX1_layLeft 2 = .ok (.putfield 162, 3) := dk_181 0 162 (dk_at dksX1_layLeft_0 2 rfl rfl)
theorem dX1_layLeft_5 : decode cX1_layLeft 5 = .ok (.iconst 0, 1) := dk_3 (dk_at dksX1_layLeft_0 5 rfl rfl)
theorem dX1_layLeft_6 : decode cX1_layLeft 6 = .ok (.istore_n 2, 1) := dk_61 (dk_at dksX1_layLeft_0 6 rfl rfl)
theorem dX1_layLeft_7 : decode cX1_layLeft 7 = .ok (.iload_n 2, 1) := dk_28 (dk_at dksX1_layLeft_0 7 rfl rfl)
theorem dX1_layLeft_8 : decode cX1_layLeft 8 = .ok (.aload_n 0, 1) := dk_42 (dk_at dksX1_layLeft_0 8 rfl rfl)
theorem dX1_layLeft_9 : decode cX1_layLeft 9 = .ok (.getfield 107, 3) := dk_180 0 107 (dk_at dksX1_layLeft_0 9 rfl rfl)
theorem dX1_layLeft_12 : decode cX1_layLeft 12 = .ok (.if_icmp .ge 42, 3) := dk_162 0 42 (dk_at dksX1_layLeft_0 12 rfl rfl)
theorem dX1_layLeft_15 : decode cX1_layLeft 15 = .ok (.aload_n 0, 1) := dk_42 (dk_at dksX1_layLeft_0 15 rfl rfl)
theorem dX1_layLeft_16 : decode cX1_layLeft 16 = .ok (.getfield 28, 3) := dk_180 0 28 (dk_at dksX1_layLeft_0 16 rfl rfl)
theorem dX1_layLeft_19 : decode cX1_layLeft 19 = .ok (.iload_n 1, 1) := dk_27 (dk_at dksX1_layLeft_0 19 rfl rfl)
theorem dX1_layLeft_20 : decode cX1_layLeft 20 = .ok (.iaload, 1) := dk_46 (dk_at dksX1_layLeft_0 20 rfl rfl)
theorem dX1_layLeft_21 : decode cX1_layLeft 21 = .ok (.iload_n 2, 1) := dk_28 (dk_at dksX1_layLeft_0 21 rfl rfl)
theorem dX1_layLeft_22 : decode cX1_layLeft 22 = .ok (.invokestatic 122, 3) := dk_184 0 122 (dk_at dksX1_layLeft_1 0 rfl rfl)
theorem dX1_layLeft_25 : decode cX1_layLeft 25 = .ok (.ifCond .ne 23, 3) := dk_154 0 23 (dk_at dksX1_layLeft_1 3 rfl rfl)
theorem dX1_layLeft_28 : decode cX1_layLeft 28 = .ok (.aload_n 0, 1) := dk_42 (dk_at dksX1_layLeft_1 6 rfl rfl)
theorem dX1_layLeft_29 : decode cX1_layLeft 29 = .ok (.getfield 47, 3) := dk_180 0 47 (dk_at dksX1_layLeft_1 7 rfl rfl)
theorem dX1_layLeft_32 : decode cX1_layLeft 32 = .ok (.aload_n 0, 1) := dk_42 (dk_at dksX1_layLeft_1 10 rfl rfl)
theorem dX1_layLeft_33 : decode cX1_layLeft 33 = .ok (.getfield 162, 3) := dk_180 0 162 (dk_at dksX1_layLeft_1 11 rfl rfl)
theorem dX1_layLeft_36 : decode cX1_layLeft 36 = .ok (.iload_n 2, 1) := dk_28 (dk_at dksX1_layLeft_1 14 rfl rfl)
theorem dX1_layLeft_37 : decode cX1_layLeft 37 = .ok (.iastore, 1) := dk_79 (dk_at dksX1_layLeft_1 15 rfl rfl)
theorem dX1_layLeft_38 : decode cX1_layLeft 38 = .ok (.aload_n 0, 1) := dk_42 (dk_at dksX1_layLeft_1 16 rfl rfl)
theorem dX1_layLeft_39 : decode cX1_layLeft 39 = .ok (.dup, 1) := dk_89 (dk_at dksX1_layLeft_1 17 rfl rfl)
theorem dX1_layLeft_40 : decode cX1_layLeft 40 = .ok (.getfield 162, 3) := dk_180 0 162 (dk_at dksX1_layLeft_1 18 rfl rfl)
theorem dX1_layLeft_43 : decode cX1_layLeft 43 = .ok (.iconst 1, 1) := dk_4 (dk_at dksX1_layLeft_1 21 rfl rfl)
theorem dX1_layLeft_44 : decode cX1_layLeft 44 = .ok (.iadd, 1) := dk_96 (dk_at dksX1_layLeft_1 22 rfl rfl)
theorem dX1_layLeft_45 : decode cX1_layLeft 45 = .ok (.putfield 162, 3) := dk_181 0 162 (dk_at dksX1_layLeft_2 0 rfl rfl)
theorem dX1_layLeft_48 : decode cX1_layLeft 48 = .ok (.iinc 2 1, 3) := dk_132 2 1 (dk_at dksX1_layLeft_2 3 rfl rfl)
theorem dX1_layLeft_51 : decode cX1_layLeft 51 = .ok (.goto (-44), 3) := dk_167 255 212 (dk_at dksX1_layLeft_2 6 rfl rfl)
theorem dX1_layLeft_54 : decode cX1_layLeft 54 = .ok (.return_, 1) := dk_177 (dk_at dksX1_layLeft_2 9 rfl rfl)
abbrev cX1_layOrder : ByteArray := prog_9_method_38_code
def yX1_layOrder : MethodName := ⟨RX1, "layOrder", "(II)V"⟩
def dkwX1_layOrder_4 : List UInt8 := [54, 5, 42, 180, 0, 50, 21, 6, 42, 180, 0, 47, 21, 8, 46, 79, 132, 6, 1, 167, 255, 154, 177]
abbrev dktX1_layOrder_4 : List UInt8 := dkwX1_layOrder_4 ++ []
def dkwX1_layOrder_3 : List UInt8 := [153, 0, 7, 3, 167, 0, 4, 4, 100, 54, 7, 132, 8, 1, 167, 255, 218, 21, 5, 4, 21, 8, 120, 128]
abbrev dktX1_layOrder_3 : List UInt8 := dkwX1_layOrder_3 ++ dktX1_layOrder_4
def dkwX1_layOrder_2 : List UInt8 := [21, 5, 21, 8, 184, 0, 122, 154, 0, 8, 21, 7, 158, 0, 29, 21, 7, 21, 5, 21, 8, 184, 0, 122]
abbrev dktX1_layOrder_2 : List UInt8 := dkwX1_layOrder_2 ++ dktX1_layOrder_3
def dkwX1_layOrder_1 : List UInt8 := [180, 0, 162, 21, 6, 100, 108, 54, 4, 29, 21, 4, 108, 54, 7, 29, 21, 4, 112, 62, 3, 54, 8]
abbrev dktX1_layOrder_1 : List UInt8 := dkwX1_layOrder_1 ++ dktX1_layOrder_2
def dkwX1_layOrder_0 : List UInt8 := [27, 62, 28, 54, 4, 3, 54, 5, 3, 54, 6, 21, 6, 42, 180, 0, 162, 162, 0, 99, 21, 4, 42]
abbrev dktX1_layOrder_0 : List UInt8 := dkwX1_layOrder_0 ++ dktX1_layOrder_1
theorem dksX1_layOrder_0 : cX1_layOrder.data.toList.drop 0 = dktX1_layOrder_0 := by decide +kernel
theorem dksX1_layOrder_1 : cX1_layOrder.data.toList.drop 23 = dktX1_layOrder_1 := dk_seg dksX1_layOrder_0 23 rfl rfl
theorem dksX1_layOrder_2 : cX1_layOrder.data.toList.drop 46 = dktX1_layOrder_2 := dk_seg dksX1_layOrder_1 23 rfl rfl
theorem dksX1_layOrder_3 : cX1_layOrder.data.toList.drop 70 = dktX1_layOrder_3 := dk_seg dksX1_layOrder_2 24 rfl rfl
theorem dksX1_layOrder_4 : cX1_layOrder.data.toList.drop 94 = dktX1_layOrder_4 := dk_seg dksX1_layOrder_3 24 rfl rfl
theorem dX1_layOrder_0 : decode cX1_layOrder 0 = .ok (.iload_n 1, 1) := dk_27 (dk_at dksX1_layOrder_0 0 rfl rfl)
theorem dX1_layOrder_1 : decode cX1_layOrder 1 = .ok (.istore_n 3, 1) := dk_62 (dk_at dksX1_layOrder_0 1 rfl rfl)
theorem dX1_layOrder_2 : decode cX1_layOrder 2 = .ok (.iload_n 2, 1) := dk_28 (dk_at dksX1_layOrder_0 2 rfl rfl)
theorem dX1_layOrder_3 : decode cX1_layOrder 3 = .ok (.istore 4, 2) := dk_54 4 (dk_at dksX1_layOrder_0 3 rfl rfl)
theorem dX1_layOrder_5 : decode cX1_layOrder 5 = .ok (.iconst 0, 1) := dk_3 (dk_at dksX1_layOrder_0 5 rfl rfl)
theorem dX1_layOrder_6 : decode cX1_layOrder 6 = .ok (.istore 5, 2) := dk_54 5 (dk_at dksX1_layOrder_0 6 rfl rfl)
theorem dX1_layOrder_8 : decode cX1_layOrder 8 = .ok (.iconst 0, 1) := dk_3 (dk_at dksX1_layOrder_0 8 rfl rfl)
theorem dX1_layOrder_9 : decode cX1_layOrder 9 = .ok (.istore 6, 2) := dk_54 6 (dk_at dksX1_layOrder_0 9 rfl rfl)
theorem dX1_layOrder_11 : decode cX1_layOrder 11 = .ok (.iload 6, 2) := dk_21 6 (dk_at dksX1_layOrder_0 11 rfl rfl)
theorem dX1_layOrder_13 : decode cX1_layOrder 13 = .ok (.aload_n 0, 1) := dk_42 (dk_at dksX1_layOrder_0 13 rfl rfl)
theorem dX1_layOrder_14 : decode cX1_layOrder 14 = .ok (.getfield 162, 3) := dk_180 0 162 (dk_at dksX1_layOrder_0 14 rfl rfl)
theorem dX1_layOrder_17 : decode cX1_layOrder 17 = .ok (.if_icmp .ge 99, 3) := dk_162 0 99 (dk_at dksX1_layOrder_0 17 rfl rfl)
theorem dX1_layOrder_20 : decode cX1_layOrder 20 = .ok (.iload 4, 2) := dk_21 4 (dk_at dksX1_layOrder_0 20 rfl rfl)
theorem dX1_layOrder_22 : decode cX1_layOrder 22 = .ok (.aload_n 0, 1) := dk_42 (dk_at dksX1_layOrder_0 22 rfl rfl)
theorem dX1_layOrder_23 : decode cX1_layOrder 23 = .ok (.getfield 162, 3) := dk_180 0 162 (dk_at dksX1_layOrder_1 0 rfl rfl)
theorem dX1_layOrder_26 : decode cX1_layOrder 26 = .ok (.iload 6, 2) := dk_21 6 (dk_at dksX1_layOrder_1 3 rfl rfl)
theorem dX1_layOrder_28 : decode cX1_layOrder 28 = .ok (.isub, 1) := dk_100 (dk_at dksX1_layOrder_1 5 rfl rfl)
theorem dX1_layOrder_29 : decode cX1_layOrder 29 = .ok (.idiv, 1) := dk_108 (dk_at dksX1_layOrder_1 6 rfl rfl)
theorem dX1_layOrder_30 : decode cX1_layOrder 30 = .ok (.istore 4, 2) := dk_54 4 (dk_at dksX1_layOrder_1 7 rfl rfl)
theorem dX1_layOrder_32 : decode cX1_layOrder 32 = .ok (.iload_n 3, 1) := dk_29 (dk_at dksX1_layOrder_1 9 rfl rfl)
theorem dX1_layOrder_33 : decode cX1_layOrder 33 = .ok (.iload 4, 2) := dk_21 4 (dk_at dksX1_layOrder_1 10 rfl rfl)
theorem dX1_layOrder_35 : decode cX1_layOrder 35 = .ok (.idiv, 1) := dk_108 (dk_at dksX1_layOrder_1 12 rfl rfl)
theorem dX1_layOrder_36 : decode cX1_layOrder 36 = .ok (.istore 7, 2) := dk_54 7 (dk_at dksX1_layOrder_1 13 rfl rfl)
theorem dX1_layOrder_38 : decode cX1_layOrder 38 = .ok (.iload_n 3, 1) := dk_29 (dk_at dksX1_layOrder_1 15 rfl rfl)
theorem dX1_layOrder_39 : decode cX1_layOrder 39 = .ok (.iload 4, 2) := dk_21 4 (dk_at dksX1_layOrder_1 16 rfl rfl)
theorem dX1_layOrder_41 : decode cX1_layOrder 41 = .ok (.irem, 1) := dk_112 (dk_at dksX1_layOrder_1 18 rfl rfl)
theorem dX1_layOrder_42 : decode cX1_layOrder 42 = .ok (.istore_n 3, 1) := dk_62 (dk_at dksX1_layOrder_1 19 rfl rfl)
theorem dX1_layOrder_43 : decode cX1_layOrder 43 = .ok (.iconst 0, 1) := dk_3 (dk_at dksX1_layOrder_1 20 rfl rfl)
theorem dX1_layOrder_44 : decode cX1_layOrder 44 = .ok (.istore 8, 2) := dk_54 8 (dk_at dksX1_layOrder_1 21 rfl rfl)
theorem dX1_layOrder_46 : decode cX1_layOrder 46 = .ok (.iload 5, 2) := dk_21 5 (dk_at dksX1_layOrder_2 0 rfl rfl)
theorem dX1_layOrder_48 : decode cX1_layOrder 48 = .ok (.iload 8, 2) := dk_21 8 (dk_at dksX1_layOrder_2 2 rfl rfl)
theorem dX1_layOrder_50 : decode cX1_layOrder 50 = .ok (.invokestatic 122, 3) := dk_184 0 122 (dk_at dksX1_layOrder_2 4 rfl rfl)
theorem dX1_layOrder_53 : decode cX1_layOrder 53 = .ok (.ifCond .ne 8, 3) := dk_154 0 8 (dk_at dksX1_layOrder_2 7 rfl rfl)
theorem dX1_layOrder_56 : decode cX1_layOrder 56 = .ok (.iload 7, 2) := dk_21 7 (dk_at dksX1_layOrder_2 10 rfl rfl)
theorem dX1_layOrder_58 : decode cX1_layOrder 58 = .ok (.ifCond .le 29, 3) := dk_158 0 29 (dk_at dksX1_layOrder_2 12 rfl rfl)
theorem dX1_layOrder_61 : decode cX1_layOrder 61 = .ok (.iload 7, 2) := dk_21 7 (dk_at dksX1_layOrder_2 15 rfl rfl)
theorem dX1_layOrder_63 : decode cX1_layOrder 63 = .ok (.iload 5, 2) := dk_21 5 (dk_at dksX1_layOrder_2 17 rfl rfl)
theorem dX1_layOrder_65 : decode cX1_layOrder 65 = .ok (.iload 8, 2) := dk_21 8 (dk_at dksX1_layOrder_2 19 rfl rfl)
theorem dX1_layOrder_67 : decode cX1_layOrder 67 = .ok (.invokestatic 122, 3) := dk_184 0 122 (dk_at dksX1_layOrder_2 21 rfl rfl)
theorem dX1_layOrder_70 : decode cX1_layOrder 70 = .ok (.ifCond .eq 7, 3) := dk_153 0 7 (dk_at dksX1_layOrder_3 0 rfl rfl)
theorem dX1_layOrder_73 : decode cX1_layOrder 73 = .ok (.iconst 0, 1) := dk_3 (dk_at dksX1_layOrder_3 3 rfl rfl)
theorem dX1_layOrder_74 : decode cX1_layOrder 74 = .ok (.goto 4, 3) := dk_167 0 4 (dk_at dksX1_layOrder_3 4 rfl rfl)
theorem dX1_layOrder_77 : decode cX1_layOrder 77 = .ok (.iconst 1, 1) := dk_4 (dk_at dksX1_layOrder_3 7 rfl rfl)
theorem dX1_layOrder_78 : decode cX1_layOrder 78 = .ok (.isub, 1) := dk_100 (dk_at dksX1_layOrder_3 8 rfl rfl)
theorem dX1_layOrder_79 : decode cX1_layOrder 79 = .ok (.istore 7, 2) := dk_54 7 (dk_at dksX1_layOrder_3 9 rfl rfl)
theorem dX1_layOrder_81 : decode cX1_layOrder 81 = .ok (.iinc 8 1, 3) := dk_132 8 1 (dk_at dksX1_layOrder_3 11 rfl rfl)
theorem dX1_layOrder_84 : decode cX1_layOrder 84 = .ok (.goto (-38), 3) := dk_167 255 218 (dk_at dksX1_layOrder_3 14 rfl rfl)
theorem dX1_layOrder_87 : decode cX1_layOrder 87 = .ok (.iload 5, 2) := dk_21 5 (dk_at dksX1_layOrder_3 17 rfl rfl)
theorem dX1_layOrder_89 : decode cX1_layOrder 89 = .ok (.iconst 1, 1) := dk_4 (dk_at dksX1_layOrder_3 19 rfl rfl)
theorem dX1_layOrder_90 : decode cX1_layOrder 90 = .ok (.iload 8, 2) := dk_21 8 (dk_at dksX1_layOrder_3 20 rfl rfl)
theorem dX1_layOrder_92 : decode cX1_layOrder 92 = .ok (.ishl, 1) := dk_120 (dk_at dksX1_layOrder_3 22 rfl rfl)
theorem dX1_layOrder_93 : decode cX1_layOrder 93 = .ok (.ior, 1) := dk_128 (dk_at dksX1_layOrder_3 23 rfl rfl)
theorem dX1_layOrder_94 : decode cX1_layOrder 94 = .ok (.istore 5, 2) := dk_54 5 (dk_at dksX1_layOrder_4 0 rfl rfl)
theorem dX1_layOrder_96 : decode cX1_layOrder 96 = .ok (.aload_n 0, 1) := dk_42 (dk_at dksX1_layOrder_4 2 rfl rfl)
theorem dX1_layOrder_97 : decode cX1_layOrder 97 = .ok (.getfield 50, 3) := dk_180 0 50 (dk_at dksX1_layOrder_4 3 rfl rfl)
theorem dX1_layOrder_100 : decode cX1_layOrder 100 = .ok (.iload 6, 2) := dk_21 6 (dk_at dksX1_layOrder_4 6 rfl rfl)
theorem dX1_layOrder_102 : decode cX1_layOrder 102 = .ok (.aload_n 0, 1) := dk_42 (dk_at dksX1_layOrder_4 8 rfl rfl)
theorem dX1_layOrder_103 : decode cX1_layOrder 103 = .ok (.getfield 47, 3) := dk_180 0 47 (dk_at dksX1_layOrder_4 9 rfl rfl)
theorem dX1_layOrder_106 : decode cX1_layOrder 106 = .ok (.iload 8, 2) := dk_21 8 (dk_at dksX1_layOrder_4 12 rfl rfl)
theorem dX1_layOrder_108 : decode cX1_layOrder 108 = .ok (.iaload, 1) := dk_46 (dk_at dksX1_layOrder_4 14 rfl rfl)
theorem dX1_layOrder_109 : decode cX1_layOrder 109 = .ok (.iastore, 1) := dk_79 (dk_at dksX1_layOrder_4 15 rfl rfl)
theorem dX1_layOrder_110 : decode cX1_layOrder 110 = .ok (.iinc 6 1, 3) := dk_132 6 1 (dk_at dksX1_layOrder_4 16 rfl rfl)
theorem dX1_layOrder_113 : decode cX1_layOrder 113 = .ok (.goto (-102), 3) := dk_167 255 154 (dk_at dksX1_layOrder_4 19 rfl rfl)
theorem dX1_layOrder_116 : decode cX1_layOrder 116 = .ok (.return_, 1) := dk_177 (dk_at dksX1_layOrder_4 22 rfl rfl)
abbrev cX1_meanOf : ByteArray := prog_9_method_40_code
def yX1_meanOf : MethodName := ⟨RX1, "meanOf", "(I)J"⟩
def dkwX1_meanOf_1 : List UInt8 := [97, 65, 132, 4, 1, 167, 255, 232, 32, 173]
abbrev dktX1_meanOf_1 : List UInt8 := dkwX1_meanOf_1 ++ []
def dkwX1_meanOf_0 : List UInt8 := [9, 65, 3, 54, 4, 21, 4, 4, 42, 180, 0, 162, 120, 162, 0, 19, 32, 42, 27, 21, 4, 182, 0, 178]
abbrev dktX1_meanOf_0 : List UInt8 := dkwX1_meanOf_0 ++ dktX1_meanOf_1
theorem dksX1_meanOf_0 : cX1_meanOf.data.toList.drop 0 = dktX1_meanOf_0 := by decide +kernel
theorem dksX1_meanOf_1 : cX1_meanOf.data.toList.drop 24 = dktX1_meanOf_1 := dk_seg dksX1_meanOf_0 24 rfl rfl
theorem dX1_meanOf_0 : decode cX1_meanOf 0 = .ok (.lconst 0, 1) := dk_9 (dk_at dksX1_meanOf_0 0 rfl rfl)
theorem dX1_meanOf_1 : decode cX1_meanOf 1 = .ok (.lstore_n 2, 1) := dk_65 (dk_at dksX1_meanOf_0 1 rfl rfl)
theorem dX1_meanOf_2 : decode cX1_meanOf 2 = .ok (.iconst 0, 1) := dk_3 (dk_at dksX1_meanOf_0 2 rfl rfl)
theorem dX1_meanOf_3 : decode cX1_meanOf 3 = .ok (.istore 4, 2) := dk_54 4 (dk_at dksX1_meanOf_0 3 rfl rfl)
theorem dX1_meanOf_5 : decode cX1_meanOf 5 = .ok (.iload 4, 2) := dk_21 4 (dk_at dksX1_meanOf_0 5 rfl rfl)
theorem dX1_meanOf_7 : decode cX1_meanOf 7 = .ok (.iconst 1, 1) := dk_4 (dk_at dksX1_meanOf_0 7 rfl rfl)
theorem dX1_meanOf_8 : decode cX1_meanOf 8 = .ok (.aload_n 0, 1) := dk_42 (dk_at dksX1_meanOf_0 8 rfl rfl)
theorem dX1_meanOf_9 : decode cX1_meanOf 9 = .ok (.getfield 162, 3) := dk_180 0 162 (dk_at dksX1_meanOf_0 9 rfl rfl)
theorem dX1_meanOf_12 : decode cX1_meanOf 12 = .ok (.ishl, 1) := dk_120 (dk_at dksX1_meanOf_0 12 rfl rfl)
theorem dX1_meanOf_13 : decode cX1_meanOf 13 = .ok (.if_icmp .ge 19, 3) := dk_162 0 19 (dk_at dksX1_meanOf_0 13 rfl rfl)
theorem dX1_meanOf_16 : decode cX1_meanOf 16 = .ok (.lload_n 2, 1) := dk_32 (dk_at dksX1_meanOf_0 16 rfl rfl)
theorem dX1_meanOf_17 : decode cX1_meanOf 17 = .ok (.aload_n 0, 1) := dk_42 (dk_at dksX1_meanOf_0 17 rfl rfl)
theorem dX1_meanOf_18 : decode cX1_meanOf 18 = .ok (.iload_n 1, 1) := dk_27 (dk_at dksX1_meanOf_0 18 rfl rfl)
theorem dX1_meanOf_19 : decode cX1_meanOf 19 = .ok (.iload 4, 2) := dk_21 4 (dk_at dksX1_meanOf_0 19 rfl rfl)
theorem dX1_meanOf_21 : decode cX1_meanOf 21 = .ok (.invokevirtual 178, 3) := dk_182 0 178 (dk_at dksX1_meanOf_0 21 rfl rfl)
theorem dX1_meanOf_24 : decode cX1_meanOf 24 = .ok (.ladd, 1) := dk_97 (dk_at dksX1_meanOf_1 0 rfl rfl)
theorem dX1_meanOf_25 : decode cX1_meanOf 25 = .ok (.lstore_n 2, 1) := dk_65 (dk_at dksX1_meanOf_1 1 rfl rfl)
theorem dX1_meanOf_26 : decode cX1_meanOf 26 = .ok (.iinc 4 1, 3) := dk_132 4 1 (dk_at dksX1_meanOf_1 2 rfl rfl)
theorem dX1_meanOf_29 : decode cX1_meanOf 29 = .ok (.goto (-24), 3) := dk_167 255 232 (dk_at dksX1_meanOf_1 5 rfl rfl)
theorem dX1_meanOf_32 : decode cX1_meanOf 32 = .ok (.lload_n 2, 1) := dk_32 (dk_at dksX1_meanOf_1 8 rfl rfl)
theorem dX1_meanOf_33 : decode cX1_meanOf 33 = .ok (.lreturn, 1) := dk_173 (dk_at dksX1_meanOf_1 9 rfl rfl)
abbrev cX1_meanBy : ByteArray := prog_9_method_39_code
def yX1_meanBy : MethodName := ⟨RX1, "meanBy", "(II)J"⟩
def dkwX1_meanBy_4 : List UInt8 := [167, 255, 174, 42, 27, 182, 0, 175, 33, 21, 5, 133, 105, 173]
abbrev dktX1_meanBy_4 : List UInt8 := dkwX1_meanBy_4 ++ []
def dkwX1_meanBy_3 : List UInt8 := [27, 42, 180, 0, 50, 21, 6, 46, 182, 0, 158, 167, 0, 9, 33, 21, 7, 133, 105, 66, 132, 6, 1]
abbrev dktX1_meanBy_3 : List UInt8 := dkwX1_meanBy_3 ++ dktX1_meanBy_4
def dkwX1_meanBy_2 : List UInt8 := [21, 7, 100, 133, 105, 66, 21, 5, 42, 180, 0, 13, 42, 180, 0, 50, 21, 6, 46, 46, 96, 54, 5, 42]
abbrev dktX1_meanBy_2 : List UInt8 := dkwX1_meanBy_2 ++ dktX1_meanBy_3
def dkwX1_meanBy_1 : List UInt8 := [42, 180, 0, 50, 21, 6, 46, 182, 0, 155, 54, 7, 28, 21, 6, 184, 0, 122, 153, 0, 44, 33, 16, 10]
abbrev dktX1_meanBy_1 : List UInt8 := dkwX1_meanBy_1 ++ dktX1_meanBy_2
def dkwX1_meanBy_0 : List UInt8 := [42, 27, 182, 0, 171, 10, 66, 3, 54, 5, 3, 54, 6, 21, 6, 42, 180, 0, 162, 162, 0, 79, 42, 27]
abbrev dktX1_meanBy_0 : List UInt8 := dkwX1_meanBy_0 ++ dktX1_meanBy_1
theorem dksX1_meanBy_0 : cX1_meanBy.data.toList.drop 0 = dktX1_meanBy_0 := by decide +kernel
theorem dksX1_meanBy_1 : cX1_meanBy.data.toList.drop 24 = dktX1_meanBy_1 := dk_seg dksX1_meanBy_0 24 rfl rfl
theorem dksX1_meanBy_2 : cX1_meanBy.data.toList.drop 48 = dktX1_meanBy_2 := dk_seg dksX1_meanBy_1 24 rfl rfl
theorem dksX1_meanBy_3 : cX1_meanBy.data.toList.drop 72 = dktX1_meanBy_3 := dk_seg dksX1_meanBy_2 24 rfl rfl
theorem dksX1_meanBy_4 : cX1_meanBy.data.toList.drop 95 = dktX1_meanBy_4 := dk_seg dksX1_meanBy_3 23 rfl rfl
theorem dX1_meanBy_0 : decode cX1_meanBy 0 = .ok (.aload_n 0, 1) := dk_42 (dk_at dksX1_meanBy_0 0 rfl rfl)
theorem dX1_meanBy_1 : decode cX1_meanBy 1 = .ok (.iload_n 1, 1) := dk_27 (dk_at dksX1_meanBy_0 1 rfl rfl)
theorem dX1_meanBy_2 : decode cX1_meanBy 2 = .ok (.invokevirtual 171, 3) := dk_182 0 171 (dk_at dksX1_meanBy_0 2 rfl rfl)
theorem dX1_meanBy_5 : decode cX1_meanBy 5 = .ok (.lconst 1, 1) := dk_10 (dk_at dksX1_meanBy_0 5 rfl rfl)
theorem dX1_meanBy_6 : decode cX1_meanBy 6 = .ok (.lstore_n 3, 1) := dk_66 (dk_at dksX1_meanBy_0 6 rfl rfl)
theorem dX1_meanBy_7 : decode cX1_meanBy 7 = .ok (.iconst 0, 1) := dk_3 (dk_at dksX1_meanBy_0 7 rfl rfl)
theorem dX1_meanBy_8 : decode cX1_meanBy 8 = .ok (.istore 5, 2) := dk_54 5 (dk_at dksX1_meanBy_0 8 rfl rfl)
theorem dX1_meanBy_10 : decode cX1_meanBy 10 = .ok (.iconst 0, 1) := dk_3 (dk_at dksX1_meanBy_0 10 rfl rfl)
theorem dX1_meanBy_11 : decode cX1_meanBy 11 = .ok (.istore 6, 2) := dk_54 6 (dk_at dksX1_meanBy_0 11 rfl rfl)
theorem dX1_meanBy_13 : decode cX1_meanBy 13 = .ok (.iload 6, 2) := dk_21 6 (dk_at dksX1_meanBy_0 13 rfl rfl)
theorem dX1_meanBy_15 : decode cX1_meanBy 15 = .ok (.aload_n 0, 1) := dk_42 (dk_at dksX1_meanBy_0 15 rfl rfl)
theorem dX1_meanBy_16 : decode cX1_meanBy 16 = .ok (.getfield 162, 3) := dk_180 0 162 (dk_at dksX1_meanBy_0 16 rfl rfl)
theorem dX1_meanBy_19 : decode cX1_meanBy 19 = .ok (.if_icmp .ge 79, 3) := dk_162 0 79 (dk_at dksX1_meanBy_0 19 rfl rfl)
theorem dX1_meanBy_22 : decode cX1_meanBy 22 = .ok (.aload_n 0, 1) := dk_42 (dk_at dksX1_meanBy_0 22 rfl rfl)
theorem dX1_meanBy_23 : decode cX1_meanBy 23 = .ok (.iload_n 1, 1) := dk_27 (dk_at dksX1_meanBy_0 23 rfl rfl)
theorem dX1_meanBy_24 : decode cX1_meanBy 24 = .ok (.aload_n 0, 1) := dk_42 (dk_at dksX1_meanBy_1 0 rfl rfl)
theorem dX1_meanBy_25 : decode cX1_meanBy 25 = .ok (.getfield 50, 3) := dk_180 0 50 (dk_at dksX1_meanBy_1 1 rfl rfl)
theorem dX1_meanBy_28 : decode cX1_meanBy 28 = .ok (.iload 6, 2) := dk_21 6 (dk_at dksX1_meanBy_1 4 rfl rfl)
theorem dX1_meanBy_30 : decode cX1_meanBy 30 = .ok (.iaload, 1) := dk_46 (dk_at dksX1_meanBy_1 6 rfl rfl)
theorem dX1_meanBy_31 : decode cX1_meanBy 31 = .ok (.invokevirtual 155, 3) := dk_182 0 155 (dk_at dksX1_meanBy_1 7 rfl rfl)
theorem dX1_meanBy_34 : decode cX1_meanBy 34 = .ok (.istore 7, 2) := dk_54 7 (dk_at dksX1_meanBy_1 10 rfl rfl)
theorem dX1_meanBy_36 : decode cX1_meanBy 36 = .ok (.iload_n 2, 1) := dk_28 (dk_at dksX1_meanBy_1 12 rfl rfl)
theorem dX1_meanBy_37 : decode cX1_meanBy 37 = .ok (.iload 6, 2) := dk_21 6 (dk_at dksX1_meanBy_1 13 rfl rfl)
theorem dX1_meanBy_39 : decode cX1_meanBy 39 = .ok (.invokestatic 122, 3) := dk_184 0 122 (dk_at dksX1_meanBy_1 15 rfl rfl)
theorem dX1_meanBy_42 : decode cX1_meanBy 42 = .ok (.ifCond .eq 44, 3) := dk_153 0 44 (dk_at dksX1_meanBy_1 18 rfl rfl)
theorem dX1_meanBy_45 : decode cX1_meanBy 45 = .ok (.lload_n 3, 1) := dk_33 (dk_at dksX1_meanBy_1 21 rfl rfl)
theorem dX1_meanBy_46 : decode cX1_meanBy 46 = .ok (.bipush 10, 2) := dk_16 10 (dk_at dksX1_meanBy_1 22 rfl rfl)
theorem dX1_meanBy_48 : decode cX1_meanBy 48 = .ok (.iload 7, 2) := dk_21 7 (dk_at dksX1_meanBy_2 0 rfl rfl)
theorem dX1_meanBy_50 : decode cX1_meanBy 50 = .ok (.isub, 1) := dk_100 (dk_at dksX1_meanBy_2 2 rfl rfl)
theorem dX1_meanBy_51 : decode cX1_meanBy 51 = .ok (.i2l, 1) := dk_133 (dk_at dksX1_meanBy_2 3 rfl rfl)
theorem dX1_meanBy_52 : decode cX1_meanBy 52 = .ok (.lmul, 1) := dk_105 (dk_at dksX1_meanBy_2 4 rfl rfl)
theorem dX1_meanBy_53 : decode cX1_meanBy 53 = .ok (.lstore_n 3, 1) := dk_66 (dk_at dksX1_meanBy_2 5 rfl rfl)
theorem dX1_meanBy_54 : decode cX1_meanBy 54 = .ok (.iload 5, 2) := dk_21 5 (dk_at dksX1_meanBy_2 6 rfl rfl)
theorem dX1_meanBy_56 : decode cX1_meanBy 56 = .ok (.aload_n 0, 1) := dk_42 (dk_at dksX1_meanBy_2 8 rfl rfl)
theorem dX1_meanBy_57 : decode cX1_meanBy 57 = .ok (.getfield 13, 3) := dk_180 0 13 (dk_at dksX1_meanBy_2 9 rfl rfl)
theorem dX1_meanBy_60 : decode cX1_meanBy 60 = .ok (.aload_n 0, 1) := dk_42 (dk_at dksX1_meanBy_2 12 rfl rfl)
theorem dX1_meanBy_61 : decode cX1_meanBy 61 = .ok (.getfield 50, 3) := dk_180 0 50 (dk_at dksX1_meanBy_2 13 rfl rfl)
theorem dX1_meanBy_64 : decode cX1_meanBy 64 = .ok (.iload 6, 2) := dk_21 6 (dk_at dksX1_meanBy_2 16 rfl rfl)
theorem dX1_meanBy_66 : decode cX1_meanBy 66 = .ok (.iaload, 1) := dk_46 (dk_at dksX1_meanBy_2 18 rfl rfl)
theorem dX1_meanBy_67 : decode cX1_meanBy 67 = .ok (.iaload, 1) := dk_46 (dk_at dksX1_meanBy_2 19 rfl rfl)
theorem dX1_meanBy_68 : decode cX1_meanBy 68 = .ok (.iadd, 1) := dk_96 (dk_at dksX1_meanBy_2 20 rfl rfl)
theorem dX1_meanBy_69 : decode cX1_meanBy 69 = .ok (.istore 5, 2) := dk_54 5 (dk_at dksX1_meanBy_2 21 rfl rfl)
theorem dX1_meanBy_71 : decode cX1_meanBy 71 = .ok (.aload_n 0, 1) := dk_42 (dk_at dksX1_meanBy_2 23 rfl rfl)
theorem dX1_meanBy_72 : decode cX1_meanBy 72 = .ok (.iload_n 1, 1) := dk_27 (dk_at dksX1_meanBy_3 0 rfl rfl)
theorem dX1_meanBy_73 : decode cX1_meanBy 73 = .ok (.aload_n 0, 1) := dk_42 (dk_at dksX1_meanBy_3 1 rfl rfl)
theorem dX1_meanBy_74 : decode cX1_meanBy 74 = .ok (.getfield 50, 3) := dk_180 0 50 (dk_at dksX1_meanBy_3 2 rfl rfl)
theorem dX1_meanBy_77 : decode cX1_meanBy 77 = .ok (.iload 6, 2) := dk_21 6 (dk_at dksX1_meanBy_3 5 rfl rfl)
theorem dX1_meanBy_79 : decode cX1_meanBy 79 = .ok (.iaload, 1) := dk_46 (dk_at dksX1_meanBy_3 7 rfl rfl)
theorem dX1_meanBy_80 : decode cX1_meanBy 80 = .ok (.invokevirtual 158, 3) := dk_182 0 158 (dk_at dksX1_meanBy_3 8 rfl rfl)
theorem dX1_meanBy_83 : decode cX1_meanBy 83 = .ok (.goto 9, 3) := dk_167 0 9 (dk_at dksX1_meanBy_3 11 rfl rfl)
theorem dX1_meanBy_86 : decode cX1_meanBy 86 = .ok (.lload_n 3, 1) := dk_33 (dk_at dksX1_meanBy_3 14 rfl rfl)
theorem dX1_meanBy_87 : decode cX1_meanBy 87 = .ok (.iload 7, 2) := dk_21 7 (dk_at dksX1_meanBy_3 15 rfl rfl)
theorem dX1_meanBy_89 : decode cX1_meanBy 89 = .ok (.i2l, 1) := dk_133 (dk_at dksX1_meanBy_3 17 rfl rfl)
theorem dX1_meanBy_90 : decode cX1_meanBy 90 = .ok (.lmul, 1) := dk_105 (dk_at dksX1_meanBy_3 18 rfl rfl)
theorem dX1_meanBy_91 : decode cX1_meanBy 91 = .ok (.lstore_n 3, 1) := dk_66 (dk_at dksX1_meanBy_3 19 rfl rfl)
theorem dX1_meanBy_92 : decode cX1_meanBy 92 = .ok (.iinc 6 1, 3) := dk_132 6 1 (dk_at dksX1_meanBy_3 20 rfl rfl)
theorem dX1_meanBy_95 : decode cX1_meanBy 95 = .ok (.goto (-82), 3) := dk_167 255 174 (dk_at dksX1_meanBy_4 0 rfl rfl)
theorem dX1_meanBy_98 : decode cX1_meanBy 98 = .ok (.aload_n 0, 1) := dk_42 (dk_at dksX1_meanBy_4 3 rfl rfl)
theorem dX1_meanBy_99 : decode cX1_meanBy 99 = .ok (.iload_n 1, 1) := dk_27 (dk_at dksX1_meanBy_4 4 rfl rfl)
theorem dX1_meanBy_100 : decode cX1_meanBy 100 = .ok (.invokevirtual 175, 3) := dk_182 0 175 (dk_at dksX1_meanBy_4 5 rfl rfl)
theorem dX1_meanBy_103 : decode cX1_meanBy 103 = .ok (.lload_n 3, 1) := dk_33 (dk_at dksX1_meanBy_4 8 rfl rfl)
theorem dX1_meanBy_104 : decode cX1_meanBy 104 = .ok (.iload 5, 2) := dk_21 5 (dk_at dksX1_meanBy_4 9 rfl rfl)
theorem dX1_meanBy_106 : decode cX1_meanBy 106 = .ok (.i2l, 1) := dk_133 (dk_at dksX1_meanBy_4 11 rfl rfl)
theorem dX1_meanBy_107 : decode cX1_meanBy 107 = .ok (.lmul, 1) := dk_105 (dk_at dksX1_meanBy_4 12 rfl rfl)
theorem dX1_meanBy_108 : decode cX1_meanBy 108 = .ok (.lreturn, 1) := dk_173 (dk_at dksX1_meanBy_4 13 rfl rfl)
abbrev cX1_save : ByteArray := prog_9_method_36_code
def yX1_save : MethodName := ⟨RX1, "save", "(I)V"⟩
def dkwX1_save_1 : List UInt8 := [180, 0, 25, 27, 46, 96, 46, 181, 0, 168, 177]
abbrev dktX1_save_1 : List UInt8 := dkwX1_save_1 ++ []
def dkwX1_save_0 : List UInt8 := [42, 42, 180, 0, 16, 42, 180, 0, 25, 27, 46, 46, 181, 0, 165, 42, 42, 180, 0, 31, 6, 27, 104, 42]
abbrev dktX1_save_0 : List UInt8 := dkwX1_save_0 ++ dktX1_save_1
theorem dksX1_save_0 : cX1_save.data.toList.drop 0 = dktX1_save_0 := by decide +kernel
theorem dksX1_save_1 : cX1_save.data.toList.drop 24 = dktX1_save_1 := dk_seg dksX1_save_0 24 rfl rfl
theorem dX1_save_0 : decode cX1_save 0 = .ok (.aload_n 0, 1) := dk_42 (dk_at dksX1_save_0 0 rfl rfl)
theorem dX1_save_1 : decode cX1_save 1 = .ok (.aload_n 0, 1) := dk_42 (dk_at dksX1_save_0 1 rfl rfl)
theorem dX1_save_2 : decode cX1_save 2 = .ok (.getfield 16, 3) := dk_180 0 16 (dk_at dksX1_save_0 2 rfl rfl)
theorem dX1_save_5 : decode cX1_save 5 = .ok (.aload_n 0, 1) := dk_42 (dk_at dksX1_save_0 5 rfl rfl)
theorem dX1_save_6 : decode cX1_save 6 = .ok (.getfield 25, 3) := dk_180 0 25 (dk_at dksX1_save_0 6 rfl rfl)
theorem dX1_save_9 : decode cX1_save 9 = .ok (.iload_n 1, 1) := dk_27 (dk_at dksX1_save_0 9 rfl rfl)
theorem dX1_save_10 : decode cX1_save 10 = .ok (.iaload, 1) := dk_46 (dk_at dksX1_save_0 10 rfl rfl)
theorem dX1_save_11 : decode cX1_save 11 = .ok (.iaload, 1) := dk_46 (dk_at dksX1_save_0 11 rfl rfl)
theorem dX1_save_12 : decode cX1_save 12 = .ok (.putfield 165, 3) := dk_181 0 165 (dk_at dksX1_save_0 12 rfl rfl)
theorem dX1_save_15 : decode cX1_save 15 = .ok (.aload_n 0, 1) := dk_42 (dk_at dksX1_save_0 15 rfl rfl)
theorem dX1_save_16 : decode cX1_save 16 = .ok (.aload_n 0, 1) := dk_42 (dk_at dksX1_save_0 16 rfl rfl)
theorem dX1_save_17 : decode cX1_save 17 = .ok (.getfield 31, 3) := dk_180 0 31 (dk_at dksX1_save_0 17 rfl rfl)
theorem dX1_save_20 : decode cX1_save 20 = .ok (.iconst 3, 1) := dk_6 (dk_at dksX1_save_0 20 rfl rfl)
theorem dX1_save_21 : decode cX1_save 21 = .ok (.iload_n 1, 1) := dk_27 (dk_at dksX1_save_0 21 rfl rfl)
theorem dX1_save_22 : decode cX1_save 22 = .ok (.imul, 1) := dk_104 (dk_at dksX1_save_0 22 rfl rfl)
theorem dX1_save_23 : decode cX1_save 23 = .ok (.aload_n 0, 1) := dk_42 (dk_at dksX1_save_0 23 rfl rfl)
theorem dX1_save_24 : decode cX1_save 24 = .ok (.getfield 25, 3) := dk_180 0 25 (dk_at dksX1_save_1 0 rfl rfl)
theorem dX1_save_27 : decode cX1_save 27 = .ok (.iload_n 1, 1) := dk_27 (dk_at dksX1_save_1 3 rfl rfl)
theorem dX1_save_28 : decode cX1_save 28 = .ok (.iaload, 1) := dk_46 (dk_at dksX1_save_1 4 rfl rfl)
theorem dX1_save_29 : decode cX1_save 29 = .ok (.iadd, 1) := dk_96 (dk_at dksX1_save_1 5 rfl rfl)
theorem dX1_save_30 : decode cX1_save 30 = .ok (.iaload, 1) := dk_46 (dk_at dksX1_save_1 6 rfl rfl)
theorem dX1_save_31 : decode cX1_save 31 = .ok (.putfield 168, 3) := dk_181 0 168 (dk_at dksX1_save_1 7 rfl rfl)
theorem dX1_save_34 : decode cX1_save 34 = .ok (.return_, 1) := dk_177 (dk_at dksX1_save_1 10 rfl rfl)
abbrev cX1_load : ByteArray := prog_9_method_37_code
def yX1_load : MethodName := ⟨RX1, "load", "(I)V"⟩
def dkwX1_load_1 : List UInt8 := [180, 0, 25, 27, 46, 96, 42, 180, 0, 168, 79, 177]
abbrev dktX1_load_1 : List UInt8 := dkwX1_load_1 ++ []
def dkwX1_load_0 : List UInt8 := [42, 180, 0, 16, 42, 180, 0, 25, 27, 46, 42, 180, 0, 165, 79, 42, 180, 0, 31, 6, 27, 104, 42]
abbrev dktX1_load_0 : List UInt8 := dkwX1_load_0 ++ dktX1_load_1
theorem dksX1_load_0 : cX1_load.data.toList.drop 0 = dktX1_load_0 := by decide +kernel
theorem dksX1_load_1 : cX1_load.data.toList.drop 23 = dktX1_load_1 := dk_seg dksX1_load_0 23 rfl rfl
theorem dX1_load_0 : decode cX1_load 0 = .ok (.aload_n 0, 1) := dk_42 (dk_at dksX1_load_0 0 rfl rfl)
theorem dX1_load_1 : decode cX1_load 1 = .ok (.getfield 16, 3) := dk_180 0 16 (dk_at dksX1_load_0 1 rfl rfl)
theorem dX1_load_4 : decode cX1_load 4 = .ok (.aload_n 0, 1) := dk_42 (dk_at dksX1_load_0 4 rfl rfl)
theorem dX1_load_5 : decode cX1_load 5 = .ok (.getfield 25, 3) := dk_180 0 25 (dk_at dksX1_load_0 5 rfl rfl)
theorem dX1_load_8 : decode cX1_load 8 = .ok (.iload_n 1, 1) := dk_27 (dk_at dksX1_load_0 8 rfl rfl)
theorem dX1_load_9 : decode cX1_load 9 = .ok (.iaload, 1) := dk_46 (dk_at dksX1_load_0 9 rfl rfl)
theorem dX1_load_10 : decode cX1_load 10 = .ok (.aload_n 0, 1) := dk_42 (dk_at dksX1_load_0 10 rfl rfl)
theorem dX1_load_11 : decode cX1_load 11 = .ok (.getfield 165, 3) := dk_180 0 165 (dk_at dksX1_load_0 11 rfl rfl)
theorem dX1_load_14 : decode cX1_load 14 = .ok (.iastore, 1) := dk_79 (dk_at dksX1_load_0 14 rfl rfl)
theorem dX1_load_15 : decode cX1_load 15 = .ok (.aload_n 0, 1) := dk_42 (dk_at dksX1_load_0 15 rfl rfl)
theorem dX1_load_16 : decode cX1_load 16 = .ok (.getfield 31, 3) := dk_180 0 31 (dk_at dksX1_load_0 16 rfl rfl)
theorem dX1_load_19 : decode cX1_load 19 = .ok (.iconst 3, 1) := dk_6 (dk_at dksX1_load_0 19 rfl rfl)
theorem dX1_load_20 : decode cX1_load 20 = .ok (.iload_n 1, 1) := dk_27 (dk_at dksX1_load_0 20 rfl rfl)
theorem dX1_load_21 : decode cX1_load 21 = .ok (.imul, 1) := dk_104 (dk_at dksX1_load_0 21 rfl rfl)
theorem dX1_load_22 : decode cX1_load 22 = .ok (.aload_n 0, 1) := dk_42 (dk_at dksX1_load_0 22 rfl rfl)
theorem dX1_load_23 : decode cX1_load 23 = .ok (.getfield 25, 3) := dk_180 0 25 (dk_at dksX1_load_1 0 rfl rfl)
theorem dX1_load_26 : decode cX1_load 26 = .ok (.iload_n 1, 1) := dk_27 (dk_at dksX1_load_1 3 rfl rfl)
theorem dX1_load_27 : decode cX1_load 27 = .ok (.iaload, 1) := dk_46 (dk_at dksX1_load_1 4 rfl rfl)
theorem dX1_load_28 : decode cX1_load 28 = .ok (.iadd, 1) := dk_96 (dk_at dksX1_load_1 5 rfl rfl)
theorem dX1_load_29 : decode cX1_load 29 = .ok (.aload_n 0, 1) := dk_42 (dk_at dksX1_load_1 6 rfl rfl)
theorem dX1_load_30 : decode cX1_load 30 = .ok (.getfield 168, 3) := dk_180 0 168 (dk_at dksX1_load_1 7 rfl rfl)
theorem dX1_load_33 : decode cX1_load 33 = .ok (.iastore, 1) := dk_79 (dk_at dksX1_load_1 10 rfl rfl)
theorem dX1_load_34 : decode cX1_load 34 = .ok (.return_, 1) := dk_177 (dk_at dksX1_load_1 11 rfl rfl)
abbrev cX1_lowest : ByteArray := prog_9_method_6_code
def yX1_lowest : MethodName := ⟨RX1, "lowest", "(JJI)J"⟩
def dkwX1_lowest_1 : List UInt8 := [22, 9, 55, 7, 167, 255, 234, 21, 4, 154, 0, 10, 30, 22, 5, 109, 167, 0, 7, 32, 22, 5, 109, 173]
abbrev dktX1_lowest_1 : List UInt8 := dkwX1_lowest_1 ++ []
def dkwX1_lowest_0 : List UInt8 := [30, 55, 5, 32, 55, 7, 22, 7, 9, 148, 153, 0, 21, 22, 5, 22, 7, 113, 55, 9, 22, 7, 55, 5]
abbrev dktX1_lowest_0 : List UInt8 := dkwX1_lowest_0 ++ dktX1_lowest_1
theorem dksX1_lowest_0 : cX1_lowest.data.toList.drop 0 = dktX1_lowest_0 := by decide +kernel
theorem dksX1_lowest_1 : cX1_lowest.data.toList.drop 24 = dktX1_lowest_1 := dk_seg dksX1_lowest_0 24 rfl rfl
theorem dX1_lowest_0 : decode cX1_lowest 0 = .ok (.lload_n 0, 1) := dk_30 (dk_at dksX1_lowest_0 0 rfl rfl)
theorem dX1_lowest_1 : decode cX1_lowest 1 = .ok (.lstore 5, 2) := dk_55 5 (dk_at dksX1_lowest_0 1 rfl rfl)
theorem dX1_lowest_3 : decode cX1_lowest 3 = .ok (.lload_n 2, 1) := dk_32 (dk_at dksX1_lowest_0 3 rfl rfl)
theorem dX1_lowest_4 : decode cX1_lowest 4 = .ok (.lstore 7, 2) := dk_55 7 (dk_at dksX1_lowest_0 4 rfl rfl)
theorem dX1_lowest_6 : decode cX1_lowest 6 = .ok (.lload 7, 2) := dk_22 7 (dk_at dksX1_lowest_0 6 rfl rfl)
theorem dX1_lowest_8 : decode cX1_lowest 8 = .ok (.lconst 0, 1) := dk_9 (dk_at dksX1_lowest_0 8 rfl rfl)
theorem dX1_lowest_9 : decode cX1_lowest 9 = .ok (.lcmp, 1) := dk_148 (dk_at dksX1_lowest_0 9 rfl rfl)
theorem dX1_lowest_10 : decode cX1_lowest 10 = .ok (.ifCond .eq 21, 3) := dk_153 0 21 (dk_at dksX1_lowest_0 10 rfl rfl)
theorem dX1_lowest_13 : decode cX1_lowest 13 = .ok (.lload 5, 2) := dk_22 5 (dk_at dksX1_lowest_0 13 rfl rfl)
theorem dX1_lowest_15 : decode cX1_lowest 15 = .ok (.lload 7, 2) := dk_22 7 (dk_at dksX1_lowest_0 15 rfl rfl)
theorem dX1_lowest_17 : decode cX1_lowest 17 = .ok (.lrem, 1) := dk_113 (dk_at dksX1_lowest_0 17 rfl rfl)
theorem dX1_lowest_18 : decode cX1_lowest 18 = .ok (.lstore 9, 2) := dk_55 9 (dk_at dksX1_lowest_0 18 rfl rfl)
theorem dX1_lowest_20 : decode cX1_lowest 20 = .ok (.lload 7, 2) := dk_22 7 (dk_at dksX1_lowest_0 20 rfl rfl)
theorem dX1_lowest_22 : decode cX1_lowest 22 = .ok (.lstore 5, 2) := dk_55 5 (dk_at dksX1_lowest_0 22 rfl rfl)
theorem dX1_lowest_24 : decode cX1_lowest 24 = .ok (.lload 9, 2) := dk_22 9 (dk_at dksX1_lowest_1 0 rfl rfl)
theorem dX1_lowest_26 : decode cX1_lowest 26 = .ok (.lstore 7, 2) := dk_55 7 (dk_at dksX1_lowest_1 2 rfl rfl)
theorem dX1_lowest_28 : decode cX1_lowest 28 = .ok (.goto (-22), 3) := dk_167 255 234 (dk_at dksX1_lowest_1 4 rfl rfl)
theorem dX1_lowest_31 : decode cX1_lowest 31 = .ok (.iload 4, 2) := dk_21 4 (dk_at dksX1_lowest_1 7 rfl rfl)
theorem dX1_lowest_33 : decode cX1_lowest 33 = .ok (.ifCond .ne 10, 3) := dk_154 0 10 (dk_at dksX1_lowest_1 9 rfl rfl)
theorem dX1_lowest_36 : decode cX1_lowest 36 = .ok (.lload_n 0, 1) := dk_30 (dk_at dksX1_lowest_1 12 rfl rfl)
theorem dX1_lowest_37 : decode cX1_lowest 37 = .ok (.lload 5, 2) := dk_22 5 (dk_at dksX1_lowest_1 13 rfl rfl)
theorem dX1_lowest_39 : decode cX1_lowest 39 = .ok (.ldiv, 1) := dk_109 (dk_at dksX1_lowest_1 15 rfl rfl)
theorem dX1_lowest_40 : decode cX1_lowest 40 = .ok (.goto 7, 3) := dk_167 0 7 (dk_at dksX1_lowest_1 16 rfl rfl)
theorem dX1_lowest_43 : decode cX1_lowest 43 = .ok (.lload_n 2, 1) := dk_32 (dk_at dksX1_lowest_1 19 rfl rfl)
theorem dX1_lowest_44 : decode cX1_lowest 44 = .ok (.lload 5, 2) := dk_22 5 (dk_at dksX1_lowest_1 20 rfl rfl)
theorem dX1_lowest_46 : decode cX1_lowest 46 = .ok (.ldiv, 1) := dk_109 (dk_at dksX1_lowest_1 22 rfl rfl)
theorem dX1_lowest_47 : decode cX1_lowest 47 = .ok (.lreturn, 1) := dk_173 (dk_at dksX1_lowest_1 23 rfl rfl)
abbrev cX1_match : ByteArray := prog_9_method_46_code
def yX1_match : MethodName := ⟨RX1, "match", "(II)I"⟩
def dkwX1_match_1 : List UInt8 := [16, 12, 184, 0, 77, 153, 0, 12, 42, 27, 28, 182, 0, 219, 167, 0, 5, 16, 154, 172]
abbrev dktX1_match_1 : List UInt8 := dkwX1_match_1 ++ []
def dkwX1_match_0 : List UInt8 := [42, 27, 182, 0, 128, 154, 0, 6, 16, 155, 172, 28, 3, 4, 184, 0, 77, 154, 0, 14, 28, 16, 10]
abbrev dktX1_match_0 : List UInt8 := dkwX1_match_0 ++ dktX1_match_1
theorem dksX1_match_0 : cX1_match.data.toList.drop 0 = dktX1_match_0 := by decide +kernel
theorem dksX1_match_1 : cX1_match.data.toList.drop 23 = dktX1_match_1 := dk_seg dksX1_match_0 23 rfl rfl
theorem dX1_match_0 : decode cX1_match 0 = .ok (.aload_n 0, 1) := dk_42 (dk_at dksX1_match_0 0 rfl rfl)
theorem dX1_match_1 : decode cX1_match 1 = .ok (.iload_n 1, 1) := dk_27 (dk_at dksX1_match_0 1 rfl rfl)
theorem dX1_match_2 : decode cX1_match 2 = .ok (.invokevirtual 128, 3) := dk_182 0 128 (dk_at dksX1_match_0 2 rfl rfl)
theorem dX1_match_5 : decode cX1_match 5 = .ok (.ifCond .ne 6, 3) := dk_154 0 6 (dk_at dksX1_match_0 5 rfl rfl)
theorem dX1_match_8 : decode cX1_match 8 = .ok (.bipush (-101), 2) := dk_16 155 (dk_at dksX1_match_0 8 rfl rfl)
theorem dX1_match_10 : decode cX1_match 10 = .ok (.ireturn, 1) := dk_172 (dk_at dksX1_match_0 10 rfl rfl)
theorem dX1_match_11 : decode cX1_match 11 = .ok (.iload_n 2, 1) := dk_28 (dk_at dksX1_match_0 11 rfl rfl)
theorem dX1_match_12 : decode cX1_match 12 = .ok (.iconst 0, 1) := dk_3 (dk_at dksX1_match_0 12 rfl rfl)
theorem dX1_match_13 : decode cX1_match 13 = .ok (.iconst 1, 1) := dk_4 (dk_at dksX1_match_0 13 rfl rfl)
theorem dX1_match_14 : decode cX1_match 14 = .ok (.invokestatic 77, 3) := dk_184 0 77 (dk_at dksX1_match_0 14 rfl rfl)
theorem dX1_match_17 : decode cX1_match 17 = .ok (.ifCond .ne 14, 3) := dk_154 0 14 (dk_at dksX1_match_0 17 rfl rfl)
theorem dX1_match_20 : decode cX1_match 20 = .ok (.iload_n 2, 1) := dk_28 (dk_at dksX1_match_0 20 rfl rfl)
theorem dX1_match_21 : decode cX1_match 21 = .ok (.bipush 10, 2) := dk_16 10 (dk_at dksX1_match_0 21 rfl rfl)
theorem dX1_match_23 : decode cX1_match 23 = .ok (.bipush 12, 2) := dk_16 12 (dk_at dksX1_match_1 0 rfl rfl)
theorem dX1_match_25 : decode cX1_match 25 = .ok (.invokestatic 77, 3) := dk_184 0 77 (dk_at dksX1_match_1 2 rfl rfl)
theorem dX1_match_28 : decode cX1_match 28 = .ok (.ifCond .eq 12, 3) := dk_153 0 12 (dk_at dksX1_match_1 5 rfl rfl)
theorem dX1_match_31 : decode cX1_match 31 = .ok (.aload_n 0, 1) := dk_42 (dk_at dksX1_match_1 8 rfl rfl)
theorem dX1_match_32 : decode cX1_match 32 = .ok (.iload_n 1, 1) := dk_27 (dk_at dksX1_match_1 9 rfl rfl)
theorem dX1_match_33 : decode cX1_match 33 = .ok (.iload_n 2, 1) := dk_28 (dk_at dksX1_match_1 10 rfl rfl)
theorem dX1_match_34 : decode cX1_match 34 = .ok (.invokevirtual 219, 3) := dk_182 0 219 (dk_at dksX1_match_1 11 rfl rfl)
theorem dX1_match_37 : decode cX1_match 37 = .ok (.goto 5, 3) := dk_167 0 5 (dk_at dksX1_match_1 14 rfl rfl)
theorem dX1_match_40 : decode cX1_match 40 = .ok (.bipush (-102), 2) := dk_16 154 (dk_at dksX1_match_1 17 rfl rfl)
theorem dX1_match_42 : decode cX1_match 42 = .ok (.ireturn, 1) := dk_172 (dk_at dksX1_match_1 19 rfl rfl)
abbrev cX1_matchNow : ByteArray := prog_9_method_45_code
def yX1_matchNow : MethodName := ⟨RX1, "matchNow", "(II)I"⟩
def dkwX1_matchNow_5 : List UInt8 := [21, 4, 28, 16, 10, 100, 182, 0, 212, 167, 0, 4, 2, 172]
abbrev dktX1_matchNow_5 : List UInt8 := dkwX1_matchNow_5 ++ []
def dkwX1_matchNow_4 : List UInt8 := [21, 5, 133, 20, 0, 185, 28, 184, 0, 194, 136, 172, 42, 28, 16, 10, 100, 182, 0, 149, 153, 0, 16, 42]
abbrev dktX1_matchNow_4 : List UInt8 := dkwX1_matchNow_4 ++ dktX1_matchNow_5
def dkwX1_matchNow_3 : List UInt8 := [162, 0, 8, 21, 7, 167, 0, 5, 21, 5, 54, 5, 132, 6, 1, 167, 255, 206, 28, 5, 162, 0, 15]
abbrev dktX1_matchNow_3 : List UInt8 := dkwX1_matchNow_3 ++ dktX1_matchNow_4
def dkwX1_matchNow_2 : List UInt8 := [54, 7, 21, 7, 21, 5, 162, 0, 8, 21, 6, 167, 0, 5, 21, 4, 54, 4, 21, 7, 21, 5]
abbrev dktX1_matchNow_2 : List UInt8 := dkwX1_matchNow_2 ++ dktX1_matchNow_3
def dkwX1_matchNow_1 : List UInt8 := [2, 54, 4, 18, 215, 54, 5, 3, 54, 6, 21, 6, 29, 162, 0, 50, 42, 27, 21, 6, 182, 0, 216]
abbrev dktX1_matchNow_1 : List UInt8 := dkwX1_matchNow_1 ++ dktX1_matchNow_2
def dkwX1_matchNow_0 : List UInt8 := [4, 62, 3, 54, 4, 21, 4, 42, 180, 0, 116, 162, 0, 13, 29, 6, 104, 62, 132, 4, 1, 167, 255, 240]
abbrev dktX1_matchNow_0 : List UInt8 := dkwX1_matchNow_0 ++ dktX1_matchNow_1
theorem dksX1_matchNow_0 : cX1_matchNow.data.toList.drop 0 = dktX1_matchNow_0 := by decide +kernel
theorem dksX1_matchNow_1 : cX1_matchNow.data.toList.drop 24 = dktX1_matchNow_1 := dk_seg dksX1_matchNow_0 24 rfl rfl
theorem dksX1_matchNow_2 : cX1_matchNow.data.toList.drop 47 = dktX1_matchNow_2 := dk_seg dksX1_matchNow_1 23 rfl rfl
theorem dksX1_matchNow_3 : cX1_matchNow.data.toList.drop 69 = dktX1_matchNow_3 := dk_seg dksX1_matchNow_2 22 rfl rfl
theorem dksX1_matchNow_4 : cX1_matchNow.data.toList.drop 92 = dktX1_matchNow_4 := dk_seg dksX1_matchNow_3 23 rfl rfl
theorem dksX1_matchNow_5 : cX1_matchNow.data.toList.drop 116 = dktX1_matchNow_5 := dk_seg dksX1_matchNow_4 24 rfl rfl
theorem dX1_matchNow_0 : decode cX1_matchNow 0 = .ok (.iconst 1, 1) := dk_4 (dk_at dksX1_matchNow_0 0 rfl rfl)
theorem dX1_matchNow_1 : decode cX1_matchNow 1 = .ok (.istore_n 3, 1) := dk_62 (dk_at dksX1_matchNow_0 1 rfl rfl)
theorem dX1_matchNow_2 : decode cX1_matchNow 2 = .ok (.iconst 0, 1) := dk_3 (dk_at dksX1_matchNow_0 2 rfl rfl)
theorem dX1_matchNow_3 : decode cX1_matchNow 3 = .ok (.istore 4, 2) := dk_54 4 (dk_at dksX1_matchNow_0 3 rfl rfl)
theorem dX1_matchNow_5 : decode cX1_matchNow 5 = .ok (.iload 4, 2) := dk_21 4 (dk_at dksX1_matchNow_0 5 rfl rfl)
theorem dX1_matchNow_7 : decode cX1_matchNow 7 = .ok (.aload_n 0, 1) := dk_42 (dk_at dksX1_matchNow_0 7 rfl rfl)
theorem dX1_matchNow_8 : decode cX1_matchNow 8 = .ok (.getfield 116, 3) := dk_180 0 116 (dk_at dksX1_matchNow_0 8 rfl rfl)
theorem dX1_matchNow_11 : decode cX1_matchNow 11 = .ok (.if_icmp .ge 13, 3) := dk_162 0 13 (dk_at dksX1_matchNow_0 11 rfl rfl)
theorem dX1_matchNow_14 : decode cX1_matchNow 14 = .ok (.iload_n 3, 1) := dk_29 (dk_at dksX1_matchNow_0 14 rfl rfl)
theorem dX1_matchNow_15 : decode cX1_matchNow 15 = .ok (.iconst 3, 1) := dk_6 (dk_at dksX1_matchNow_0 15 rfl rfl)
theorem dX1_matchNow_16 : decode cX1_matchNow 16 = .ok (.imul, 1) := dk_104 (dk_at dksX1_matchNow_0 16 rfl rfl)
theorem dX1_matchNow_17 : decode cX1_matchNow 17 = .ok (.istore_n 3, 1) := dk_62 (dk_at dksX1_matchNow_0 17 rfl rfl)
theorem dX1_matchNow_18 : decode cX1_matchNow 18 = .ok (.iinc 4 1, 3) := dk_132 4 1 (dk_at dksX1_matchNow_0 18 rfl rfl)
theorem dX1_matchNow_21 : decode cX1_matchNow 21 = .ok (.goto (-16), 3) := dk_167 255 240 (dk_at dksX1_matchNow_0 21 rfl rfl)
theorem dX1_matchNow_24 : decode cX1_matchNow 24 = .ok (.iconst (-1), 1) := dk_2 (dk_at dksX1_matchNow_1 0 rfl rfl)
theorem dX1_matchNow_25 : decode cX1_matchNow 25 = .ok (.istore 4, 2) := dk_54 4 (dk_at dksX1_matchNow_1 1 rfl rfl)
theorem dX1_matchNow_27 : decode cX1_matchNow 27 = .ok (.ldc 215, 2) := dk_18 215 (dk_at dksX1_matchNow_1 3 rfl rfl)
theorem dX1_matchNow_29 : decode cX1_matchNow 29 = .ok (.istore 5, 2) := dk_54 5 (dk_at dksX1_matchNow_1 5 rfl rfl)
theorem dX1_matchNow_31 : decode cX1_matchNow 31 = .ok (.iconst 0, 1) := dk_3 (dk_at dksX1_matchNow_1 7 rfl rfl)
theorem dX1_matchNow_32 : decode cX1_matchNow 32 = .ok (.istore 6, 2) := dk_54 6 (dk_at dksX1_matchNow_1 8 rfl rfl)
theorem dX1_matchNow_34 : decode cX1_matchNow 34 = .ok (.iload 6, 2) := dk_21 6 (dk_at dksX1_matchNow_1 10 rfl rfl)
theorem dX1_matchNow_36 : decode cX1_matchNow 36 = .ok (.iload_n 3, 1) := dk_29 (dk_at dksX1_matchNow_1 12 rfl rfl)
theorem dX1_matchNow_37 : decode cX1_matchNow 37 = .ok (.if_icmp .ge 50, 3) := dk_162 0 50 (dk_at dksX1_matchNow_1 13 rfl rfl)
theorem dX1_matchNow_40 : decode cX1_matchNow 40 = .ok (.aload_n 0, 1) := dk_42 (dk_at dksX1_matchNow_1 16 rfl rfl)
theorem dX1_matchNow_41 : decode cX1_matchNow 41 = .ok (.iload_n 1, 1) := dk_27 (dk_at dksX1_matchNow_1 17 rfl rfl)
theorem dX1_matchNow_42 : decode cX1_matchNow 42 = .ok (.iload 6, 2) := dk_21 6 (dk_at dksX1_matchNow_1 18 rfl rfl)
theorem dX1_matchNow_44 : decode cX1_matchNow 44 = .ok (.invokevirtual 216, 3) := dk_182 0 216 (dk_at dksX1_matchNow_1 20 rfl rfl)
theorem dX1_matchNow_47 : decode cX1_matchNow 47 = .ok (.istore 7, 2) := dk_54 7 (dk_at dksX1_matchNow_2 0 rfl rfl)
theorem dX1_matchNow_49 : decode cX1_matchNow 49 = .ok (.iload 7, 2) := dk_21 7 (dk_at dksX1_matchNow_2 2 rfl rfl)
theorem dX1_matchNow_51 : decode cX1_matchNow 51 = .ok (.iload 5, 2) := dk_21 5 (dk_at dksX1_matchNow_2 4 rfl rfl)
theorem dX1_matchNow_53 : decode cX1_matchNow 53 = .ok (.if_icmp .ge 8, 3) := dk_162 0 8 (dk_at dksX1_matchNow_2 6 rfl rfl)
theorem dX1_matchNow_56 : decode cX1_matchNow 56 = .ok (.iload 6, 2) := dk_21 6 (dk_at dksX1_matchNow_2 9 rfl rfl)
theorem dX1_matchNow_58 : decode cX1_matchNow 58 = .ok (.goto 5, 3) := dk_167 0 5 (dk_at dksX1_matchNow_2 11 rfl rfl)
theorem dX1_matchNow_61 : decode cX1_matchNow 61 = .ok (.iload 4, 2) := dk_21 4 (dk_at dksX1_matchNow_2 14 rfl rfl)
theorem dX1_matchNow_63 : decode cX1_matchNow 63 = .ok (.istore 4, 2) := dk_54 4 (dk_at dksX1_matchNow_2 16 rfl rfl)
theorem dX1_matchNow_65 : decode cX1_matchNow 65 = .ok (.iload 7, 2) := dk_21 7 (dk_at dksX1_matchNow_2 18 rfl rfl)
theorem dX1_matchNow_67 : decode cX1_matchNow 67 = .ok (.iload 5, 2) := dk_21 5 (dk_at dksX1_matchNow_2 20 rfl rfl)
theorem dX1_matchNow_69 : decode cX1_matchNow 69 = .ok (.if_icmp .ge 8, 3) := dk_162 0 8 (dk_at dksX1_matchNow_3 0 rfl rfl)
theorem dX1_matchNow_72 : decode cX1_matchNow 72 = .ok (.iload 7, 2) := dk_21 7 (dk_at dksX1_matchNow_3 3 rfl rfl)
theorem dX1_matchNow_74 : decode cX1_matchNow 74 = .ok (.goto 5, 3) := dk_167 0 5 (dk_at dksX1_matchNow_3 5 rfl rfl)
theorem dX1_matchNow_77 : decode cX1_matchNow 77 = .ok (.iload 5, 2) := dk_21 5 (dk_at dksX1_matchNow_3 8 rfl rfl)
theorem dX1_matchNow_79 : decode cX1_matchNow 79 = .ok (.istore 5, 2) := dk_54 5 (dk_at dksX1_matchNow_3 10 rfl rfl)
theorem dX1_matchNow_81 : decode cX1_matchNow 81 = .ok (.iinc 6 1, 3) := dk_132 6 1 (dk_at dksX1_matchNow_3 12 rfl rfl)
theorem dX1_matchNow_84 : decode cX1_matchNow 84 = .ok (.goto (-50), 3) := dk_167 255 206 (dk_at dksX1_matchNow_3 15 rfl rfl)
theorem dX1_matchNow_87 : decode cX1_matchNow 87 = .ok (.iload_n 2, 1) := dk_28 (dk_at dksX1_matchNow_3 18 rfl rfl)
theorem dX1_matchNow_88 : decode cX1_matchNow 88 = .ok (.iconst 2, 1) := dk_5 (dk_at dksX1_matchNow_3 19 rfl rfl)
theorem dX1_matchNow_89 : decode cX1_matchNow 89 = .ok (.if_icmp .ge 15, 3) := dk_162 0 15 (dk_at dksX1_matchNow_3 20 rfl rfl)
theorem dX1_matchNow_92 : decode cX1_matchNow 92 = .ok (.iload 5, 2) := dk_21 5 (dk_at dksX1_matchNow_4 0 rfl rfl)
theorem dX1_matchNow_94 : decode cX1_matchNow 94 = .ok (.i2l, 1) := dk_133 (dk_at dksX1_matchNow_4 2 rfl rfl)
theorem dX1_matchNow_95 : decode cX1_matchNow 95 = .ok (.ldc2_w 185, 3) := dk_20 0 185 (dk_at dksX1_matchNow_4 3 rfl rfl)
theorem dX1_matchNow_98 : decode cX1_matchNow 98 = .ok (.iload_n 2, 1) := dk_28 (dk_at dksX1_matchNow_4 6 rfl rfl)
theorem dX1_matchNow_99 : decode cX1_matchNow 99 = .ok (.invokestatic 194, 3) := dk_184 0 194 (dk_at dksX1_matchNow_4 7 rfl rfl)
theorem dX1_matchNow_102 : decode cX1_matchNow 102 = .ok (.l2i, 1) := dk_136 (dk_at dksX1_matchNow_4 10 rfl rfl)
theorem dX1_matchNow_103 : decode cX1_matchNow 103 = .ok (.ireturn, 1) := dk_172 (dk_at dksX1_matchNow_4 11 rfl rfl)
theorem dX1_matchNow_104 : decode cX1_matchNow 104 = .ok (.aload_n 0, 1) := dk_42 (dk_at dksX1_matchNow_4 12 rfl rfl)
theorem dX1_matchNow_105 : decode cX1_matchNow 105 = .ok (.iload_n 2, 1) := dk_28 (dk_at dksX1_matchNow_4 13 rfl rfl)
theorem dX1_matchNow_106 : decode cX1_matchNow 106 = .ok (.bipush 10, 2) := dk_16 10 (dk_at dksX1_matchNow_4 14 rfl rfl)
theorem dX1_matchNow_108 : decode cX1_matchNow 108 = .ok (.isub, 1) := dk_100 (dk_at dksX1_matchNow_4 16 rfl rfl)
theorem dX1_matchNow_109 : decode cX1_matchNow 109 = .ok (.invokevirtual 149, 3) := dk_182 0 149 (dk_at dksX1_matchNow_4 17 rfl rfl)
theorem dX1_matchNow_112 : decode cX1_matchNow 112 = .ok (.ifCond .eq 16, 3) := dk_153 0 16 (dk_at dksX1_matchNow_4 20 rfl rfl)
theorem dX1_matchNow_115 : decode cX1_matchNow 115 = .ok (.aload_n 0, 1) := dk_42 (dk_at dksX1_matchNow_4 23 rfl rfl)
theorem dX1_matchNow_116 : decode cX1_matchNow 116 = .ok (.iload 4, 2) := dk_21 4 (dk_at dksX1_matchNow_5 0 rfl rfl)
theorem dX1_matchNow_118 : decode cX1_matchNow 118 = .ok (.iload_n 2, 1) := dk_28 (dk_at dksX1_matchNow_5 2 rfl rfl)
theorem dX1_matchNow_119 : decode cX1_matchNow 119 = .ok (.bipush 10, 2) := dk_16 10 (dk_at dksX1_matchNow_5 3 rfl rfl)
theorem dX1_matchNow_121 : decode cX1_matchNow 121 = .ok (.isub, 1) := dk_100 (dk_at dksX1_matchNow_5 5 rfl rfl)
theorem dX1_matchNow_122 : decode cX1_matchNow 122 = .ok (.invokevirtual 212, 3) := dk_182 0 212 (dk_at dksX1_matchNow_5 6 rfl rfl)
theorem dX1_matchNow_125 : decode cX1_matchNow 125 = .ok (.goto 4, 3) := dk_167 0 4 (dk_at dksX1_matchNow_5 9 rfl rfl)
theorem dX1_matchNow_128 : decode cX1_matchNow 128 = .ok (.iconst (-1), 1) := dk_2 (dk_at dksX1_matchNow_5 12 rfl rfl)
theorem dX1_matchNow_129 : decode cX1_matchNow 129 = .ok (.ireturn, 1) := dk_172 (dk_at dksX1_matchNow_5 13 rfl rfl)
abbrev cX1_matchBy : ByteArray := prog_9_method_44_code
def yX1_matchBy : MethodName := ⟨RX1, "matchBy", "(II)I"⟩
def dkwX1_matchBy_3 : List UInt8 := [180, 0, 13, 27, 46, 104, 96, 54, 4, 132, 5, 1, 167, 255, 182, 21, 4, 172]
abbrev dktX1_matchBy_3 : List UInt8 := dkwX1_matchBy_3 ++ []
def dkwX1_matchBy_2 : List UInt8 := [16, 10, 42, 21, 5, 27, 42, 180, 0, 31, 6, 21, 5, 104, 21, 6, 96, 46, 182, 0, 142, 100, 42]
abbrev dktX1_matchBy_2 : List UInt8 := dkwX1_matchBy_2 ++ dktX1_matchBy_3
def dkwX1_matchBy_1 : List UInt8 := [54, 6, 29, 21, 6, 184, 0, 122, 153, 0, 6, 18, 215, 172, 29, 4, 21, 6, 120, 128, 62, 21, 4]
abbrev dktX1_matchBy_1 : List UInt8 := dkwX1_matchBy_1 ++ dktX1_matchBy_2
def dkwX1_matchBy_0 : List UInt8 := [3, 62, 3, 54, 4, 3, 54, 5, 21, 5, 42, 180, 0, 116, 162, 0, 71, 42, 28, 21, 5, 182, 0, 212]
abbrev dktX1_matchBy_0 : List UInt8 := dkwX1_matchBy_0 ++ dktX1_matchBy_1
theorem dksX1_matchBy_0 : cX1_matchBy.data.toList.drop 0 = dktX1_matchBy_0 := by decide +kernel
theorem dksX1_matchBy_1 : cX1_matchBy.data.toList.drop 24 = dktX1_matchBy_1 := dk_seg dksX1_matchBy_0 24 rfl rfl
theorem dksX1_matchBy_2 : cX1_matchBy.data.toList.drop 47 = dktX1_matchBy_2 := dk_seg dksX1_matchBy_1 23 rfl rfl
theorem dksX1_matchBy_3 : cX1_matchBy.data.toList.drop 70 = dktX1_matchBy_3 := dk_seg dksX1_matchBy_2 23 rfl rfl
theorem dX1_matchBy_0 : decode cX1_matchBy 0 = .ok (.iconst 0, 1) := dk_3 (dk_at dksX1_matchBy_0 0 rfl rfl)
theorem dX1_matchBy_1 : decode cX1_matchBy 1 = .ok (.istore_n 3, 1) := dk_62 (dk_at dksX1_matchBy_0 1 rfl rfl)
theorem dX1_matchBy_2 : decode cX1_matchBy 2 = .ok (.iconst 0, 1) := dk_3 (dk_at dksX1_matchBy_0 2 rfl rfl)
theorem dX1_matchBy_3 : decode cX1_matchBy 3 = .ok (.istore 4, 2) := dk_54 4 (dk_at dksX1_matchBy_0 3 rfl rfl)
theorem dX1_matchBy_5 : decode cX1_matchBy 5 = .ok (.iconst 0, 1) := dk_3 (dk_at dksX1_matchBy_0 5 rfl rfl)
theorem dX1_matchBy_6 : decode cX1_matchBy 6 = .ok (.istore 5, 2) := dk_54 5 (dk_at dksX1_matchBy_0 6 rfl rfl)
theorem dX1_matchBy_8 : decode cX1_matchBy 8 = .ok (.iload 5, 2) := dk_21 5 (dk_at dksX1_matchBy_0 8 rfl rfl)
theorem dX1_matchBy_10 : decode cX1_matchBy 10 = .ok (.aload_n 0, 1) := dk_42 (dk_at dksX1_matchBy_0 10 rfl rfl)
theorem dX1_matchBy_11 : decode cX1_matchBy 11 = .ok (.getfield 116, 3) := dk_180 0 116 (dk_at dksX1_matchBy_0 11 rfl rfl)
theorem dX1_matchBy_14 : decode cX1_matchBy 14 = .ok (.if_icmp .ge 71, 3) := dk_162 0 71 (dk_at dksX1_matchBy_0 14 rfl rfl)
theorem dX1_matchBy_17 : decode cX1_matchBy 17 = .ok (.aload_n 0, 1) := dk_42 (dk_at dksX1_matchBy_0 17 rfl rfl)
theorem dX1_matchBy_18 : decode cX1_matchBy 18 = .ok (.iload_n 2, 1) := dk_28 (dk_at dksX1_matchBy_0 18 rfl rfl)
theorem dX1_matchBy_19 : decode cX1_matchBy 19 = .ok (.iload 5, 2) := dk_21 5 (dk_at dksX1_matchBy_0 19 rfl rfl)
theorem dX1_matchBy_21 : decode cX1_matchBy 21 = .ok (.invokevirtual 212, 3) := dk_182 0 212 (dk_at dksX1_matchBy_0 21 rfl rfl)
theorem dX1_matchBy_24 : decode cX1_matchBy 24 = .ok (.istore 6, 2) := dk_54 6 (dk_at dksX1_matchBy_1 0 rfl rfl)
theorem dX1_matchBy_26 : decode cX1_matchBy 26 = .ok (.iload_n 3, 1) := dk_29 (dk_at dksX1_matchBy_1 2 rfl rfl)
theorem dX1_matchBy_27 : decode cX1_matchBy 27 = .ok (.iload 6, 2) := dk_21 6 (dk_at dksX1_matchBy_1 3 rfl rfl)
theorem dX1_matchBy_29 : decode cX1_matchBy 29 = .ok (.invokestatic 122, 3) := dk_184 0 122 (dk_at dksX1_matchBy_1 5 rfl rfl)
theorem dX1_matchBy_32 : decode cX1_matchBy 32 = .ok (.ifCond .eq 6, 3) := dk_153 0 6 (dk_at dksX1_matchBy_1 8 rfl rfl)
theorem dX1_matchBy_35 : decode cX1_matchBy 35 = .ok (.ldc 215, 2) := dk_18 215 (dk_at dksX1_matchBy_1 11 rfl rfl)
theorem dX1_matchBy_37 : decode cX1_matchBy 37 = .ok (.ireturn, 1) := dk_172 (dk_at dksX1_matchBy_1 13 rfl rfl)
theorem dX1_matchBy_38 : decode cX1_matchBy 38 = .ok (.iload_n 3, 1) := dk_29 (dk_at dksX1_matchBy_1 14 rfl rfl)
theorem dX1_matchBy_39 : decode cX1_matchBy 39 = .ok (.iconst 1, 1) := dk_4 (dk_at dksX1_matchBy_1 15 rfl rfl)
theorem dX1_matchBy_40 : decode cX1_matchBy 40 = .ok (.iload 6, 2) := dk_21 6 (dk_at dksX1_matchBy_1 16 rfl rfl)
theorem dX1_matchBy_42 : decode cX1_matchBy 42 = .ok (.ishl, 1) := dk_120 (dk_at dksX1_matchBy_1 18 rfl rfl)
theorem dX1_matchBy_43 : decode cX1_matchBy 43 = .ok (.ior, 1) := dk_128 (dk_at dksX1_matchBy_1 19 rfl rfl)
theorem dX1_matchBy_44 : decode cX1_matchBy 44 = .ok (.istore_n 3, 1) := dk_62 (dk_at dksX1_matchBy_1 20 rfl rfl)
theorem dX1_matchBy_45 : decode cX1_matchBy 45 = .ok (.iload 4, 2) := dk_21 4 (dk_at dksX1_matchBy_1 21 rfl rfl)
theorem dX1_matchBy_47 : decode cX1_matchBy 47 = .ok (.bipush 10, 2) := dk_16 10 (dk_at dksX1_matchBy_2 0 rfl rfl)
theorem dX1_matchBy_49 : decode cX1_matchBy 49 = .ok (.aload_n 0, 1) := dk_42 (dk_at dksX1_matchBy_2 2 rfl rfl)
theorem dX1_matchBy_50 : decode cX1_matchBy 50 = .ok (.iload 5, 2) := dk_21 5 (dk_at dksX1_matchBy_2 3 rfl rfl)
theorem dX1_matchBy_52 : decode cX1_matchBy 52 = .ok (.iload_n 1, 1) := dk_27 (dk_at dksX1_matchBy_2 5 rfl rfl)
theorem dX1_matchBy_53 : decode cX1_matchBy 53 = .ok (.aload_n 0, 1) := dk_42 (dk_at dksX1_matchBy_2 6 rfl rfl)
theorem dX1_matchBy_54 : decode cX1_matchBy 54 = .ok (.getfield 31, 3) := dk_180 0 31 (dk_at dksX1_matchBy_2 7 rfl rfl)
theorem dX1_matchBy_57 : decode cX1_matchBy 57 = .ok (.iconst 3, 1) := dk_6 (dk_at dksX1_matchBy_2 10 rfl rfl)
theorem dX1_matchBy_58 : decode cX1_matchBy 58 = .ok (.iload 5, 2) := dk_21 5 (dk_at dksX1_matchBy_2 11 rfl rfl)
theorem dX1_matchBy_60 : decode cX1_matchBy 60 = .ok (.imul, 1) := dk_104 (dk_at dksX1_matchBy_2 13 rfl rfl)
theorem dX1_matchBy_61 : decode cX1_matchBy 61 = .ok (.iload 6, 2) := dk_21 6 (dk_at dksX1_matchBy_2 14 rfl rfl)
theorem dX1_matchBy_63 : decode cX1_matchBy 63 = .ok (.iadd, 1) := dk_96 (dk_at dksX1_matchBy_2 16 rfl rfl)
theorem dX1_matchBy_64 : decode cX1_matchBy 64 = .ok (.iaload, 1) := dk_46 (dk_at dksX1_matchBy_2 17 rfl rfl)
theorem dX1_matchBy_65 : decode cX1_matchBy 65 = .ok (.invokevirtual 142, 3) := dk_182 0 142 (dk_at dksX1_matchBy_2 18 rfl rfl)
theorem dX1_matchBy_68 : decode cX1_matchBy 68 = .ok (.isub, 1) := dk_100 (dk_at dksX1_matchBy_2 21 rfl rfl)
theorem dX1_matchBy_69 : decode cX1_matchBy 69 = .ok (.aload_n 0, 1) := dk_42 (dk_at dksX1_matchBy_2 22 rfl rfl)
theorem dX1_matchBy_70 : decode cX1_matchBy 70 = .ok (.getfield 13, 3) := dk_180 0 13 (dk_at dksX1_matchBy_3 0 rfl rfl)
theorem dX1_matchBy_73 : decode cX1_matchBy 73 = .ok (.iload_n 1, 1) := dk_27 (dk_at dksX1_matchBy_3 3 rfl rfl)
theorem dX1_matchBy_74 : decode cX1_matchBy 74 = .ok (.iaload, 1) := dk_46 (dk_at dksX1_matchBy_3 4 rfl rfl)
theorem dX1_matchBy_75 : decode cX1_matchBy 75 = .ok (.imul, 1) := dk_104 (dk_at dksX1_matchBy_3 5 rfl rfl)
theorem dX1_matchBy_76 : decode cX1_matchBy 76 = .ok (.iadd, 1) := dk_96 (dk_at dksX1_matchBy_3 6 rfl rfl)
theorem dX1_matchBy_77 : decode cX1_matchBy 77 = .ok (.istore 4, 2) := dk_54 4 (dk_at dksX1_matchBy_3 7 rfl rfl)
theorem dX1_matchBy_79 : decode cX1_matchBy 79 = .ok (.iinc 5 1, 3) := dk_132 5 1 (dk_at dksX1_matchBy_3 9 rfl rfl)
theorem dX1_matchBy_82 : decode cX1_matchBy 82 = .ok (.goto (-74), 3) := dk_167 255 182 (dk_at dksX1_matchBy_3 12 rfl rfl)
theorem dX1_matchBy_85 : decode cX1_matchBy 85 = .ok (.iload 4, 2) := dk_21 4 (dk_at dksX1_matchBy_3 15 rfl rfl)
theorem dX1_matchBy_87 : decode cX1_matchBy 87 = .ok (.ireturn, 1) := dk_172 (dk_at dksX1_matchBy_3 17 rfl rfl)
abbrev cX1_boyBy : ByteArray := prog_9_method_43_code
def yX1_boyBy : MethodName := ⟨RX1, "boyBy", "(II)I"⟩
def dkwX1_boyBy_1 : List UInt8 := [167, 255, 243, 29, 6, 112, 172]
abbrev dktX1_boyBy_1 : List UInt8 := dkwX1_boyBy_1 ++ []
def dkwX1_boyBy_0 : List UInt8 := [27, 62, 42, 180, 0, 116, 4, 100, 54, 4, 21, 4, 28, 164, 0, 13, 29, 6, 108, 62, 132, 4, 255]
abbrev dktX1_boyBy_0 : List UInt8 := dkwX1_boyBy_0 ++ dktX1_boyBy_1
theorem dksX1_boyBy_0 : cX1_boyBy.data.toList.drop 0 = dktX1_boyBy_0 := by decide +kernel
theorem dksX1_boyBy_1 : cX1_boyBy.data.toList.drop 23 = dktX1_boyBy_1 := dk_seg dksX1_boyBy_0 23 rfl rfl
theorem dX1_boyBy_0 : decode cX1_boyBy 0 = .ok (.iload_n 1, 1) := dk_27 (dk_at dksX1_boyBy_0 0 rfl rfl)
theorem dX1_boyBy_1 : decode cX1_boyBy 1 = .ok (.istore_n 3, 1) := dk_62 (dk_at dksX1_boyBy_0 1 rfl rfl)
theorem dX1_boyBy_2 : decode cX1_boyBy 2 = .ok (.aload_n 0, 1) := dk_42 (dk_at dksX1_boyBy_0 2 rfl rfl)
theorem dX1_boyBy_3 : decode cX1_boyBy 3 = .ok (.getfield 116, 3) := dk_180 0 116 (dk_at dksX1_boyBy_0 3 rfl rfl)
theorem dX1_boyBy_6 : decode cX1_boyBy 6 = .ok (.iconst 1, 1) := dk_4 (dk_at dksX1_boyBy_0 6 rfl rfl)
theorem dX1_boyBy_7 : decode cX1_boyBy 7 = .ok (.isub, 1) := dk_100 (dk_at dksX1_boyBy_0 7 rfl rfl)
theorem dX1_boyBy_8 : decode cX1_boyBy 8 = .ok (.istore 4, 2) := dk_54 4 (dk_at dksX1_boyBy_0 8 rfl rfl)
theorem dX1_boyBy_10 : decode cX1_boyBy 10 = .ok (.iload 4, 2) := dk_21 4 (dk_at dksX1_boyBy_0 10 rfl rfl)
theorem dX1_boyBy_12 : decode cX1_boyBy 12 = .ok (.iload_n 2, 1) := dk_28 (dk_at dksX1_boyBy_0 12 rfl rfl)
theorem dX1_boyBy_13 : decode cX1_boyBy 13 = .ok (.if_icmp .le 13, 3) := dk_164 0 13 (dk_at dksX1_boyBy_0 13 rfl rfl)
theorem dX1_boyBy_16 : decode cX1_boyBy 16 = .ok (.iload_n 3, 1) := dk_29 (dk_at dksX1_boyBy_0 16 rfl rfl)
theorem dX1_boyBy_17 : decode cX1_boyBy 17 = .ok (.iconst 3, 1) := dk_6 (dk_at dksX1_boyBy_0 17 rfl rfl)
theorem dX1_boyBy_18 : decode cX1_boyBy 18 = .ok (.idiv, 1) := dk_108 (dk_at dksX1_boyBy_0 18 rfl rfl)
theorem dX1_boyBy_19 : decode cX1_boyBy 19 = .ok (.istore_n 3, 1) := dk_62 (dk_at dksX1_boyBy_0 19 rfl rfl)
theorem dX1_boyBy_20 : decode cX1_boyBy 20 = .ok (.iinc 4 (-1), 3) := dk_132 4 255 (dk_at dksX1_boyBy_0 20 rfl rfl)
theorem dX1_boyBy_23 : decode cX1_boyBy 23 = .ok (.goto (-13), 3) := dk_167 255 243 (dk_at dksX1_boyBy_1 0 rfl rfl)
theorem dX1_boyBy_26 : decode cX1_boyBy 26 = .ok (.iload_n 3, 1) := dk_29 (dk_at dksX1_boyBy_1 3 rfl rfl)
theorem dX1_boyBy_27 : decode cX1_boyBy 27 = .ok (.iconst 3, 1) := dk_6 (dk_at dksX1_boyBy_1 4 rfl rfl)
theorem dX1_boyBy_28 : decode cX1_boyBy 28 = .ok (.irem, 1) := dk_112 (dk_at dksX1_boyBy_1 5 rfl rfl)
theorem dX1_boyBy_29 : decode cX1_boyBy 29 = .ok (.ireturn, 1) := dk_172 (dk_at dksX1_boyBy_1 6 rfl rfl)
abbrev cX1_faults : ByteArray := prog_9_method_49_code
def yX1_faults : MethodName := ⟨RX1, "faults", "(III)I"⟩
def dkwX1_faults_1 : List UInt8 := [184, 0, 77, 153, 0, 13, 42, 27, 28, 29, 182, 0, 225, 167, 0, 5, 16, 154, 172]
abbrev dktX1_faults_1 : List UInt8 := dkwX1_faults_1 ++ []
def dkwX1_faults_0 : List UInt8 := [42, 27, 182, 0, 149, 154, 0, 6, 16, 155, 172, 28, 3, 16, 25, 184, 0, 77, 153, 0, 22, 29, 3, 4]
abbrev dktX1_faults_0 : List UInt8 := dkwX1_faults_0 ++ dktX1_faults_1
theorem dksX1_faults_0 : cX1_faults.data.toList.drop 0 = dktX1_faults_0 := by decide +kernel
theorem dksX1_faults_1 : cX1_faults.data.toList.drop 24 = dktX1_faults_1 := dk_seg dksX1_faults_0 24 rfl rfl
theorem dX1_faults_0 : decode cX1_faults 0 = .ok (.aload_n 0, 1) := dk_42 (dk_at dksX1_faults_0 0 rfl rfl)
theorem dX1_faults_1 : decode cX1_faults 1 = .ok (.iload_n 1, 1) := dk_27 (dk_at dksX1_faults_0 1 rfl rfl)
theorem dX1_faults_2 : decode cX1_faults 2 = .ok (.invokevirtual 149, 3) := dk_182 0 149 (dk_at dksX1_faults_0 2 rfl rfl)
theorem dX1_faults_5 : decode cX1_faults 5 = .ok (.ifCond .ne 6, 3) := dk_154 0 6 (dk_at dksX1_faults_0 5 rfl rfl)
theorem dX1_faults_8 : decode cX1_faults 8 = .ok (.bipush (-101), 2) := dk_16 155 (dk_at dksX1_faults_0 8 rfl rfl)
theorem dX1_faults_10 : decode cX1_faults 10 = .ok (.ireturn, 1) := dk_172 (dk_at dksX1_faults_0 10 rfl rfl)
theorem dX1_faults_11 : decode cX1_faults 11 = .ok (.iload_n 2, 1) := dk_28 (dk_at dksX1_faults_0 11 rfl rfl)
theorem dX1_faults_12 : decode cX1_faults 12 = .ok (.iconst 0, 1) := dk_3 (dk_at dksX1_faults_0 12 rfl rfl)
theorem dX1_faults_13 : decode cX1_faults 13 = .ok (.bipush 25, 2) := dk_16 25 (dk_at dksX1_faults_0 13 rfl rfl)
theorem dX1_faults_15 : decode cX1_faults 15 = .ok (.invokestatic 77, 3) := dk_184 0 77 (dk_at dksX1_faults_0 15 rfl rfl)
theorem dX1_faults_18 : decode cX1_faults 18 = .ok (.ifCond .eq 22, 3) := dk_153 0 22 (dk_at dksX1_faults_0 18 rfl rfl)
theorem dX1_faults_21 : decode cX1_faults 21 = .ok (.iload_n 3, 1) := dk_29 (dk_at dksX1_faults_0 21 rfl rfl)
theorem dX1_faults_22 : decode cX1_faults 22 = .ok (.iconst 0, 1) := dk_3 (dk_at dksX1_faults_0 22 rfl rfl)
theorem dX1_faults_23 : decode cX1_faults 23 = .ok (.iconst 1, 1) := dk_4 (dk_at dksX1_faults_0 23 rfl rfl)
theorem dX1_faults_24 : decode cX1_faults 24 = .ok (.invokestatic 77, 3) := dk_184 0 77 (dk_at dksX1_faults_1 0 rfl rfl)
theorem dX1_faults_27 : decode cX1_faults 27 = .ok (.ifCond .eq 13, 3) := dk_153 0 13 (dk_at dksX1_faults_1 3 rfl rfl)
theorem dX1_faults_30 : decode cX1_faults 30 = .ok (.aload_n 0, 1) := dk_42 (dk_at dksX1_faults_1 6 rfl rfl)
theorem dX1_faults_31 : decode cX1_faults 31 = .ok (.iload_n 1, 1) := dk_27 (dk_at dksX1_faults_1 7 rfl rfl)
theorem dX1_faults_32 : decode cX1_faults 32 = .ok (.iload_n 2, 1) := dk_28 (dk_at dksX1_faults_1 8 rfl rfl)
theorem dX1_faults_33 : decode cX1_faults 33 = .ok (.iload_n 3, 1) := dk_29 (dk_at dksX1_faults_1 9 rfl rfl)
theorem dX1_faults_34 : decode cX1_faults 34 = .ok (.invokevirtual 225, 3) := dk_182 0 225 (dk_at dksX1_faults_1 10 rfl rfl)
theorem dX1_faults_37 : decode cX1_faults 37 = .ok (.goto 5, 3) := dk_167 0 5 (dk_at dksX1_faults_1 13 rfl rfl)
theorem dX1_faults_40 : decode cX1_faults 40 = .ok (.bipush (-102), 2) := dk_16 154 (dk_at dksX1_faults_1 16 rfl rfl)
theorem dX1_faults_42 : decode cX1_faults 42 = .ok (.ireturn, 1) := dk_172 (dk_at dksX1_faults_1 18 rfl rfl)
abbrev cX1_faultsNow : ByteArray := prog_9_method_48_code
def yX1_faultsNow : MethodName := ⟨RX1, "faultsNow", "(III)I"⟩
def dkwX1_faultsNow_3 : List UInt8 := [21, 4, 167, 0, 14, 21, 4, 154, 0, 7, 2, 167, 0, 5, 21, 5, 172]
abbrev dktX1_faultsNow_3 : List UInt8 := dkwX1_faultsNow_3 ++ []
def dkwX1_faultsNow_2 : List UInt8 := [153, 0, 13, 132, 4, 1, 21, 5, 21, 6, 126, 54, 5, 132, 6, 1, 167, 255, 209, 29, 154, 0, 8]
abbrev dktX1_faultsNow_2 : List UInt8 := dkwX1_faultsNow_2 ++ dktX1_faultsNow_3
def dkwX1_faultsNow_1 : List UInt8 := [162, 0, 42, 21, 6, 42, 180, 0, 28, 27, 46, 126, 154, 0, 24, 42, 27, 21, 6, 28, 182, 0, 222]
abbrev dktX1_faultsNow_1 : List UInt8 := dkwX1_faultsNow_1 ++ dktX1_faultsNow_2
def dkwX1_faultsNow_0 : List UInt8 := [42, 27, 182, 0, 182, 3, 54, 4, 16, 31, 54, 5, 3, 54, 6, 21, 6, 4, 42, 180, 0, 107, 120]
abbrev dktX1_faultsNow_0 : List UInt8 := dkwX1_faultsNow_0 ++ dktX1_faultsNow_1
theorem dksX1_faultsNow_0 : cX1_faultsNow.data.toList.drop 0 = dktX1_faultsNow_0 := by decide +kernel
theorem dksX1_faultsNow_1 : cX1_faultsNow.data.toList.drop 23 = dktX1_faultsNow_1 := dk_seg dksX1_faultsNow_0 23 rfl rfl
theorem dksX1_faultsNow_2 : cX1_faultsNow.data.toList.drop 46 = dktX1_faultsNow_2 := dk_seg dksX1_faultsNow_1 23 rfl rfl
theorem dksX1_faultsNow_3 : cX1_faultsNow.data.toList.drop 69 = dktX1_faultsNow_3 := dk_seg dksX1_faultsNow_2 23 rfl rfl
theorem dX1_faultsNow_0 : decode cX1_faultsNow 0 = .ok (.aload_n 0, 1) := dk_42 (dk_at dksX1_faultsNow_0 0 rfl rfl)
theorem dX1_faultsNow_1 : decode cX1_faultsNow 1 = .ok (.iload_n 1, 1) := dk_27 (dk_at dksX1_faultsNow_0 1 rfl rfl)
theorem dX1_faultsNow_2 : decode cX1_faultsNow 2 = .ok (.invokevirtual 182, 3) := dk_182 0 182 (dk_at dksX1_faultsNow_0 2 rfl rfl)
theorem dX1_faultsNow_5 : decode cX1_faultsNow 5 = .ok (.iconst 0, 1) := dk_3 (dk_at dksX1_faultsNow_0 5 rfl rfl)
theorem dX1_faultsNow_6 : decode cX1_faultsNow 6 = .ok (.istore 4, 2) := dk_54 4 (dk_at dksX1_faultsNow_0 6 rfl rfl)
theorem dX1_faultsNow_8 : decode cX1_faultsNow 8 = .ok (.bipush 31, 2) := dk_16 31 (dk_at dksX1_faultsNow_0 8 rfl rfl)
theorem dX1_faultsNow_10 : decode cX1_faultsNow 10 = .ok (.istore 5, 2) := dk_54 5 (dk_at dksX1_faultsNow_0 10 rfl rfl)
theorem dX1_faultsNow_12 : decode cX1_faultsNow 12 = .ok (.iconst 0, 1) := dk_3 (dk_at dksX1_faultsNow_0 12 rfl rfl)
theorem dX1_faultsNow_13 : decode cX1_faultsNow 13 = .ok (.istore 6, 2) := dk_54 6 (dk_at dksX1_faultsNow_0 13 rfl rfl)
theorem dX1_faultsNow_15 : decode cX1_faultsNow 15 = .ok (.iload 6, 2) := dk_21 6 (dk_at dksX1_faultsNow_0 15 rfl rfl)
theorem dX1_faultsNow_17 : decode cX1_faultsNow 17 = .ok (.iconst 1, 1) := dk_4 (dk_at dksX1_faultsNow_0 17 rfl rfl)
theorem dX1_faultsNow_18 : decode cX1_faultsNow 18 = .ok (.aload_n 0, 1) := dk_42 (dk_at dksX1_faultsNow_0 18 rfl rfl)
theorem dX1_faultsNow_19 : decode cX1_faultsNow 19 = .ok (.getfield 107, 3) := dk_180 0 107 (dk_at dksX1_faultsNow_0 19 rfl rfl)
theorem dX1_faultsNow_22 : decode cX1_faultsNow 22 = .ok (.ishl, 1) := dk_120 (dk_at dksX1_faultsNow_0 22 rfl rfl)
theorem dX1_faultsNow_23 : decode cX1_faultsNow 23 = .ok (.if_icmp .ge 42, 3) := dk_162 0 42 (dk_at dksX1_faultsNow_1 0 rfl rfl)
theorem dX1_faultsNow_26 : decode cX1_faultsNow 26 = .ok (.iload 6, 2) := dk_21 6 (dk_at dksX1_faultsNow_1 3 rfl rfl)
theorem dX1_faultsNow_28 : decode cX1_faultsNow 28 = .ok (.aload_n 0, 1) := dk_42 (dk_at dksX1_faultsNow_1 5 rfl rfl)
theorem dX1_faultsNow_29 : decode cX1_faultsNow 29 = .ok (.getfield 28, 3) := dk_180 0 28 (dk_at dksX1_faultsNow_1 6 rfl rfl)
theorem dX1_faultsNow_32 : decode cX1_faultsNow 32 = .ok (.iload_n 1, 1) := dk_27 (dk_at dksX1_faultsNow_1 9 rfl rfl)
theorem dX1_faultsNow_33 : decode cX1_faultsNow 33 = .ok (.iaload, 1) := dk_46 (dk_at dksX1_faultsNow_1 10 rfl rfl)
theorem dX1_faultsNow_34 : decode cX1_faultsNow 34 = .ok (.iand, 1) := dk_126 (dk_at dksX1_faultsNow_1 11 rfl rfl)
theorem dX1_faultsNow_35 : decode cX1_faultsNow 35 = .ok (.ifCond .ne 24, 3) := dk_154 0 24 (dk_at dksX1_faultsNow_1 12 rfl rfl)
theorem dX1_faultsNow_38 : decode cX1_faultsNow 38 = .ok (.aload_n 0, 1) := dk_42 (dk_at dksX1_faultsNow_1 15 rfl rfl)
theorem dX1_faultsNow_39 : decode cX1_faultsNow 39 = .ok (.iload_n 1, 1) := dk_27 (dk_at dksX1_faultsNow_1 16 rfl rfl)
theorem dX1_faultsNow_40 : decode cX1_faultsNow 40 = .ok (.iload 6, 2) := dk_21 6 (dk_at dksX1_faultsNow_1 17 rfl rfl)
theorem dX1_faultsNow_42 : decode cX1_faultsNow 42 = .ok (.iload_n 2, 1) := dk_28 (dk_at dksX1_faultsNow_1 19 rfl rfl)
theorem dX1_faultsNow_43 : decode cX1_faultsNow 43 = .ok (.invokevirtual 222, 3) := dk_182 0 222 (dk_at dksX1_faultsNow_1 20 rfl rfl)
theorem dX1_faultsNow_46 : decode cX1_faultsNow 46 = .ok (.ifCond .eq 13, 3) := dk_153 0 13 (dk_at dksX1_faultsNow_2 0 rfl rfl)
theorem dX1_faultsNow_49 : decode cX1_faultsNow 49 = .ok (.iinc 4 1, 3) := dk_132 4 1 (dk_at dksX1_faultsNow_2 3 rfl rfl)
theorem dX1_faultsNow_52 : decode cX1_faultsNow 52 = .ok (.iload 5, 2) := dk_21 5 (dk_at dksX1_faultsNow_2 6 rfl rfl)
theorem dX1_faultsNow_54 : decode cX1_faultsNow 54 = .ok (.iload 6, 2) := dk_21 6 (dk_at dksX1_faultsNow_2 8 rfl rfl)
theorem dX1_faultsNow_56 : decode cX1_faultsNow 56 = .ok (.iand, 1) := dk_126 (dk_at dksX1_faultsNow_2 10 rfl rfl)
theorem dX1_faultsNow_57 : decode cX1_faultsNow 57 = .ok (.istore 5, 2) := dk_54 5 (dk_at dksX1_faultsNow_2 11 rfl rfl)
theorem dX1_faultsNow_59 : decode cX1_faultsNow 59 = .ok (.iinc 6 1, 3) := dk_132 6 1 (dk_at dksX1_faultsNow_2 13 rfl rfl)
theorem dX1_faultsNow_62 : decode cX1_faultsNow 62 = .ok (.goto (-47), 3) := dk_167 255 209 (dk_at dksX1_faultsNow_2 16 rfl rfl)
theorem dX1_faultsNow_65 : decode cX1_faultsNow 65 = .ok (.iload_n 3, 1) := dk_29 (dk_at dksX1_faultsNow_2 19 rfl rfl)
theorem dX1_faultsNow_66 : decode cX1_faultsNow 66 = .ok (.ifCond .ne 8, 3) := dk_154 0 8 (dk_at dksX1_faultsNow_2 20 rfl rfl)
theorem dX1_faultsNow_69 : decode cX1_faultsNow 69 = .ok (.iload 4, 2) := dk_21 4 (dk_at dksX1_faultsNow_3 0 rfl rfl)
theorem dX1_faultsNow_71 : decode cX1_faultsNow 71 = .ok (.goto 14, 3) := dk_167 0 14 (dk_at dksX1_faultsNow_3 2 rfl rfl)
theorem dX1_faultsNow_74 : decode cX1_faultsNow 74 = .ok (.iload 4, 2) := dk_21 4 (dk_at dksX1_faultsNow_3 5 rfl rfl)
theorem dX1_faultsNow_76 : decode cX1_faultsNow 76 = .ok (.ifCond .ne 7, 3) := dk_154 0 7 (dk_at dksX1_faultsNow_3 7 rfl rfl)
theorem dX1_faultsNow_79 : decode cX1_faultsNow 79 = .ok (.iconst (-1), 1) := dk_2 (dk_at dksX1_faultsNow_3 10 rfl rfl)
theorem dX1_faultsNow_80 : decode cX1_faultsNow 80 = .ok (.goto 5, 3) := dk_167 0 5 (dk_at dksX1_faultsNow_3 11 rfl rfl)
theorem dX1_faultsNow_83 : decode cX1_faultsNow 83 = .ok (.iload 5, 2) := dk_21 5 (dk_at dksX1_faultsNow_3 14 rfl rfl)
theorem dX1_faultsNow_85 : decode cX1_faultsNow 85 = .ok (.ireturn, 1) := dk_172 (dk_at dksX1_faultsNow_3 16 rfl rfl)
abbrev cX1_couldFail : ByteArray := prog_9_method_47_code
def yX1_couldFail : MethodName := ⟨RX1, "couldFail", "(III)Z"⟩
def dkwX1_couldFail_5 : List UInt8 := [182, 0, 175, 21, 4, 153, 0, 13, 21, 5, 29, 160, 0, 7, 4, 167, 0, 4, 3, 172]
abbrev dktX1_couldFail_5 : List UInt8 := dkwX1_couldFail_5 ++ []
def dkwX1_couldFail_4 : List UInt8 := [54, 5, 42, 27, 42, 180, 0, 47, 21, 6, 46, 182, 0, 158, 132, 6, 1, 167, 255, 159, 42, 27]
abbrev dktX1_couldFail_4 : List UInt8 := dkwX1_couldFail_4 ++ dktX1_couldFail_5
def dkwX1_couldFail_3 : List UInt8 := [3, 54, 4, 21, 7, 153, 0, 32, 21, 5, 42, 180, 0, 13, 42, 180, 0, 47, 21, 6, 46, 46, 96]
abbrev dktX1_couldFail_3 : List UInt8 := dkwX1_couldFail_3 ++ dktX1_couldFail_4
def dkwX1_couldFail_2 : List UInt8 := [21, 6, 46, 182, 0, 155, 21, 7, 153, 0, 8, 16, 10, 167, 0, 4, 3, 159, 0, 7, 4, 167, 0, 4]
abbrev dktX1_couldFail_2 : List UInt8 := dkwX1_couldFail_2 ++ dktX1_couldFail_3
def dkwX1_couldFail_1 : List UInt8 := [42, 180, 0, 47, 21, 6, 46, 184, 0, 122, 54, 7, 21, 4, 153, 0, 33, 42, 27, 42, 180, 0, 47]
abbrev dktX1_couldFail_1 : List UInt8 := dkwX1_couldFail_1 ++ dktX1_couldFail_2
def dkwX1_couldFail_0 : List UInt8 := [42, 27, 182, 0, 171, 4, 54, 4, 3, 54, 5, 3, 54, 6, 21, 6, 42, 180, 0, 162, 162, 0, 94, 28]
abbrev dktX1_couldFail_0 : List UInt8 := dkwX1_couldFail_0 ++ dktX1_couldFail_1
theorem dksX1_couldFail_0 : cX1_couldFail.data.toList.drop 0 = dktX1_couldFail_0 := by decide +kernel
theorem dksX1_couldFail_1 : cX1_couldFail.data.toList.drop 24 = dktX1_couldFail_1 := dk_seg dksX1_couldFail_0 24 rfl rfl
theorem dksX1_couldFail_2 : cX1_couldFail.data.toList.drop 47 = dktX1_couldFail_2 := dk_seg dksX1_couldFail_1 23 rfl rfl
theorem dksX1_couldFail_3 : cX1_couldFail.data.toList.drop 71 = dktX1_couldFail_3 := dk_seg dksX1_couldFail_2 24 rfl rfl
theorem dksX1_couldFail_4 : cX1_couldFail.data.toList.drop 94 = dktX1_couldFail_4 := dk_seg dksX1_couldFail_3 23 rfl rfl
theorem dksX1_couldFail_5 : cX1_couldFail.data.toList.drop 116 = dktX1_couldFail_5 := dk_seg dksX1_couldFail_4 22 rfl rfl
theorem dX1_couldFail_0 : decode cX1_couldFail 0 = .ok (.aload_n 0, 1) := dk_42 (dk_at dksX1_couldFail_0 0 rfl rfl)
theorem dX1_couldFail_1 : decode cX1_couldFail 1 = .ok (.iload_n 1, 1) := dk_27 (dk_at dksX1_couldFail_0 1 rfl rfl)
theorem dX1_couldFail_2 : decode cX1_couldFail 2 = .ok (.invokevirtual 171, 3) := dk_182 0 171 (dk_at dksX1_couldFail_0 2 rfl rfl)
theorem dX1_couldFail_5 : decode cX1_couldFail 5 = .ok (.iconst 1, 1) := dk_4 (dk_at dksX1_couldFail_0 5 rfl rfl)
theorem dX1_couldFail_6 : decode cX1_couldFail 6 = .ok (.istore 4, 2) := dk_54 4 (dk_at dksX1_couldFail_0 6 rfl rfl)
theorem dX1_couldFail_8 : decode cX1_couldFail 8 = .ok (.iconst 0, 1) := dk_3 (dk_at dksX1_couldFail_0 8 rfl rfl)
theorem dX1_couldFail_9 : decode cX1_couldFail 9 = .ok (.istore 5, 2) := dk_54 5 (dk_at dksX1_couldFail_0 9 rfl rfl)
theorem dX1_couldFail_11 : decode cX1_couldFail 11 = .ok (.iconst 0, 1) := dk_3 (dk_at dksX1_couldFail_0 11 rfl rfl)
theorem dX1_couldFail_12 : decode cX1_couldFail 12 = .ok (.istore 6, 2) := dk_54 6 (dk_at dksX1_couldFail_0 12 rfl rfl)
theorem dX1_couldFail_14 : decode cX1_couldFail 14 = .ok (.iload 6, 2) := dk_21 6 (dk_at dksX1_couldFail_0 14 rfl rfl)
theorem dX1_couldFail_16 : decode cX1_couldFail 16 = .ok (.aload_n 0, 1) := dk_42 (dk_at dksX1_couldFail_0 16 rfl rfl)
theorem dX1_couldFail_17 : decode cX1_couldFail 17 = .ok (.getfield 162, 3) := dk_180 0 162 (dk_at dksX1_couldFail_0 17 rfl rfl)
theorem dX1_couldFail_20 : decode cX1_couldFail 20 = .ok (.if_icmp .ge 94, 3) := dk_162 0 94 (dk_at dksX1_couldFail_0 20 rfl rfl)
theorem dX1_couldFail_23 : decode cX1_couldFail 23 = .ok (.iload_n 2, 1) := dk_28 (dk_at dksX1_couldFail_0 23 rfl rfl)
theorem dX1_couldFail_24 : decode cX1_couldFail 24 = .ok (.aload_n 0, 1) := dk_42 (dk_at dksX1_couldFail_1 0 rfl rfl)
theorem dX1_couldFail_25 : decode cX1_couldFail 25 = .ok (.getfield 47, 3) := dk_180 0 47 (dk_at dksX1_couldFail_1 1 rfl rfl)
theorem dX1_couldFail_28 : decode cX1_couldFail 28 = .ok (.iload 6, 2) := dk_21 6 (dk_at dksX1_couldFail_1 4 rfl rfl)
theorem dX1_couldFail_30 : decode cX1_couldFail 30 = .ok (.iaload, 1) := dk_46 (dk_at dksX1_couldFail_1 6 rfl rfl)
theorem dX1_couldFail_31 : decode cX1_couldFail 31 = .ok (.invokestatic 122, 3) := dk_184 0 122 (dk_at dksX1_couldFail_1 7 rfl rfl)
theorem dX1_couldFail_34 : decode cX1_couldFail 34 = .ok (.istore 7, 2) := dk_54 7 (dk_at dksX1_couldFail_1 10 rfl rfl)
theorem dX1_couldFail_36 : decode cX1_couldFail 36 = .ok (.iload 4, 2) := dk_21 4 (dk_at dksX1_couldFail_1 12 rfl rfl)
theorem dX1_couldFail_38 : decode cX1_couldFail 38 = .ok (.ifCond .eq 33, 3) := dk_153 0 33 (dk_at dksX1_couldFail_1 14 rfl rfl)
theorem dX1_couldFail_41 : decode cX1_couldFail 41 = .ok (.aload_n 0, 1) := dk_42 (dk_at dksX1_couldFail_1 17 rfl rfl)
theorem dX1_couldFail_42 : decode cX1_couldFail 42 = .ok (.iload_n 1, 1) := dk_27 (dk_at dksX1_couldFail_1 18 rfl rfl)
theorem dX1_couldFail_43 : decode cX1_couldFail 43 = .ok (.aload_n 0, 1) := dk_42 (dk_at dksX1_couldFail_1 19 rfl rfl)
theorem dX1_couldFail_44 : decode cX1_couldFail 44 = .ok (.getfield 47, 3) := dk_180 0 47 (dk_at dksX1_couldFail_1 20 rfl rfl)
theorem dX1_couldFail_47 : decode cX1_couldFail 47 = .ok (.iload 6, 2) := dk_21 6 (dk_at dksX1_couldFail_2 0 rfl rfl)
theorem dX1_couldFail_49 : decode cX1_couldFail 49 = .ok (.iaload, 1) := dk_46 (dk_at dksX1_couldFail_2 2 rfl rfl)
theorem dX1_couldFail_50 : decode cX1_couldFail 50 = .ok (.invokevirtual 155, 3) := dk_182 0 155 (dk_at dksX1_couldFail_2 3 rfl rfl)
theorem dX1_couldFail_53 : decode cX1_couldFail 53 = .ok (.iload 7, 2) := dk_21 7 (dk_at dksX1_couldFail_2 6 rfl rfl)
theorem dX1_couldFail_55 : decode cX1_couldFail 55 = .ok (.ifCond .eq 8, 3) := dk_153 0 8 (dk_at dksX1_couldFail_2 8 rfl rfl)
theorem dX1_couldFail_58 : decode cX1_couldFail 58 = .ok (.bipush 10, 2) := dk_16 10 (dk_at dksX1_couldFail_2 11 rfl rfl)
theorem dX1_couldFail_60 : decode cX1_couldFail 60 = .ok (.goto 4, 3) := dk_167 0 4 (dk_at dksX1_couldFail_2 13 rfl rfl)
theorem dX1_couldFail_63 : decode cX1_couldFail 63 = .ok (.iconst 0, 1) := dk_3 (dk_at dksX1_couldFail_2 16 rfl rfl)
theorem dX1_couldFail_64 : decode cX1_couldFail 64 = .ok (.if_icmp .eq 7, 3) := dk_159 0 7 (dk_at dksX1_couldFail_2 17 rfl rfl)
theorem dX1_couldFail_67 : decode cX1_couldFail 67 = .ok (.iconst 1, 1) := dk_4 (dk_at dksX1_couldFail_2 20 rfl rfl)
theorem dX1_couldFail_68 : decode cX1_couldFail 68 = .ok (.goto 4, 3) := dk_167 0 4 (dk_at dksX1_couldFail_2 21 rfl rfl)
theorem dX1_couldFail_71 : decode cX1_couldFail 71 = .ok (.iconst 0, 1) := dk_3 (dk_at dksX1_couldFail_3 0 rfl rfl)
theorem dX1_couldFail_72 : decode cX1_couldFail 72 = .ok (.istore 4, 2) := dk_54 4 (dk_at dksX1_couldFail_3 1 rfl rfl)
theorem dX1_couldFail_74 : decode cX1_couldFail 74 = .ok (.iload 7, 2) := dk_21 7 (dk_at dksX1_couldFail_3 3 rfl rfl)
theorem dX1_couldFail_76 : decode cX1_couldFail 76 = .ok (.ifCond .eq 32, 3) := dk_153 0 32 (dk_at dksX1_couldFail_3 5 rfl rfl)
theorem dX1_couldFail_79 : decode cX1_couldFail 79 = .ok (.iload 5, 2) := dk_21 5 (dk_at dksX1_couldFail_3 8 rfl rfl)
theorem dX1_couldFail_81 : decode cX1_couldFail 81 = .ok (.aload_n 0, 1) := dk_42 (dk_at dksX1_couldFail_3 10 rfl rfl)
theorem dX1_couldFail_82 : decode cX1_couldFail 82 = .ok (.getfield 13, 3) := dk_180 0 13 (dk_at dksX1_couldFail_3 11 rfl rfl)
theorem dX1_couldFail_85 : decode cX1_couldFail 85 = .ok (.aload_n 0, 1) := dk_42 (dk_at dksX1_couldFail_3 14 rfl rfl)
theorem dX1_couldFail_86 : decode cX1_couldFail 86 = .ok (.getfield 47, 3) := dk_180 0 47 (dk_at dksX1_couldFail_3 15 rfl rfl)
theorem dX1_couldFail_89 : decode cX1_couldFail 89 = .ok (.iload 6, 2) := dk_21 6 (dk_at dksX1_couldFail_3 18 rfl rfl)
theorem dX1_couldFail_91 : decode cX1_couldFail 91 = .ok (.iaload, 1) := dk_46 (dk_at dksX1_couldFail_3 20 rfl rfl)
theorem dX1_couldFail_92 : decode cX1_couldFail 92 = .ok (.iaload, 1) := dk_46 (dk_at dksX1_couldFail_3 21 rfl rfl)
theorem dX1_couldFail_93 : decode cX1_couldFail 93 = .ok (.iadd, 1) := dk_96 (dk_at dksX1_couldFail_3 22 rfl rfl)
theorem dX1_couldFail_94 : decode cX1_couldFail 94 = .ok (.istore 5, 2) := dk_54 5 (dk_at dksX1_couldFail_4 0 rfl rfl)
theorem dX1_couldFail_96 : decode cX1_couldFail 96 = .ok (.aload_n 0, 1) := dk_42 (dk_at dksX1_couldFail_4 2 rfl rfl)
theorem dX1_couldFail_97 : decode cX1_couldFail 97 = .ok (.iload_n 1, 1) := dk_27 (dk_at dksX1_couldFail_4 3 rfl rfl)
theorem dX1_couldFail_98 : decode cX1_couldFail 98 = .ok (.aload_n 0, 1) := dk_42 (dk_at dksX1_couldFail_4 4 rfl rfl)
theorem dX1_couldFail_99 : decode cX1_couldFail 99 = .ok (.getfield 47, 3) := dk_180 0 47 (dk_at dksX1_couldFail_4 5 rfl rfl)
theorem dX1_couldFail_102 : decode cX1_couldFail 102 = .ok (.iload 6, 2) := dk_21 6 (dk_at dksX1_couldFail_4 8 rfl rfl)
theorem dX1_couldFail_104 : decode cX1_couldFail 104 = .ok (.iaload, 1) := dk_46 (dk_at dksX1_couldFail_4 10 rfl rfl)
theorem dX1_couldFail_105 : decode cX1_couldFail 105 = .ok (.invokevirtual 158, 3) := dk_182 0 158 (dk_at dksX1_couldFail_4 11 rfl rfl)
theorem dX1_couldFail_108 : decode cX1_couldFail 108 = .ok (.iinc 6 1, 3) := dk_132 6 1 (dk_at dksX1_couldFail_4 14 rfl rfl)
theorem dX1_couldFail_111 : decode cX1_couldFail 111 = .ok (.goto (-97), 3) := dk_167 255 159 (dk_at dksX1_couldFail_4 17 rfl rfl)
theorem dX1_couldFail_114 : decode cX1_couldFail 114 = .ok (.aload_n 0, 1) := dk_42 (dk_at dksX1_couldFail_4 20 rfl rfl)
theorem dX1_couldFail_115 : decode cX1_couldFail 115 = .ok (.iload_n 1, 1) := dk_27 (dk_at dksX1_couldFail_4 21 rfl rfl)
theorem dX1_couldFail_116 : decode cX1_couldFail 116 = .ok (.invokevirtual 175, 3) := dk_182 0 175 (dk_at dksX1_couldFail_5 0 rfl rfl)
theorem dX1_couldFail_119 : decode cX1_couldFail 119 = .ok (.iload 4, 2) := dk_21 4 (dk_at dksX1_couldFail_5 3 rfl rfl)
theorem dX1_couldFail_121 : decode cX1_couldFail 121 = .ok (.ifCond .eq 13, 3) := dk_153 0 13 (dk_at dksX1_couldFail_5 5 rfl rfl)
theorem dX1_couldFail_124 : decode cX1_couldFail 124 = .ok (.iload 5, 2) := dk_21 5 (dk_at dksX1_couldFail_5 8 rfl rfl)
theorem dX1_couldFail_126 : decode cX1_couldFail 126 = .ok (.iload_n 3, 1) := dk_29 (dk_at dksX1_couldFail_5 10 rfl rfl)
theorem dX1_couldFail_127 : decode cX1_couldFail 127 = .ok (.if_icmp .ne 7, 3) := dk_160 0 7 (dk_at dksX1_couldFail_5 11 rfl rfl)
theorem dX1_couldFail_130 : decode cX1_couldFail 130 = .ok (.iconst 1, 1) := dk_4 (dk_at dksX1_couldFail_5 14 rfl rfl)
theorem dX1_couldFail_131 : decode cX1_couldFail 131 = .ok (.goto 4, 3) := dk_167 0 4 (dk_at dksX1_couldFail_5 15 rfl rfl)
theorem dX1_couldFail_134 : decode cX1_couldFail 134 = .ok (.iconst 0, 1) := dk_3 (dk_at dksX1_couldFail_5 18 rfl rfl)
theorem dX1_couldFail_135 : decode cX1_couldFail 135 = .ok (.ireturn, 1) := dk_172 (dk_at dksX1_couldFail_5 19 rfl rfl)
abbrev cX1_hear : ByteArray := prog_9_method_50_code
def yX1_hear : MethodName := ⟨RX1, "hear", "(IIZ)I"⟩
def dkwX1_hear_3 : List UInt8 := [89, 180, 0, 119, 4, 96, 181, 0, 119, 42, 180, 0, 119, 172]
abbrev dktX1_hear_3 : List UInt8 := dkwX1_hear_3 ++ []
def dkwX1_hear_2 : List UInt8 := [180, 0, 119, 28, 79, 42, 180, 0, 40, 42, 180, 0, 119, 29, 153, 0, 7, 4, 167, 0, 4, 3, 79, 42]
abbrev dktX1_hear_2 : List UInt8 := dkwX1_hear_2 ++ dktX1_hear_3
def dkwX1_hear_1 : List UInt8 := [16, 6, 160, 0, 6, 16, 152, 172, 42, 180, 0, 34, 42, 180, 0, 119, 27, 79, 42, 180, 0, 37, 42]
abbrev dktX1_hear_1 : List UInt8 := dkwX1_hear_1 ++ dktX1_hear_2
def dkwX1_hear_0 : List UInt8 := [42, 27, 182, 0, 149, 153, 0, 11, 42, 28, 182, 0, 128, 154, 0, 6, 16, 155, 172, 42, 180, 0, 119]
abbrev dktX1_hear_0 : List UInt8 := dkwX1_hear_0 ++ dktX1_hear_1
theorem dksX1_hear_0 : cX1_hear.data.toList.drop 0 = dktX1_hear_0 := by decide +kernel
theorem dksX1_hear_1 : cX1_hear.data.toList.drop 23 = dktX1_hear_1 := dk_seg dksX1_hear_0 23 rfl rfl
theorem dksX1_hear_2 : cX1_hear.data.toList.drop 46 = dktX1_hear_2 := dk_seg dksX1_hear_1 23 rfl rfl
theorem dksX1_hear_3 : cX1_hear.data.toList.drop 70 = dktX1_hear_3 := dk_seg dksX1_hear_2 24 rfl rfl
theorem dX1_hear_0 : decode cX1_hear 0 = .ok (.aload_n 0, 1) := dk_42 (dk_at dksX1_hear_0 0 rfl rfl)
theorem dX1_hear_1 : decode cX1_hear 1 = .ok (.iload_n 1, 1) := dk_27 (dk_at dksX1_hear_0 1 rfl rfl)
theorem dX1_hear_2 : decode cX1_hear 2 = .ok (.invokevirtual 149, 3) := dk_182 0 149 (dk_at dksX1_hear_0 2 rfl rfl)
theorem dX1_hear_5 : decode cX1_hear 5 = .ok (.ifCond .eq 11, 3) := dk_153 0 11 (dk_at dksX1_hear_0 5 rfl rfl)
theorem dX1_hear_8 : decode cX1_hear 8 = .ok (.aload_n 0, 1) := dk_42 (dk_at dksX1_hear_0 8 rfl rfl)
theorem dX1_hear_9 : decode cX1_hear 9 = .ok (.iload_n 2, 1) := dk_28 (dk_at dksX1_hear_0 9 rfl rfl)
theorem dX1_hear_10 : decode cX1_hear 10 = .ok (.invokevirtual 128, 3) := dk_182 0 128 (dk_at dksX1_hear_0 10 rfl rfl)
theorem dX1_hear_13 : decode cX1_hear 13 = .ok (.ifCond .ne 6, 3) := dk_154 0 6 (dk_at dksX1_hear_0 13 rfl rfl)
theorem dX1_hear_16 : decode cX1_hear 16 = .ok (.bipush (-101), 2) := dk_16 155 (dk_at dksX1_hear_0 16 rfl rfl)
theorem dX1_hear_18 : decode cX1_hear 18 = .ok (.ireturn, 1) := dk_172 (dk_at dksX1_hear_0 18 rfl rfl)
theorem dX1_hear_19 : decode cX1_hear 19 = .ok (.aload_n 0, 1) := dk_42 (dk_at dksX1_hear_0 19 rfl rfl)
theorem dX1_hear_20 : decode cX1_hear 20 = .ok (.getfield 119, 3) := dk_180 0 119 (dk_at dksX1_hear_0 20 rfl rfl)
theorem dX1_hear_23 : decode cX1_hear 23 = .ok (.bipush 6, 2) := dk_16 6 (dk_at dksX1_hear_1 0 rfl rfl)
theorem dX1_hear_25 : decode cX1_hear 25 = .ok (.if_icmp .ne 6, 3) := dk_160 0 6 (dk_at dksX1_hear_1 2 rfl rfl)
theorem dX1_hear_28 : decode cX1_hear 28 = .ok (.bipush (-104), 2) := dk_16 152 (dk_at dksX1_hear_1 5 rfl rfl)
theorem dX1_hear_30 : decode cX1_hear 30 = .ok (.ireturn, 1) := dk_172 (dk_at dksX1_hear_1 7 rfl rfl)
theorem dX1_hear_31 : decode cX1_hear 31 = .ok (.aload_n 0, 1) := dk_42 (dk_at dksX1_hear_1 8 rfl rfl)
theorem dX1_hear_32 : decode cX1_hear 32 = .ok (.getfield 34, 3) := dk_180 0 34 (dk_at dksX1_hear_1 9 rfl rfl)
theorem dX1_hear_35 : decode cX1_hear 35 = .ok (.aload_n 0, 1) := dk_42 (dk_at dksX1_hear_1 12 rfl rfl)
theorem dX1_hear_36 : decode cX1_hear 36 = .ok (.getfield 119, 3) := dk_180 0 119 (dk_at dksX1_hear_1 13 rfl rfl)
theorem dX1_hear_39 : decode cX1_hear 39 = .ok (.iload_n 1, 1) := dk_27 (dk_at dksX1_hear_1 16 rfl rfl)
theorem dX1_hear_40 : decode cX1_hear 40 = .ok (.iastore, 1) := dk_79 (dk_at dksX1_hear_1 17 rfl rfl)
theorem dX1_hear_41 : decode cX1_hear 41 = .ok (.aload_n 0, 1) := dk_42 (dk_at dksX1_hear_1 18 rfl rfl)
theorem dX1_hear_42 : decode cX1_hear 42 = .ok (.getfield 37, 3) := dk_180 0 37 (dk_at dksX1_hear_1 19 rfl rfl)
theorem dX1_hear_45 : decode cX1_hear 45 = .ok (.aload_n 0, 1) := dk_42 (dk_at dksX1_hear_1 22 rfl rfl)
theorem dX1_hear_46 : decode cX1_hear 46 = .ok (.getfield 119, 3) := dk_180 0 119 (dk_at dksX1_hear_2 0 rfl rfl)
theorem dX1_hear_49 : decode cX1_hear 49 = .ok (.iload_n 2, 1) := dk_28 (dk_at dksX1_hear_2 3 rfl rfl)
theorem dX1_hear_50 : decode cX1_hear 50 = .ok (.iastore, 1) := dk_79 (dk_at dksX1_hear_2 4 rfl rfl)
theorem dX1_hear_51 : decode cX1_hear 51 = .ok (.aload_n 0, 1) := dk_42 (dk_at dksX1_hear_2 5 rfl rfl)
theorem dX1_hear_52 : decode cX1_hear 52 = .ok (.getfield 40, 3) := dk_180 0 40 (dk_at dksX1_hear_2 6 rfl rfl)
theorem dX1_hear_55 : decode cX1_hear 55 = .ok (.aload_n 0, 1) := dk_42 (dk_at dksX1_hear_2 9 rfl rfl)
theorem dX1_hear_56 : decode cX1_hear 56 = .ok (.getfield 119, 3) := dk_180 0 119 (dk_at dksX1_hear_2 10 rfl rfl)
theorem dX1_hear_59 : decode cX1_hear 59 = .ok (.iload_n 3, 1) := dk_29 (dk_at dksX1_hear_2 13 rfl rfl)
theorem dX1_hear_60 : decode cX1_hear 60 = .ok (.ifCond .eq 7, 3) := dk_153 0 7 (dk_at dksX1_hear_2 14 rfl rfl)
theorem dX1_hear_63 : decode cX1_hear 63 = .ok (.iconst 1, 1) := dk_4 (dk_at dksX1_hear_2 17 rfl rfl)
theorem dX1_hear_64 : decode cX1_hear 64 = .ok (.goto 4, 3) := dk_167 0 4 (dk_at dksX1_hear_2 18 rfl rfl)
theorem dX1_hear_67 : decode cX1_hear 67 = .ok (.iconst 0, 1) := dk_3 (dk_at dksX1_hear_2 21 rfl rfl)
theorem dX1_hear_68 : decode cX1_hear 68 = .ok (.iastore, 1) := dk_79 (dk_at dksX1_hear_2 22 rfl rfl)
theorem dX1_hear_69 : decode cX1_hear 69 = .ok (.aload_n 0, 1) := dk_42 (dk_at dksX1_hear_2 23 rfl rfl)
theorem dX1_hear_70 : decode cX1_hear 70 = .ok (.dup, 1) := dk_89 (dk_at dksX1_hear_3 0 rfl rfl)
theorem dX1_hear_71 : decode cX1_hear 71 = .ok (.getfield 119, 3) := dk_180 0 119 (dk_at dksX1_hear_3 1 rfl rfl)
theorem dX1_hear_74 : decode cX1_hear 74 = .ok (.iconst 1, 1) := dk_4 (dk_at dksX1_hear_3 4 rfl rfl)
theorem dX1_hear_75 : decode cX1_hear 75 = .ok (.iadd, 1) := dk_96 (dk_at dksX1_hear_3 5 rfl rfl)
theorem dX1_hear_76 : decode cX1_hear 76 = .ok (.putfield 119, 3) := dk_181 0 119 (dk_at dksX1_hear_3 6 rfl rfl)
theorem dX1_hear_79 : decode cX1_hear 79 = .ok (.aload_n 0, 1) := dk_42 (dk_at dksX1_hear_3 9 rfl rfl)
theorem dX1_hear_80 : decode cX1_hear 80 = .ok (.getfield 119, 3) := dk_180 0 119 (dk_at dksX1_hear_3 10 rfl rfl)
theorem dX1_hear_83 : decode cX1_hear 83 = .ok (.ireturn, 1) := dk_172 (dk_at dksX1_hear_3 13 rfl rfl)
abbrev cX1_forget : ByteArray := prog_9_method_51_code
def yX1_forget : MethodName := ⟨RX1, "forget", "()I"⟩
def dkwX1_forget_0 : List UInt8 := [42, 180, 0, 119, 60, 42, 3, 181, 0, 119, 27, 172]
abbrev dktX1_forget_0 : List UInt8 := dkwX1_forget_0 ++ []
theorem dksX1_forget_0 : cX1_forget.data.toList.drop 0 = dktX1_forget_0 := by decide +kernel
theorem dX1_forget_0 : decode cX1_forget 0 = .ok (.aload_n 0, 1) := dk_42 (dk_at dksX1_forget_0 0 rfl rfl)
theorem dX1_forget_1 : decode cX1_forget 1 = .ok (.getfield 119, 3) := dk_180 0 119 (dk_at dksX1_forget_0 1 rfl rfl)
theorem dX1_forget_4 : decode cX1_forget 4 = .ok (.istore_n 1, 1) := dk_60 (dk_at dksX1_forget_0 4 rfl rfl)
theorem dX1_forget_5 : decode cX1_forget 5 = .ok (.aload_n 0, 1) := dk_42 (dk_at dksX1_forget_0 5 rfl rfl)
theorem dX1_forget_6 : decode cX1_forget 6 = .ok (.iconst 0, 1) := dk_3 (dk_at dksX1_forget_0 6 rfl rfl)
theorem dX1_forget_7 : decode cX1_forget 7 = .ok (.putfield 119, 3) := dk_181 0 119 (dk_at dksX1_forget_0 7 rfl rfl)
theorem dX1_forget_10 : decode cX1_forget 10 = .ok (.iload_n 1, 1) := dk_27 (dk_at dksX1_forget_0 10 rfl rfl)
theorem dX1_forget_11 : decode cX1_forget 11 = .ok (.ireturn, 1) := dk_172 (dk_at dksX1_forget_0 11 rfl rfl)
abbrev cX1_fondness : ByteArray := prog_9_method_54_code
def yX1_fondness : MethodName := ⟨RX1, "fondness", "(I)I"⟩
def dkwX1_fondness_0 : List UInt8 := [42, 27, 182, 0, 149, 153, 0, 11, 42, 27, 182, 0, 231, 167, 0, 5, 16, 155, 172]
abbrev dktX1_fondness_0 : List UInt8 := dkwX1_fondness_0 ++ []
theorem dksX1_fondness_0 : cX1_fondness.data.toList.drop 0 = dktX1_fondness_0 := by decide +kernel
theorem dX1_fondness_0 : decode cX1_fondness 0 = .ok (.aload_n 0, 1) := dk_42 (dk_at dksX1_fondness_0 0 rfl rfl)
theorem dX1_fondness_1 : decode cX1_fondness 1 = .ok (.iload_n 1, 1) := dk_27 (dk_at dksX1_fondness_0 1 rfl rfl)
theorem dX1_fondness_2 : decode cX1_fondness 2 = .ok (.invokevirtual 149, 3) := dk_182 0 149 (dk_at dksX1_fondness_0 2 rfl rfl)
theorem dX1_fondness_5 : decode cX1_fondness 5 = .ok (.ifCond .eq 11, 3) := dk_153 0 11 (dk_at dksX1_fondness_0 5 rfl rfl)
theorem dX1_fondness_8 : decode cX1_fondness 8 = .ok (.aload_n 0, 1) := dk_42 (dk_at dksX1_fondness_0 8 rfl rfl)
theorem dX1_fondness_9 : decode cX1_fondness 9 = .ok (.iload_n 1, 1) := dk_27 (dk_at dksX1_fondness_0 9 rfl rfl)
theorem dX1_fondness_10 : decode cX1_fondness 10 = .ok (.invokevirtual 231, 3) := dk_182 0 231 (dk_at dksX1_fondness_0 10 rfl rfl)
theorem dX1_fondness_13 : decode cX1_fondness 13 = .ok (.goto 5, 3) := dk_167 0 5 (dk_at dksX1_fondness_0 13 rfl rfl)
theorem dX1_fondness_16 : decode cX1_fondness 16 = .ok (.bipush (-101), 2) := dk_16 155 (dk_at dksX1_fondness_0 16 rfl rfl)
theorem dX1_fondness_18 : decode cX1_fondness 18 = .ok (.ireturn, 1) := dk_172 (dk_at dksX1_fondness_0 18 rfl rfl)
abbrev cX1_fondnessNow : ByteArray := prog_9_method_53_code
def yX1_fondnessNow : MethodName := ⟨RX1, "fondnessNow", "(I)I"⟩
def dkwX1_fondnessNow_1 : List UInt8 := [167, 0, 4, 3, 128, 61, 132, 3, 1, 167, 255, 228, 28, 172]
abbrev dktX1_fondnessNow_1 : List UInt8 := dkwX1_fondnessNow_1 ++ []
def dkwX1_fondnessNow_0 : List UInt8 := [3, 61, 3, 62, 29, 16, 9, 163, 0, 28, 28, 42, 27, 29, 182, 0, 228, 153, 0, 9, 4, 29, 120]
abbrev dktX1_fondnessNow_0 : List UInt8 := dkwX1_fondnessNow_0 ++ dktX1_fondnessNow_1
theorem dksX1_fondnessNow_0 : cX1_fondnessNow.data.toList.drop 0 = dktX1_fondnessNow_0 := by decide +kernel
theorem dksX1_fondnessNow_1 : cX1_fondnessNow.data.toList.drop 23 = dktX1_fondnessNow_1 := dk_seg dksX1_fondnessNow_0 23 rfl rfl
theorem dX1_fondnessNow_0 : decode cX1_fondnessNow 0 = .ok (.iconst 0, 1) := dk_3 (dk_at dksX1_fondnessNow_0 0 rfl rfl)
theorem dX1_fondnessNow_1 : decode cX1_fondnessNow 1 = .ok (.istore_n 2, 1) := dk_61 (dk_at dksX1_fondnessNow_0 1 rfl rfl)
theorem dX1_fondnessNow_2 : decode cX1_fondnessNow 2 = .ok (.iconst 0, 1) := dk_3 (dk_at dksX1_fondnessNow_0 2 rfl rfl)
theorem dX1_fondnessNow_3 : decode cX1_fondnessNow 3 = .ok (.istore_n 3, 1) := dk_62 (dk_at dksX1_fondnessNow_0 3 rfl rfl)
theorem dX1_fondnessNow_4 : decode cX1_fondnessNow 4 = .ok (.iload_n 3, 1) := dk_29 (dk_at dksX1_fondnessNow_0 4 rfl rfl)
theorem dX1_fondnessNow_5 : decode cX1_fondnessNow 5 = .ok (.bipush 9, 2) := dk_16 9 (dk_at dksX1_fondnessNow_0 5 rfl rfl)
theorem dX1_fondnessNow_7 : decode cX1_fondnessNow 7 = .ok (.if_icmp .gt 28, 3) := dk_163 0 28 (dk_at dksX1_fondnessNow_0 7 rfl rfl)
theorem dX1_fondnessNow_10 : decode cX1_fondnessNow 10 = .ok (.iload_n 2, 1) := dk_28 (dk_at dksX1_fondnessNow_0 10 rfl rfl)
theorem dX1_fondnessNow_11 : decode cX1_fondnessNow 11 = .ok (.aload_n 0, 1) := dk_42 (dk_at dksX1_fondnessNow_0 11 rfl rfl)
theorem dX1_fondnessNow_12 : decode cX1_fondnessNow 12 = .ok (.iload_n 1, 1) := dk_27 (dk_at dksX1_fondnessNow_0 12 rfl rfl)
theorem dX1_fondnessNow_13 : decode cX1_fondnessNow 13 = .ok (.iload_n 3, 1) := dk_29 (dk_at dksX1_fondnessNow_0 13 rfl rfl)
theorem dX1_fondnessNow_14 : decode cX1_fondnessNow 14 = .ok (.invokevirtual 228, 3) := dk_182 0 228 (dk_at dksX1_fondnessNow_0 14 rfl rfl)
theorem dX1_fondnessNow_17 : decode cX1_fondnessNow 17 = .ok (.ifCond .eq 9, 3) := dk_153 0 9 (dk_at dksX1_fondnessNow_0 17 rfl rfl)
theorem dX1_fondnessNow_20 : decode cX1_fondnessNow 20 = .ok (.iconst 1, 1) := dk_4 (dk_at dksX1_fondnessNow_0 20 rfl rfl)
theorem dX1_fondnessNow_21 : decode cX1_fondnessNow 21 = .ok (.iload_n 3, 1) := dk_29 (dk_at dksX1_fondnessNow_0 21 rfl rfl)
theorem dX1_fondnessNow_22 : decode cX1_fondnessNow 22 = .ok (.ishl, 1) := dk_120 (dk_at dksX1_fondnessNow_0 22 rfl rfl)
theorem dX1_fondnessNow_23 : decode cX1_fondnessNow 23 = .ok (.goto 4, 3) := dk_167 0 4 (dk_at dksX1_fondnessNow_1 0 rfl rfl)
theorem dX1_fondnessNow_26 : decode cX1_fondnessNow 26 = .ok (.iconst 0, 1) := dk_3 (dk_at dksX1_fondnessNow_1 3 rfl rfl)
theorem dX1_fondnessNow_27 : decode cX1_fondnessNow 27 = .ok (.ior, 1) := dk_128 (dk_at dksX1_fondnessNow_1 4 rfl rfl)
theorem dX1_fondnessNow_28 : decode cX1_fondnessNow 28 = .ok (.istore_n 2, 1) := dk_61 (dk_at dksX1_fondnessNow_1 5 rfl rfl)
theorem dX1_fondnessNow_29 : decode cX1_fondnessNow 29 = .ok (.iinc 3 1, 3) := dk_132 3 1 (dk_at dksX1_fondnessNow_1 6 rfl rfl)
theorem dX1_fondnessNow_32 : decode cX1_fondnessNow 32 = .ok (.goto (-28), 3) := dk_167 255 228 (dk_at dksX1_fondnessNow_1 9 rfl rfl)
theorem dX1_fondnessNow_35 : decode cX1_fondnessNow 35 = .ok (.iload_n 2, 1) := dk_28 (dk_at dksX1_fondnessNow_1 12 rfl rfl)
theorem dX1_fondnessNow_36 : decode cX1_fondnessNow 36 = .ok (.ireturn, 1) := dk_172 (dk_at dksX1_fondnessNow_1 13 rfl rfl)
abbrev cX1_couldBe : ByteArray := prog_9_method_52_code
def yX1_couldBe : MethodName := ⟨RX1, "couldBe", "(II)Z"⟩
def dkwX1_couldBe_3 : List UInt8 := [159, 0, 7, 4, 167, 0, 4, 3, 62, 132, 4, 1, 167, 255, 182, 29, 172]
abbrev dktX1_couldBe_3 : List UInt8 := dkwX1_couldBe_3 ++ []
def dkwX1_couldBe_2 : List UInt8 := [153, 0, 29, 21, 5, 42, 180, 0, 40, 21, 4, 46, 4, 160, 0, 7, 3, 167, 0, 5, 16, 10]
abbrev dktX1_couldBe_2 : List UInt8 := dkwX1_couldBe_2 ++ dktX1_couldBe_3
def dkwX1_couldBe_1 : List UInt8 := [160, 0, 19, 42, 27, 42, 180, 0, 37, 21, 4, 46, 28, 182, 0, 142, 167, 0, 4, 8, 54, 5, 29]
abbrev dktX1_couldBe_1 : List UInt8 := dkwX1_couldBe_1 ++ dktX1_couldBe_2
def dkwX1_couldBe_0 : List UInt8 := [4, 62, 3, 54, 4, 21, 4, 42, 180, 0, 119, 162, 0, 71, 42, 180, 0, 34, 21, 4, 46, 27]
abbrev dktX1_couldBe_0 : List UInt8 := dkwX1_couldBe_0 ++ dktX1_couldBe_1
theorem dksX1_couldBe_0 : cX1_couldBe.data.toList.drop 0 = dktX1_couldBe_0 := by decide +kernel
theorem dksX1_couldBe_1 : cX1_couldBe.data.toList.drop 22 = dktX1_couldBe_1 := dk_seg dksX1_couldBe_0 22 rfl rfl
theorem dksX1_couldBe_2 : cX1_couldBe.data.toList.drop 45 = dktX1_couldBe_2 := dk_seg dksX1_couldBe_1 23 rfl rfl
theorem dksX1_couldBe_3 : cX1_couldBe.data.toList.drop 67 = dktX1_couldBe_3 := dk_seg dksX1_couldBe_2 22 rfl rfl
theorem dX1_couldBe_0 : decode cX1_couldBe 0 = .ok (.iconst 1, 1) := dk_4 (dk_at dksX1_couldBe_0 0 rfl rfl)
theorem dX1_couldBe_1 : decode cX1_couldBe 1 = .ok (.istore_n 3, 1) := dk_62 (dk_at dksX1_couldBe_0 1 rfl rfl)
theorem dX1_couldBe_2 : decode cX1_couldBe 2 = .ok (.iconst 0, 1) := dk_3 (dk_at dksX1_couldBe_0 2 rfl rfl)
theorem dX1_couldBe_3 : decode cX1_couldBe 3 = .ok (.istore 4, 2) := dk_54 4 (dk_at dksX1_couldBe_0 3 rfl rfl)
theorem dX1_couldBe_5 : decode cX1_couldBe 5 = .ok (.iload 4, 2) := dk_21 4 (dk_at dksX1_couldBe_0 5 rfl rfl)
theorem dX1_couldBe_7 : decode cX1_couldBe 7 = .ok (.aload_n 0, 1) := dk_42 (dk_at dksX1_couldBe_0 7 rfl rfl)
theorem dX1_couldBe_8 : decode cX1_couldBe 8 = .ok (.getfield 119, 3) := dk_180 0 119 (dk_at dksX1_couldBe_0 8 rfl rfl)
theorem dX1_couldBe_11 : decode cX1_couldBe 11 = .ok (.if_icmp .ge 71, 3) := dk_162 0 71 (dk_at dksX1_couldBe_0 11 rfl rfl)
theorem dX1_couldBe_14 : decode cX1_couldBe 14 = .ok (.aload_n 0, 1) := dk_42 (dk_at dksX1_couldBe_0 14 rfl rfl)
theorem dX1_couldBe_15 : decode cX1_couldBe 15 = .ok (.getfield 34, 3) := dk_180 0 34 (dk_at dksX1_couldBe_0 15 rfl rfl)
theorem dX1_couldBe_18 : decode cX1_couldBe 18 = .ok (.iload 4, 2) := dk_21 4 (dk_at dksX1_couldBe_0 18 rfl rfl)
theorem dX1_couldBe_20 : decode cX1_couldBe 20 = .ok (.iaload, 1) := dk_46 (dk_at dksX1_couldBe_0 20 rfl rfl)
theorem dX1_couldBe_21 : decode cX1_couldBe 21 = .ok (.iload_n 1, 1) := dk_27 (dk_at dksX1_couldBe_0 21 rfl rfl)
theorem dX1_couldBe_22 : decode cX1_couldBe 22 = .ok (.if_icmp .ne 19, 3) := dk_160 0 19 (dk_at dksX1_couldBe_1 0 rfl rfl)
theorem dX1_couldBe_25 : decode cX1_couldBe 25 = .ok (.aload_n 0, 1) := dk_42 (dk_at dksX1_couldBe_1 3 rfl rfl)
theorem dX1_couldBe_26 : decode cX1_couldBe 26 = .ok (.iload_n 1, 1) := dk_27 (dk_at dksX1_couldBe_1 4 rfl rfl)
theorem dX1_couldBe_27 : decode cX1_couldBe 27 = .ok (.aload_n 0, 1) := dk_42 (dk_at dksX1_couldBe_1 5 rfl rfl)
theorem dX1_couldBe_28 : decode cX1_couldBe 28 = .ok (.getfield 37, 3) := dk_180 0 37 (dk_at dksX1_couldBe_1 6 rfl rfl)
theorem dX1_couldBe_31 : decode cX1_couldBe 31 = .ok (.iload 4, 2) := dk_21 4 (dk_at dksX1_couldBe_1 9 rfl rfl)
theorem dX1_couldBe_33 : decode cX1_couldBe 33 = .ok (.iaload, 1) := dk_46 (dk_at dksX1_couldBe_1 11 rfl rfl)
theorem dX1_couldBe_34 : decode cX1_couldBe 34 = .ok (.iload_n 2, 1) := dk_28 (dk_at dksX1_couldBe_1 12 rfl rfl)
theorem dX1_couldBe_35 : decode cX1_couldBe 35 = .ok (.invokevirtual 142, 3) := dk_182 0 142 (dk_at dksX1_couldBe_1 13 rfl rfl)
theorem dX1_couldBe_38 : decode cX1_couldBe 38 = .ok (.goto 4, 3) := dk_167 0 4 (dk_at dksX1_couldBe_1 16 rfl rfl)
theorem dX1_couldBe_41 : decode cX1_couldBe 41 = .ok (.iconst 5, 1) := dk_8 (dk_at dksX1_couldBe_1 19 rfl rfl)
theorem dX1_couldBe_42 : decode cX1_couldBe 42 = .ok (.istore 5, 2) := dk_54 5 (dk_at dksX1_couldBe_1 20 rfl rfl)
theorem dX1_couldBe_44 : decode cX1_couldBe 44 = .ok (.iload_n 3, 1) := dk_29 (dk_at dksX1_couldBe_1 22 rfl rfl)
theorem dX1_couldBe_45 : decode cX1_couldBe 45 = .ok (.ifCond .eq 29, 3) := dk_153 0 29 (dk_at dksX1_couldBe_2 0 rfl rfl)
theorem dX1_couldBe_48 : decode cX1_couldBe 48 = .ok (.iload 5, 2) := dk_21 5 (dk_at dksX1_couldBe_2 3 rfl rfl)
theorem dX1_couldBe_50 : decode cX1_couldBe 50 = .ok (.aload_n 0, 1) := dk_42 (dk_at dksX1_couldBe_2 5 rfl rfl)
theorem dX1_couldBe_51 : decode cX1_couldBe 51 = .ok (.getfield 40, 3) := dk_180 0 40 (dk_at dksX1_couldBe_2 6 rfl rfl)
theorem dX1_couldBe_54 : decode cX1_couldBe 54 = .ok (.iload 4, 2) := dk_21 4 (dk_at dksX1_couldBe_2 9 rfl rfl)
theorem dX1_couldBe_56 : decode cX1_couldBe 56 = .ok (.iaload, 1) := dk_46 (dk_at dksX1_couldBe_2 11 rfl rfl)
theorem dX1_couldBe_57 : decode cX1_couldBe 57 = .ok (.iconst 1, 1) := dk_4 (dk_at dksX1_couldBe_2 12 rfl rfl)
theorem dX1_couldBe_58 : decode cX1_couldBe 58 = .ok (.if_icmp .ne 7, 3) := dk_160 0 7 (dk_at dksX1_couldBe_2 13 rfl rfl)
theorem dX1_couldBe_61 : decode cX1_couldBe 61 = .ok (.iconst 0, 1) := dk_3 (dk_at dksX1_couldBe_2 16 rfl rfl)
theorem dX1_couldBe_62 : decode cX1_couldBe 62 = .ok (.goto 5, 3) := dk_167 0 5 (dk_at dksX1_couldBe_2 17 rfl rfl)
theorem dX1_couldBe_65 : decode cX1_couldBe 65 = .ok (.bipush 10, 2) := dk_16 10 (dk_at dksX1_couldBe_2 20 rfl rfl)
theorem dX1_couldBe_67 : decode cX1_couldBe 67 = .ok (.if_icmp .eq 7, 3) := dk_159 0 7 (dk_at dksX1_couldBe_3 0 rfl rfl)
theorem dX1_couldBe_70 : decode cX1_couldBe 70 = .ok (.iconst 1, 1) := dk_4 (dk_at dksX1_couldBe_3 3 rfl rfl)
theorem dX1_couldBe_71 : decode cX1_couldBe 71 = .ok (.goto 4, 3) := dk_167 0 4 (dk_at dksX1_couldBe_3 4 rfl rfl)
theorem dX1_couldBe_74 : decode cX1_couldBe 74 = .ok (.iconst 0, 1) := dk_3 (dk_at dksX1_couldBe_3 7 rfl rfl)
theorem dX1_couldBe_75 : decode cX1_couldBe 75 = .ok (.istore_n 3, 1) := dk_62 (dk_at dksX1_couldBe_3 8 rfl rfl)
theorem dX1_couldBe_76 : decode cX1_couldBe 76 = .ok (.iinc 4 1, 3) := dk_132 4 1 (dk_at dksX1_couldBe_3 9 rfl rfl)
theorem dX1_couldBe_79 : decode cX1_couldBe 79 = .ok (.goto (-74), 3) := dk_167 255 182 (dk_at dksX1_couldBe_3 12 rfl rfl)
theorem dX1_couldBe_82 : decode cX1_couldBe 82 = .ok (.iload_n 3, 1) := dk_29 (dk_at dksX1_couldBe_3 15 rfl rfl)
theorem dX1_couldBe_83 : decode cX1_couldBe 83 = .ok (.ireturn, 1) := dk_172 (dk_at dksX1_couldBe_3 16 rfl rfl)
abbrev cX1_schools : ByteArray := prog_9_method_61_code
def yX1_schools : MethodName := ⟨RX1, "schools", "(III)I"⟩
def dkwX1_schools_1 : List UInt8 := [16, 154, 172, 42, 180, 0, 116, 154, 0, 8, 16, 153, 167, 0, 10, 42, 27, 28, 29, 182, 1, 8, 172]
abbrev dktX1_schools_1 : List UInt8 := dkwX1_schools_1 ++ []
def dkwX1_schools_0 : List UInt8 := [27, 4, 16, 20, 184, 0, 77, 153, 0, 16, 28, 155, 0, 12, 29, 3, 5, 184, 0, 77, 154, 0, 6]
abbrev dktX1_schools_0 : List UInt8 := dkwX1_schools_0 ++ dktX1_schools_1
theorem dksX1_schools_0 : cX1_schools.data.toList.drop 0 = dktX1_schools_0 := by decide +kernel
theorem dksX1_schools_1 : cX1_schools.data.toList.drop 23 = dktX1_schools_1 := dk_seg dksX1_schools_0 23 rfl rfl
theorem dX1_schools_0 : decode cX1_schools 0 = .ok (.iload_n 1, 1) := dk_27 (dk_at dksX1_schools_0 0 rfl rfl)
theorem dX1_schools_1 : decode cX1_schools 1 = .ok (.iconst 1, 1) := dk_4 (dk_at dksX1_schools_0 1 rfl rfl)
theorem dX1_schools_2 : decode cX1_schools 2 = .ok (.bipush 20, 2) := dk_16 20 (dk_at dksX1_schools_0 2 rfl rfl)
theorem dX1_schools_4 : decode cX1_schools 4 = .ok (.invokestatic 77, 3) := dk_184 0 77 (dk_at dksX1_schools_0 4 rfl rfl)
theorem dX1_schools_7 : decode cX1_schools 7 = .ok (.ifCond .eq 16, 3) := dk_153 0 16 (dk_at dksX1_schools_0 7 rfl rfl)
theorem dX1_schools_10 : decode cX1_schools 10 = .ok (.iload_n 2, 1) := dk_28 (dk_at dksX1_schools_0 10 rfl rfl)
theorem dX1_schools_11 : decode cX1_schools 11 = .ok (.ifCond .lt 12, 3) := dk_155 0 12 (dk_at dksX1_schools_0 11 rfl rfl)
theorem dX1_schools_14 : decode cX1_schools 14 = .ok (.iload_n 3, 1) := dk_29 (dk_at dksX1_schools_0 14 rfl rfl)
theorem dX1_schools_15 : decode cX1_schools 15 = .ok (.iconst 0, 1) := dk_3 (dk_at dksX1_schools_0 15 rfl rfl)
theorem dX1_schools_16 : decode cX1_schools 16 = .ok (.iconst 2, 1) := dk_5 (dk_at dksX1_schools_0 16 rfl rfl)
theorem dX1_schools_17 : decode cX1_schools 17 = .ok (.invokestatic 77, 3) := dk_184 0 77 (dk_at dksX1_schools_0 17 rfl rfl)
theorem dX1_schools_20 : decode cX1_schools 20 = .ok (.ifCond .ne 6, 3) := dk_154 0 6 (dk_at dksX1_schools_0 20 rfl rfl)
theorem dX1_schools_23 : decode cX1_schools 23 = .ok (.bipush (-102), 2) := dk_16 154 (dk_at dksX1_schools_1 0 rfl rfl)
theorem dX1_schools_25 : decode cX1_schools 25 = .ok (.ireturn, 1) := dk_172 (dk_at dksX1_schools_1 2 rfl rfl)
theorem dX1_schools_26 : decode cX1_schools 26 = .ok (.aload_n 0, 1) := dk_42 (dk_at dksX1_schools_1 3 rfl rfl)
theorem dX1_schools_27 : decode cX1_schools 27 = .ok (.getfield 116, 3) := dk_180 0 116 (dk_at dksX1_schools_1 4 rfl rfl)
theorem dX1_schools_30 : decode cX1_schools 30 = .ok (.ifCond .ne 8, 3) := dk_154 0 8 (dk_at dksX1_schools_1 7 rfl rfl)
theorem dX1_schools_33 : decode cX1_schools 33 = .ok (.bipush (-103), 2) := dk_16 153 (dk_at dksX1_schools_1 10 rfl rfl)
theorem dX1_schools_35 : decode cX1_schools 35 = .ok (.goto 10, 3) := dk_167 0 10 (dk_at dksX1_schools_1 12 rfl rfl)
theorem dX1_schools_38 : decode cX1_schools 38 = .ok (.aload_n 0, 1) := dk_42 (dk_at dksX1_schools_1 15 rfl rfl)
theorem dX1_schools_39 : decode cX1_schools 39 = .ok (.iload_n 1, 1) := dk_27 (dk_at dksX1_schools_1 16 rfl rfl)
theorem dX1_schools_40 : decode cX1_schools 40 = .ok (.iload_n 2, 1) := dk_28 (dk_at dksX1_schools_1 17 rfl rfl)
theorem dX1_schools_41 : decode cX1_schools 41 = .ok (.iload_n 3, 1) := dk_29 (dk_at dksX1_schools_1 18 rfl rfl)
theorem dX1_schools_42 : decode cX1_schools 42 = .ok (.invokevirtual 264, 3) := dk_182 1 8 (dk_at dksX1_schools_1 19 rfl rfl)
theorem dX1_schools_45 : decode cX1_schools 45 = .ok (.ireturn, 1) := dk_172 (dk_at dksX1_schools_1 22 rfl rfl)
abbrev cX1_schoolsNow : ByteArray := prog_9_method_60_code
def yX1_schoolsNow : MethodName := ⟨RX1, "schoolsNow", "(III)I"⟩
def dkwX1_schoolsNow_5 : List UInt8 := [167, 0, 8, 42, 180, 0, 236, 136, 172]
abbrev dktX1_schoolsNow_5 : List UInt8 := dkwX1_schoolsNow_5 ++ []
def dkwX1_schoolsNow_4 : List UInt8 := [54, 5, 42, 182, 1, 5, 29, 154, 0, 8, 21, 4, 167, 0, 18, 29, 4, 160, 0, 8, 21, 5]
abbrev dktX1_schoolsNow_4 : List UInt8 := dkwX1_schoolsNow_4 ++ dktX1_schoolsNow_5
def dkwX1_schoolsNow_3 : List UInt8 := [21, 7, 182, 0, 255, 96, 54, 4, 132, 7, 1, 167, 255, 212, 132, 5, 1, 167, 255, 183, 42, 182, 1, 2]
abbrev dktX1_schoolsNow_3 : List UInt8 := dkwX1_schoolsNow_3 ++ dktX1_schoolsNow_4
def dkwX1_schoolsNow_2 : List UInt8 := [21, 4, 42, 180, 0, 28, 21, 6, 46, 21, 7, 184, 0, 122, 153, 0, 7, 3, 167, 0, 11, 42, 21, 6]
abbrev dktX1_schoolsNow_2 : List UInt8 := dkwX1_schoolsNow_2 ++ dktX1_schoolsNow_3
def dkwX1_schoolsNow_1 : List UInt8 := [162, 0, 68, 21, 5, 42, 180, 0, 116, 112, 54, 6, 3, 54, 7, 21, 7, 42, 180, 0, 107, 162, 0, 41]
abbrev dktX1_schoolsNow_1 : List UInt8 := dkwX1_schoolsNow_1 ++ dktX1_schoolsNow_2
def dkwX1_schoolsNow_0 : List UInt8 := [42, 182, 0, 252, 42, 28, 133, 181, 0, 236, 3, 54, 4, 3, 54, 5, 21, 5, 27, 42, 180, 0, 116, 104]
abbrev dktX1_schoolsNow_0 : List UInt8 := dkwX1_schoolsNow_0 ++ dktX1_schoolsNow_1
theorem dksX1_schoolsNow_0 : cX1_schoolsNow.data.toList.drop 0 = dktX1_schoolsNow_0 := by decide +kernel
theorem dksX1_schoolsNow_1 : cX1_schoolsNow.data.toList.drop 24 = dktX1_schoolsNow_1 := dk_seg dksX1_schoolsNow_0 24 rfl rfl
theorem dksX1_schoolsNow_2 : cX1_schoolsNow.data.toList.drop 48 = dktX1_schoolsNow_2 := dk_seg dksX1_schoolsNow_1 24 rfl rfl
theorem dksX1_schoolsNow_3 : cX1_schoolsNow.data.toList.drop 72 = dktX1_schoolsNow_3 := dk_seg dksX1_schoolsNow_2 24 rfl rfl
theorem dksX1_schoolsNow_4 : cX1_schoolsNow.data.toList.drop 96 = dktX1_schoolsNow_4 := dk_seg dksX1_schoolsNow_3 24 rfl rfl
theorem dksX1_schoolsNow_5 : cX1_schoolsNow.data.toList.drop 118 = dktX1_schoolsNow_5 := dk_seg dksX1_schoolsNow_4 22 rfl rfl
theorem dX1_schoolsNow_0 : decode cX1_schoolsNow 0 = .ok (.aload_n 0, 1) := dk_42 (dk_at dksX1_schoolsNow_0 0 rfl rfl)
theorem dX1_schoolsNow_1 : decode cX1_schoolsNow 1 = .ok (.invokevirtual 252, 3) := dk_182 0 252 (dk_at dksX1_schoolsNow_0 1 rfl rfl)
theorem dX1_schoolsNow_4 : decode cX1_schoolsNow 4 = .ok (.aload_n 0, 1) := dk_42 (dk_at dksX1_schoolsNow_0 4 rfl rfl)
theorem dX1_schoolsNow_5 : decode cX1_schoolsNow 5 = .ok (.iload_n 2, 1) := dk_28 (dk_at dksX1_schoolsNow_0 5 rfl rfl)
theorem dX1_schoolsNow_6 : decode cX1_schoolsNow 6 = .ok (.i2l, 1) := dk_133 (dk_at dksX1_schoolsNow_0 6 rfl rfl)
theorem dX1_schoolsNow_7 : decode cX1_schoolsNow 7 = .ok (.putfield 236, 3) := dk_181 0 236 (dk_at dksX1_schoolsNow_0 7 rfl rfl)
theorem dX1_schoolsNow_10 : decode cX1_schoolsNow 10 = .ok (.iconst 0, 1) := dk_3 (dk_at dksX1_schoolsNow_0 10 rfl rfl)
theorem dX1_schoolsNow_11 : decode cX1_schoolsNow 11 = .ok (.istore 4, 2) := dk_54 4 (dk_at dksX1_schoolsNow_0 11 rfl rfl)
theorem dX1_schoolsNow_13 : decode cX1_schoolsNow 13 = .ok (.iconst 0, 1) := dk_3 (dk_at dksX1_schoolsNow_0 13 rfl rfl)
theorem dX1_schoolsNow_14 : decode cX1_schoolsNow 14 = .ok (.istore 5, 2) := dk_54 5 (dk_at dksX1_schoolsNow_0 14 rfl rfl)
theorem dX1_schoolsNow_16 : decode cX1_schoolsNow 16 = .ok (.iload 5, 2) := dk_21 5 (dk_at dksX1_schoolsNow_0 16 rfl rfl)
theorem dX1_schoolsNow_18 : decode cX1_schoolsNow 18 = .ok (.iload_n 1, 1) := dk_27 (dk_at dksX1_schoolsNow_0 18 rfl rfl)
theorem dX1_schoolsNow_19 : decode cX1_schoolsNow 19 = .ok (.aload_n 0, 1) := dk_42 (dk_at dksX1_schoolsNow_0 19 rfl rfl)
theorem dX1_schoolsNow_20 : decode cX1_schoolsNow 20 = .ok (.getfield 116, 3) := dk_180 0 116 (dk_at dksX1_schoolsNow_0 20 rfl rfl)
theorem dX1_schoolsNow_23 : decode cX1_schoolsNow 23 = .ok (.imul, 1) := dk_104 (dk_at dksX1_schoolsNow_0 23 rfl rfl)
theorem dX1_schoolsNow_24 : decode cX1_schoolsNow 24 = .ok (.if_icmp .ge 68, 3) := dk_162 0 68 (dk_at dksX1_schoolsNow_1 0 rfl rfl)
theorem dX1_schoolsNow_27 : decode cX1_schoolsNow 27 = .ok (.iload 5, 2) := dk_21 5 (dk_at dksX1_schoolsNow_1 3 rfl rfl)
theorem dX1_schoolsNow_29 : decode cX1_schoolsNow 29 = .ok (.aload_n 0, 1) := dk_42 (dk_at dksX1_schoolsNow_1 5 rfl rfl)
theorem dX1_schoolsNow_30 : decode cX1_schoolsNow 30 = .ok (.getfield 116, 3) := dk_180 0 116 (dk_at dksX1_schoolsNow_1 6 rfl rfl)
theorem dX1_schoolsNow_33 : decode cX1_schoolsNow 33 = .ok (.irem, 1) := dk_112 (dk_at dksX1_schoolsNow_1 9 rfl rfl)
theorem dX1_schoolsNow_34 : decode cX1_schoolsNow 34 = .ok (.istore 6, 2) := dk_54 6 (dk_at dksX1_schoolsNow_1 10 rfl rfl)
theorem dX1_schoolsNow_36 : decode cX1_schoolsNow 36 = .ok (.iconst 0, 1) := dk_3 (dk_at dksX1_schoolsNow_1 12 rfl rfl)
theorem dX1_schoolsNow_37 : decode cX1_schoolsNow 37 = .ok (.istore 7, 2) := dk_54 7 (dk_at dksX1_schoolsNow_1 13 rfl rfl)
theorem dX1_schoolsNow_39 : decode cX1_schoolsNow 39 = .ok (.iload 7, 2) := dk_21 7 (dk_at dksX1_schoolsNow_1 15 rfl rfl)
theorem dX1_schoolsNow_41 : decode cX1_schoolsNow 41 = .ok (.aload_n 0, 1) := dk_42 (dk_at dksX1_schoolsNow_1 17 rfl rfl)
theorem dX1_schoolsNow_42 : decode cX1_schoolsNow 42 = .ok (.getfield 107, 3) := dk_180 0 107 (dk_at dksX1_schoolsNow_1 18 rfl rfl)
theorem dX1_schoolsNow_45 : decode cX1_schoolsNow 45 = .ok (.if_icmp .ge 41, 3) := dk_162 0 41 (dk_at dksX1_schoolsNow_1 21 rfl rfl)
theorem dX1_schoolsNow_48 : decode cX1_schoolsNow 48 = .ok (.iload 4, 2) := dk_21 4 (dk_at dksX1_schoolsNow_2 0 rfl rfl)
theorem dX1_schoolsNow_50 : decode cX1_schoolsNow 50 = .ok (.aload_n 0, 1) := dk_42 (dk_at dksX1_schoolsNow_2 2 rfl rfl)
theorem dX1_schoolsNow_51 : decode cX1_schoolsNow 51 = .ok (.getfield 28, 3) := dk_180 0 28 (dk_at dksX1_schoolsNow_2 3 rfl rfl)
theorem dX1_schoolsNow_54 : decode cX1_schoolsNow 54 = .ok (.iload 6, 2) := dk_21 6 (dk_at dksX1_schoolsNow_2 6 rfl rfl)
theorem dX1_schoolsNow_56 : decode cX1_schoolsNow 56 = .ok (.iaload, 1) := dk_46 (dk_at dksX1_schoolsNow_2 8 rfl rfl)
theorem dX1_schoolsNow_57 : decode cX1_schoolsNow 57 = .ok (.iload 7, 2) := dk_21 7 (dk_at dksX1_schoolsNow_2 9 rfl rfl)
theorem dX1_schoolsNow_59 : decode cX1_schoolsNow 59 = .ok (.invokestatic 122, 3) := dk_184 0 122 (dk_at dksX1_schoolsNow_2 11 rfl rfl)
theorem dX1_schoolsNow_62 : decode cX1_schoolsNow 62 = .ok (.ifCond .eq 7, 3) := dk_153 0 7 (dk_at dksX1_schoolsNow_2 14 rfl rfl)
theorem dX1_schoolsNow_65 : decode cX1_schoolsNow 65 = .ok (.iconst 0, 1) := dk_3 (dk_at dksX1_schoolsNow_2 17 rfl rfl)
theorem dX1_schoolsNow_66 : decode cX1_schoolsNow 66 = .ok (.goto 11, 3) := dk_167 0 11 (dk_at dksX1_schoolsNow_2 18 rfl rfl)
theorem dX1_schoolsNow_69 : decode cX1_schoolsNow 69 = .ok (.aload_n 0, 1) := dk_42 (dk_at dksX1_schoolsNow_2 21 rfl rfl)
theorem dX1_schoolsNow_70 : decode cX1_schoolsNow 70 = .ok (.iload 6, 2) := dk_21 6 (dk_at dksX1_schoolsNow_2 22 rfl rfl)
theorem dX1_schoolsNow_72 : decode cX1_schoolsNow 72 = .ok (.iload 7, 2) := dk_21 7 (dk_at dksX1_schoolsNow_3 0 rfl rfl)
theorem dX1_schoolsNow_74 : decode cX1_schoolsNow 74 = .ok (.invokevirtual 255, 3) := dk_182 0 255 (dk_at dksX1_schoolsNow_3 2 rfl rfl)
theorem dX1_schoolsNow_77 : decode cX1_schoolsNow 77 = .ok (.iadd, 1) := dk_96 (dk_at dksX1_schoolsNow_3 5 rfl rfl)
theorem dX1_schoolsNow_78 : decode cX1_schoolsNow 78 = .ok (.istore 4, 2) := dk_54 4 (dk_at dksX1_schoolsNow_3 6 rfl rfl)
theorem dX1_schoolsNow_80 : decode cX1_schoolsNow 80 = .ok (.iinc 7 1, 3) := dk_132 7 1 (dk_at dksX1_schoolsNow_3 8 rfl rfl)
theorem dX1_schoolsNow_83 : decode cX1_schoolsNow 83 = .ok (.goto (-44), 3) := dk_167 255 212 (dk_at dksX1_schoolsNow_3 11 rfl rfl)
theorem dX1_schoolsNow_86 : decode cX1_schoolsNow 86 = .ok (.iinc 5 1, 3) := dk_132 5 1 (dk_at dksX1_schoolsNow_3 14 rfl rfl)
theorem dX1_schoolsNow_89 : decode cX1_schoolsNow 89 = .ok (.goto (-73), 3) := dk_167 255 183 (dk_at dksX1_schoolsNow_3 17 rfl rfl)
theorem dX1_schoolsNow_92 : decode cX1_schoolsNow 92 = .ok (.aload_n 0, 1) := dk_42 (dk_at dksX1_schoolsNow_3 20 rfl rfl)
theorem dX1_schoolsNow_93 : decode cX1_schoolsNow 93 = .ok (.invokevirtual 258, 3) := dk_182 1 2 (dk_at dksX1_schoolsNow_3 21 rfl rfl)
theorem dX1_schoolsNow_96 : decode cX1_schoolsNow 96 = .ok (.istore 5, 2) := dk_54 5 (dk_at dksX1_schoolsNow_4 0 rfl rfl)
theorem dX1_schoolsNow_98 : decode cX1_schoolsNow 98 = .ok (.aload_n 0, 1) := dk_42 (dk_at dksX1_schoolsNow_4 2 rfl rfl)
theorem dX1_schoolsNow_99 : decode cX1_schoolsNow 99 = .ok (.invokevirtual 261, 3) := dk_182 1 5 (dk_at dksX1_schoolsNow_4 3 rfl rfl)
theorem dX1_schoolsNow_102 : decode cX1_schoolsNow 102 = .ok (.iload_n 3, 1) := dk_29 (dk_at dksX1_schoolsNow_4 6 rfl rfl)
theorem dX1_schoolsNow_103 : decode cX1_schoolsNow 103 = .ok (.ifCond .ne 8, 3) := dk_154 0 8 (dk_at dksX1_schoolsNow_4 7 rfl rfl)
theorem dX1_schoolsNow_106 : decode cX1_schoolsNow 106 = .ok (.iload 4, 2) := dk_21 4 (dk_at dksX1_schoolsNow_4 10 rfl rfl)
theorem dX1_schoolsNow_108 : decode cX1_schoolsNow 108 = .ok (.goto 18, 3) := dk_167 0 18 (dk_at dksX1_schoolsNow_4 12 rfl rfl)
theorem dX1_schoolsNow_111 : decode cX1_schoolsNow 111 = .ok (.iload_n 3, 1) := dk_29 (dk_at dksX1_schoolsNow_4 15 rfl rfl)
theorem dX1_schoolsNow_112 : decode cX1_schoolsNow 112 = .ok (.iconst 1, 1) := dk_4 (dk_at dksX1_schoolsNow_4 16 rfl rfl)
theorem dX1_schoolsNow_113 : decode cX1_schoolsNow 113 = .ok (.if_icmp .ne 8, 3) := dk_160 0 8 (dk_at dksX1_schoolsNow_4 17 rfl rfl)
theorem dX1_schoolsNow_116 : decode cX1_schoolsNow 116 = .ok (.iload 5, 2) := dk_21 5 (dk_at dksX1_schoolsNow_4 20 rfl rfl)
theorem dX1_schoolsNow_118 : decode cX1_schoolsNow 118 = .ok (.goto 8, 3) := dk_167 0 8 (dk_at dksX1_schoolsNow_5 0 rfl rfl)
theorem dX1_schoolsNow_121 : decode cX1_schoolsNow 121 = .ok (.aload_n 0, 1) := dk_42 (dk_at dksX1_schoolsNow_5 3 rfl rfl)
theorem dX1_schoolsNow_122 : decode cX1_schoolsNow 122 = .ok (.getfield 236, 3) := dk_180 0 236 (dk_at dksX1_schoolsNow_5 4 rfl rfl)
theorem dX1_schoolsNow_125 : decode cX1_schoolsNow 125 = .ok (.l2i, 1) := dk_136 (dk_at dksX1_schoolsNow_5 7 rfl rfl)
theorem dX1_schoolsNow_126 : decode cX1_schoolsNow 126 = .ok (.ireturn, 1) := dk_172 (dk_at dksX1_schoolsNow_5 8 rfl rfl)
abbrev cX1_saveAll : ByteArray := prog_9_method_55_code
def yX1_saveAll : MethodName := ⟨RX1, "saveAll", "()V"⟩
def dkwX1_saveAll_2 : List UInt8 := [79, 42, 180, 0, 53, 16, 12, 27, 96, 42, 180, 0, 28, 27, 46, 79, 132, 1, 1, 167, 255, 218, 177]
abbrev dktX1_saveAll_2 : List UInt8 := dkwX1_saveAll_2 ++ []
def dkwX1_saveAll_1 : List UInt8 := [167, 255, 235, 3, 60, 27, 6, 162, 0, 39, 42, 180, 0, 53, 16, 9, 27, 96, 42, 180, 0, 16, 27, 46]
abbrev dktX1_saveAll_1 : List UInt8 := dkwX1_saveAll_1 ++ dktX1_saveAll_2
def dkwX1_saveAll_0 : List UInt8 := [3, 60, 27, 16, 9, 162, 0, 21, 42, 180, 0, 53, 27, 42, 180, 0, 31, 27, 46, 79, 132, 1, 1]
abbrev dktX1_saveAll_0 : List UInt8 := dkwX1_saveAll_0 ++ dktX1_saveAll_1
theorem dksX1_saveAll_0 : cX1_saveAll.data.toList.drop 0 = dktX1_saveAll_0 := by decide +kernel
theorem dksX1_saveAll_1 : cX1_saveAll.data.toList.drop 23 = dktX1_saveAll_1 := dk_seg dksX1_saveAll_0 23 rfl rfl
theorem dksX1_saveAll_2 : cX1_saveAll.data.toList.drop 47 = dktX1_saveAll_2 := dk_seg dksX1_saveAll_1 24 rfl rfl
theorem dX1_saveAll_0 : decode cX1_saveAll 0 = .ok (.iconst 0, 1) := dk_3 (dk_at dksX1_saveAll_0 0 rfl rfl)
theorem dX1_saveAll_1 : decode cX1_saveAll 1 = .ok (.istore_n 1, 1) := dk_60 (dk_at dksX1_saveAll_0 1 rfl rfl)
theorem dX1_saveAll_2 : decode cX1_saveAll 2 = .ok (.iload_n 1, 1) := dk_27 (dk_at dksX1_saveAll_0 2 rfl rfl)
theorem dX1_saveAll_3 : decode cX1_saveAll 3 = .ok (.bipush 9, 2) := dk_16 9 (dk_at dksX1_saveAll_0 3 rfl rfl)
theorem dX1_saveAll_5 : decode cX1_saveAll 5 = .ok (.if_icmp .ge 21, 3) := dk_162 0 21 (dk_at dksX1_saveAll_0 5 rfl rfl)
theorem dX1_saveAll_8 : decode cX1_saveAll 8 = .ok (.aload_n 0, 1) := dk_42 (dk_at dksX1_saveAll_0 8 rfl rfl)
theorem dX1_saveAll_9 : decode cX1_saveAll 9 = .ok (.getfield 53, 3) := dk_180 0 53 (dk_at dksX1_saveAll_0 9 rfl rfl)
theorem dX1_saveAll_12 : decode cX1_saveAll 12 = .ok (.iload_n 1, 1) := dk_27 (dk_at dksX1_saveAll_0 12 rfl rfl)
theorem dX1_saveAll_13 : decode cX1_saveAll 13 = .ok (.aload_n 0, 1) := dk_42 (dk_at dksX1_saveAll_0 13 rfl rfl)
theorem dX1_saveAll_14 : decode cX1_saveAll 14 = .ok (.getfield 31, 3) := dk_180 0 31 (dk_at dksX1_saveAll_0 14 rfl rfl)
theorem dX1_saveAll_17 : decode cX1_saveAll 17 = .ok (.iload_n 1, 1) := dk_27 (dk_at dksX1_saveAll_0 17 rfl rfl)
theorem dX1_saveAll_18 : decode cX1_saveAll 18 = .ok (.iaload, 1) := dk_46 (dk_at dksX1_saveAll_0 18 rfl rfl)
theorem dX1_saveAll_19 : decode cX1_saveAll 19 = .ok (.iastore, 1) := dk_79 (dk_at dksX1_saveAll_0 19 rfl rfl)
theorem dX1_saveAll_20 : decode cX1_saveAll 20 = .ok (.iinc 1 1, 3) := dk_132 1 1 (dk_at dksX1_saveAll_0 20 rfl rfl)
theorem dX1_saveAll_23 : decode cX1_saveAll 23 = .ok (.goto (-21), 3) := dk_167 255 235 (dk_at dksX1_saveAll_1 0 rfl rfl)
theorem dX1_saveAll_26 : decode cX1_saveAll 26 = .ok (.iconst 0, 1) := dk_3 (dk_at dksX1_saveAll_1 3 rfl rfl)
theorem dX1_saveAll_27 : decode cX1_saveAll 27 = .ok (.istore_n 1, 1) := dk_60 (dk_at dksX1_saveAll_1 4 rfl rfl)
theorem dX1_saveAll_28 : decode cX1_saveAll 28 = .ok (.iload_n 1, 1) := dk_27 (dk_at dksX1_saveAll_1 5 rfl rfl)
theorem dX1_saveAll_29 : decode cX1_saveAll 29 = .ok (.iconst 3, 1) := dk_6 (dk_at dksX1_saveAll_1 6 rfl rfl)
theorem dX1_saveAll_30 : decode cX1_saveAll 30 = .ok (.if_icmp .ge 39, 3) := dk_162 0 39 (dk_at dksX1_saveAll_1 7 rfl rfl)
theorem dX1_saveAll_33 : decode cX1_saveAll 33 = .ok (.aload_n 0, 1) := dk_42 (dk_at dksX1_saveAll_1 10 rfl rfl)
theorem dX1_saveAll_34 : decode cX1_saveAll 34 = .ok (.getfield 53, 3) := dk_180 0 53 (dk_at dksX1_saveAll_1 11 rfl rfl)
theorem dX1_saveAll_37 : decode cX1_saveAll 37 = .ok (.bipush 9, 2) := dk_16 9 (dk_at dksX1_saveAll_1 14 rfl rfl)
theorem dX1_saveAll_39 : decode cX1_saveAll 39 = .ok (.iload_n 1, 1) := dk_27 (dk_at dksX1_saveAll_1 16 rfl rfl)
theorem dX1_saveAll_40 : decode cX1_saveAll 40 = .ok (.iadd, 1) := dk_96 (dk_at dksX1_saveAll_1 17 rfl rfl)
theorem dX1_saveAll_41 : decode cX1_saveAll 41 = .ok (.aload_n 0, 1) := dk_42 (dk_at dksX1_saveAll_1 18 rfl rfl)
theorem dX1_saveAll_42 : decode cX1_saveAll 42 = .ok (.getfield 16, 3) := dk_180 0 16 (dk_at dksX1_saveAll_1 19 rfl rfl)
theorem dX1_saveAll_45 : decode cX1_saveAll 45 = .ok (.iload_n 1, 1) := dk_27 (dk_at dksX1_saveAll_1 22 rfl rfl)
theorem dX1_saveAll_46 : decode cX1_saveAll 46 = .ok (.iaload, 1) := dk_46 (dk_at dksX1_saveAll_1 23 rfl rfl)
theorem dX1_saveAll_47 : decode cX1_saveAll 47 = .ok (.iastore, 1) := dk_79 (dk_at dksX1_saveAll_2 0 rfl rfl)
theorem dX1_saveAll_48 : decode cX1_saveAll 48 = .ok (.aload_n 0, 1) := dk_42 (dk_at dksX1_saveAll_2 1 rfl rfl)
theorem dX1_saveAll_49 : decode cX1_saveAll 49 = .ok (.getfield 53, 3) := dk_180 0 53 (dk_at dksX1_saveAll_2 2 rfl rfl)
theorem dX1_saveAll_52 : decode cX1_saveAll 52 = .ok (.bipush 12, 2) := dk_16 12 (dk_at dksX1_saveAll_2 5 rfl rfl)
theorem dX1_saveAll_54 : decode cX1_saveAll 54 = .ok (.iload_n 1, 1) := dk_27 (dk_at dksX1_saveAll_2 7 rfl rfl)
theorem dX1_saveAll_55 : decode cX1_saveAll 55 = .ok (.iadd, 1) := dk_96 (dk_at dksX1_saveAll_2 8 rfl rfl)
theorem dX1_saveAll_56 : decode cX1_saveAll 56 = .ok (.aload_n 0, 1) := dk_42 (dk_at dksX1_saveAll_2 9 rfl rfl)
theorem dX1_saveAll_57 : decode cX1_saveAll 57 = .ok (.getfield 28, 3) := dk_180 0 28 (dk_at dksX1_saveAll_2 10 rfl rfl)
theorem dX1_saveAll_60 : decode cX1_saveAll 60 = .ok (.iload_n 1, 1) := dk_27 (dk_at dksX1_saveAll_2 13 rfl rfl)
theorem dX1_saveAll_61 : decode cX1_saveAll 61 = .ok (.iaload, 1) := dk_46 (dk_at dksX1_saveAll_2 14 rfl rfl)
theorem dX1_saveAll_62 : decode cX1_saveAll 62 = .ok (.iastore, 1) := dk_79 (dk_at dksX1_saveAll_2 15 rfl rfl)
theorem dX1_saveAll_63 : decode cX1_saveAll 63 = .ok (.iinc 1 1, 3) := dk_132 1 1 (dk_at dksX1_saveAll_2 16 rfl rfl)
theorem dX1_saveAll_66 : decode cX1_saveAll 66 = .ok (.goto (-38), 3) := dk_167 255 218 (dk_at dksX1_saveAll_2 19 rfl rfl)
theorem dX1_saveAll_69 : decode cX1_saveAll 69 = .ok (.return_, 1) := dk_177 (dk_at dksX1_saveAll_2 22 rfl rfl)
abbrev cX1_goOne : ByteArray := prog_9_method_58_code
def yX1_goOne : MethodName := ⟨RX1, "goOne", "(II)I"⟩
def dkwX1_goOne_1 : List UInt8 := [120, 128, 79, 3, 172, 42, 27, 28, 182, 0, 158, 42, 180, 0, 13, 28, 46, 172]
abbrev dktX1_goOne_1 : List UInt8 := dkwX1_goOne_1 ++ []
def dkwX1_goOne_0 : List UInt8 := [42, 16, 10, 182, 0, 246, 42, 27, 28, 182, 0, 155, 162, 0, 17, 42, 180, 0, 28, 27, 92, 46, 4, 28]
abbrev dktX1_goOne_0 : List UInt8 := dkwX1_goOne_0 ++ dktX1_goOne_1
theorem dksX1_goOne_0 : cX1_goOne.data.toList.drop 0 = dktX1_goOne_0 := by decide +kernel
theorem dksX1_goOne_1 : cX1_goOne.data.toList.drop 24 = dktX1_goOne_1 := dk_seg dksX1_goOne_0 24 rfl rfl
theorem dX1_goOne_0 : decode cX1_goOne 0 = .ok (.aload_n 0, 1) := dk_42 (dk_at dksX1_goOne_0 0 rfl rfl)
theorem dX1_goOne_1 : decode cX1_goOne 1 = .ok (.bipush 10, 2) := dk_16 10 (dk_at dksX1_goOne_0 1 rfl rfl)
theorem dX1_goOne_3 : decode cX1_goOne 3 = .ok (.invokevirtual 246, 3) := dk_182 0 246 (dk_at dksX1_goOne_0 3 rfl rfl)
theorem dX1_goOne_6 : decode cX1_goOne 6 = .ok (.aload_n 0, 1) := dk_42 (dk_at dksX1_goOne_0 6 rfl rfl)
theorem dX1_goOne_7 : decode cX1_goOne 7 = .ok (.iload_n 1, 1) := dk_27 (dk_at dksX1_goOne_0 7 rfl rfl)
theorem dX1_goOne_8 : decode cX1_goOne 8 = .ok (.iload_n 2, 1) := dk_28 (dk_at dksX1_goOne_0 8 rfl rfl)
theorem dX1_goOne_9 : decode cX1_goOne 9 = .ok (.invokevirtual 155, 3) := dk_182 0 155 (dk_at dksX1_goOne_0 9 rfl rfl)
theorem dX1_goOne_12 : decode cX1_goOne 12 = .ok (.if_icmp .ge 17, 3) := dk_162 0 17 (dk_at dksX1_goOne_0 12 rfl rfl)
theorem dX1_goOne_15 : decode cX1_goOne 15 = .ok (.aload_n 0, 1) := dk_42 (dk_at dksX1_goOne_0 15 rfl rfl)
theorem dX1_goOne_16 : decode cX1_goOne 16 = .ok (.getfield 28, 3) := dk_180 0 28 (dk_at dksX1_goOne_0 16 rfl rfl)
theorem dX1_goOne_19 : decode cX1_goOne 19 = .ok (.iload_n 1, 1) := dk_27 (dk_at dksX1_goOne_0 19 rfl rfl)
theorem dX1_goOne_20 : decode cX1_goOne 20 = .ok (.dup2, 1) := dk_92 (dk_at dksX1_goOne_0 20 rfl rfl)
theorem dX1_goOne_21 : decode cX1_goOne 21 = .ok (.iaload, 1) := dk_46 (dk_at dksX1_goOne_0 21 rfl rfl)
theorem dX1_goOne_22 : decode cX1_goOne 22 = .ok (.iconst 1, 1) := dk_4 (dk_at dksX1_goOne_0 22 rfl rfl)
theorem dX1_goOne_23 : decode cX1_goOne 23 = .ok (.iload_n 2, 1) := dk_28 (dk_at dksX1_goOne_0 23 rfl rfl)
theorem dX1_goOne_24 : decode cX1_goOne 24 = .ok (.ishl, 1) := dk_120 (dk_at dksX1_goOne_1 0 rfl rfl)
theorem dX1_goOne_25 : decode cX1_goOne 25 = .ok (.ior, 1) := dk_128 (dk_at dksX1_goOne_1 1 rfl rfl)
theorem dX1_goOne_26 : decode cX1_goOne 26 = .ok (.iastore, 1) := dk_79 (dk_at dksX1_goOne_1 2 rfl rfl)
theorem dX1_goOne_27 : decode cX1_goOne 27 = .ok (.iconst 0, 1) := dk_3 (dk_at dksX1_goOne_1 3 rfl rfl)
theorem dX1_goOne_28 : decode cX1_goOne 28 = .ok (.ireturn, 1) := dk_172 (dk_at dksX1_goOne_1 4 rfl rfl)
theorem dX1_goOne_29 : decode cX1_goOne 29 = .ok (.aload_n 0, 1) := dk_42 (dk_at dksX1_goOne_1 5 rfl rfl)
theorem dX1_goOne_30 : decode cX1_goOne 30 = .ok (.iload_n 1, 1) := dk_27 (dk_at dksX1_goOne_1 6 rfl rfl)
theorem dX1_goOne_31 : decode cX1_goOne 31 = .ok (.iload_n 2, 1) := dk_28 (dk_at dksX1_goOne_1 7 rfl rfl)
theorem dX1_goOne_32 : decode cX1_goOne 32 = .ok (.invokevirtual 158, 3) := dk_182 0 158 (dk_at dksX1_goOne_1 8 rfl rfl)
theorem dX1_goOne_35 : decode cX1_goOne 35 = .ok (.aload_n 0, 1) := dk_42 (dk_at dksX1_goOne_1 11 rfl rfl)
theorem dX1_goOne_36 : decode cX1_goOne 36 = .ok (.getfield 13, 3) := dk_180 0 13 (dk_at dksX1_goOne_1 12 rfl rfl)
theorem dX1_goOne_39 : decode cX1_goOne 39 = .ok (.iload_n 2, 1) := dk_28 (dk_at dksX1_goOne_1 15 rfl rfl)
theorem dX1_goOne_40 : decode cX1_goOne 40 = .ok (.iaload, 1) := dk_46 (dk_at dksX1_goOne_1 16 rfl rfl)
theorem dX1_goOne_41 : decode cX1_goOne 41 = .ok (.ireturn, 1) := dk_172 (dk_at dksX1_goOne_1 17 rfl rfl)
abbrev cX1_draw : ByteArray := prog_9_method_57_code
def yX1_draw : MethodName := ⟨RX1, "draw", "(I)I"⟩
def dkwX1_draw_1 : List UInt8 := [20, 0, 244, 109, 27, 133, 113, 136, 172]
abbrev dktX1_draw_1 : List UInt8 := dkwX1_draw_1 ++ []
def dkwX1_draw_0 : List UInt8 := [42, 20, 0, 234, 42, 180, 0, 236, 105, 20, 0, 240, 97, 20, 0, 242, 127, 181, 0, 236, 42, 180, 0, 236]
abbrev dktX1_draw_0 : List UInt8 := dkwX1_draw_0 ++ dktX1_draw_1
theorem dksX1_draw_0 : cX1_draw.data.toList.drop 0 = dktX1_draw_0 := by decide +kernel
theorem dksX1_draw_1 : cX1_draw.data.toList.drop 24 = dktX1_draw_1 := dk_seg dksX1_draw_0 24 rfl rfl
theorem dX1_draw_0 : decode cX1_draw 0 = .ok (.aload_n 0, 1) := dk_42 (dk_at dksX1_draw_0 0 rfl rfl)
theorem dX1_draw_1 : decode cX1_draw 1 = .ok (.ldc2_w 234, 3) := dk_20 0 234 (dk_at dksX1_draw_0 1 rfl rfl)
theorem dX1_draw_4 : decode cX1_draw 4 = .ok (.aload_n 0, 1) := dk_42 (dk_at dksX1_draw_0 4 rfl rfl)
theorem dX1_draw_5 : decode cX1_draw 5 = .ok (.getfield 236, 3) := dk_180 0 236 (dk_at dksX1_draw_0 5 rfl rfl)
theorem dX1_draw_8 : decode cX1_draw 8 = .ok (.lmul, 1) := dk_105 (dk_at dksX1_draw_0 8 rfl rfl)
theorem dX1_draw_9 : decode cX1_draw 9 = .ok (.ldc2_w 240, 3) := dk_20 0 240 (dk_at dksX1_draw_0 9 rfl rfl)
theorem dX1_draw_12 : decode cX1_draw 12 = .ok (.ladd, 1) := dk_97 (dk_at dksX1_draw_0 12 rfl rfl)
theorem dX1_draw_13 : decode cX1_draw 13 = .ok (.ldc2_w 242, 3) := dk_20 0 242 (dk_at dksX1_draw_0 13 rfl rfl)
theorem dX1_draw_16 : decode cX1_draw 16 = .ok (.land, 1) := dk_127 (dk_at dksX1_draw_0 16 rfl rfl)
theorem dX1_draw_17 : decode cX1_draw 17 = .ok (.putfield 236, 3) := dk_181 0 236 (dk_at dksX1_draw_0 17 rfl rfl)
theorem dX1_draw_20 : decode cX1_draw 20 = .ok (.aload_n 0, 1) := dk_42 (dk_at dksX1_draw_0 20 rfl rfl)
theorem dX1_draw_21 : decode cX1_draw 21 = .ok (.getfield 236, 3) := dk_180 0 236 (dk_at dksX1_draw_0 21 rfl rfl)
theorem dX1_draw_24 : decode cX1_draw 24 = .ok (.ldc2_w 244, 3) := dk_20 0 244 (dk_at dksX1_draw_1 0 rfl rfl)
theorem dX1_draw_27 : decode cX1_draw 27 = .ok (.ldiv, 1) := dk_109 (dk_at dksX1_draw_1 3 rfl rfl)
theorem dX1_draw_28 : decode cX1_draw 28 = .ok (.iload_n 1, 1) := dk_27 (dk_at dksX1_draw_1 4 rfl rfl)
theorem dX1_draw_29 : decode cX1_draw 29 = .ok (.i2l, 1) := dk_133 (dk_at dksX1_draw_1 5 rfl rfl)
theorem dX1_draw_30 : decode cX1_draw 30 = .ok (.lrem, 1) := dk_113 (dk_at dksX1_draw_1 6 rfl rfl)
theorem dX1_draw_31 : decode cX1_draw 31 = .ok (.l2i, 1) := dk_136 (dk_at dksX1_draw_1 7 rfl rfl)
theorem dX1_draw_32 : decode cX1_draw 32 = .ok (.ireturn, 1) := dk_172 (dk_at dksX1_draw_1 8 rfl rfl)
abbrev cX1_learntAll : ByteArray := prog_9_method_59_code
def yX1_learntAll : MethodName := ⟨RX1, "learntAll", "()I"⟩
def dkwX1_learntAll_1 : List UInt8 := [132, 2, 1, 167, 255, 233, 27, 172]
abbrev dktX1_learntAll_1 : List UInt8 := dkwX1_learntAll_1 ++ []
def dkwX1_learntAll_0 : List UInt8 := [3, 60, 3, 61, 28, 42, 180, 0, 116, 162, 0, 21, 27, 42, 180, 0, 28, 28, 46, 184, 0, 249, 96, 60]
abbrev dktX1_learntAll_0 : List UInt8 := dkwX1_learntAll_0 ++ dktX1_learntAll_1
theorem dksX1_learntAll_0 : cX1_learntAll.data.toList.drop 0 = dktX1_learntAll_0 := by decide +kernel
theorem dksX1_learntAll_1 : cX1_learntAll.data.toList.drop 24 = dktX1_learntAll_1 := dk_seg dksX1_learntAll_0 24 rfl rfl
theorem dX1_learntAll_0 : decode cX1_learntAll 0 = .ok (.iconst 0, 1) := dk_3 (dk_at dksX1_learntAll_0 0 rfl rfl)
theorem dX1_learntAll_1 : decode cX1_learntAll 1 = .ok (.istore_n 1, 1) := dk_60 (dk_at dksX1_learntAll_0 1 rfl rfl)
theorem dX1_learntAll_2 : decode cX1_learntAll 2 = .ok (.iconst 0, 1) := dk_3 (dk_at dksX1_learntAll_0 2 rfl rfl)
theorem dX1_learntAll_3 : decode cX1_learntAll 3 = .ok (.istore_n 2, 1) := dk_61 (dk_at dksX1_learntAll_0 3 rfl rfl)
theorem dX1_learntAll_4 : decode cX1_learntAll 4 = .ok (.iload_n 2, 1) := dk_28 (dk_at dksX1_learntAll_0 4 rfl rfl)
theorem dX1_learntAll_5 : decode cX1_learntAll 5 = .ok (.aload_n 0, 1) := dk_42 (dk_at dksX1_learntAll_0 5 rfl rfl)
theorem dX1_learntAll_6 : decode cX1_learntAll 6 = .ok (.getfield 116, 3) := dk_180 0 116 (dk_at dksX1_learntAll_0 6 rfl rfl)
theorem dX1_learntAll_9 : decode cX1_learntAll 9 = .ok (.if_icmp .ge 21, 3) := dk_162 0 21 (dk_at dksX1_learntAll_0 9 rfl rfl)
theorem dX1_learntAll_12 : decode cX1_learntAll 12 = .ok (.iload_n 1, 1) := dk_27 (dk_at dksX1_learntAll_0 12 rfl rfl)
theorem dX1_learntAll_13 : decode cX1_learntAll 13 = .ok (.aload_n 0, 1) := dk_42 (dk_at dksX1_learntAll_0 13 rfl rfl)
theorem dX1_learntAll_14 : decode cX1_learntAll 14 = .ok (.getfield 28, 3) := dk_180 0 28 (dk_at dksX1_learntAll_0 14 rfl rfl)
theorem dX1_learntAll_17 : decode cX1_learntAll 17 = .ok (.iload_n 2, 1) := dk_28 (dk_at dksX1_learntAll_0 17 rfl rfl)
theorem dX1_learntAll_18 : decode cX1_learntAll 18 = .ok (.iaload, 1) := dk_46 (dk_at dksX1_learntAll_0 18 rfl rfl)
theorem dX1_learntAll_19 : decode cX1_learntAll 19 = .ok (.invokestatic 249, 3) := dk_184 0 249 (dk_at dksX1_learntAll_0 19 rfl rfl)
theorem dX1_learntAll_22 : decode cX1_learntAll 22 = .ok (.iadd, 1) := dk_96 (dk_at dksX1_learntAll_0 22 rfl rfl)
theorem dX1_learntAll_23 : decode cX1_learntAll 23 = .ok (.istore_n 1, 1) := dk_60 (dk_at dksX1_learntAll_0 23 rfl rfl)
theorem dX1_learntAll_24 : decode cX1_learntAll 24 = .ok (.iinc 2 1, 3) := dk_132 2 1 (dk_at dksX1_learntAll_1 0 rfl rfl)
theorem dX1_learntAll_27 : decode cX1_learntAll 27 = .ok (.goto (-23), 3) := dk_167 255 233 (dk_at dksX1_learntAll_1 3 rfl rfl)
theorem dX1_learntAll_30 : decode cX1_learntAll 30 = .ok (.iload_n 1, 1) := dk_27 (dk_at dksX1_learntAll_1 6 rfl rfl)
theorem dX1_learntAll_31 : decode cX1_learntAll 31 = .ok (.ireturn, 1) := dk_172 (dk_at dksX1_learntAll_1 7 rfl rfl)
abbrev cX1_size : ByteArray := prog_9_method_5_code
def yX1_size : MethodName := ⟨RX1, "size", "(I)I"⟩
def dkwX1_size_1 : List UInt8 := [172]
abbrev dktX1_size_1 : List UInt8 := dkwX1_size_1 ++ []
def dkwX1_size_0 : List UInt8 := [3, 60, 3, 61, 28, 8, 162, 0, 17, 27, 26, 28, 122, 4, 126, 96, 60, 132, 2, 1, 167, 255, 240, 27]
abbrev dktX1_size_0 : List UInt8 := dkwX1_size_0 ++ dktX1_size_1
theorem dksX1_size_0 : cX1_size.data.toList.drop 0 = dktX1_size_0 := by decide +kernel
theorem dksX1_size_1 : cX1_size.data.toList.drop 24 = dktX1_size_1 := dk_seg dksX1_size_0 24 rfl rfl
theorem dX1_size_0 : decode cX1_size 0 = .ok (.iconst 0, 1) := dk_3 (dk_at dksX1_size_0 0 rfl rfl)
theorem dX1_size_1 : decode cX1_size 1 = .ok (.istore_n 1, 1) := dk_60 (dk_at dksX1_size_0 1 rfl rfl)
theorem dX1_size_2 : decode cX1_size 2 = .ok (.iconst 0, 1) := dk_3 (dk_at dksX1_size_0 2 rfl rfl)
theorem dX1_size_3 : decode cX1_size 3 = .ok (.istore_n 2, 1) := dk_61 (dk_at dksX1_size_0 3 rfl rfl)
theorem dX1_size_4 : decode cX1_size 4 = .ok (.iload_n 2, 1) := dk_28 (dk_at dksX1_size_0 4 rfl rfl)
theorem dX1_size_5 : decode cX1_size 5 = .ok (.iconst 5, 1) := dk_8 (dk_at dksX1_size_0 5 rfl rfl)
theorem dX1_size_6 : decode cX1_size 6 = .ok (.if_icmp .ge 17, 3) := dk_162 0 17 (dk_at dksX1_size_0 6 rfl rfl)
theorem dX1_size_9 : decode cX1_size 9 = .ok (.iload_n 1, 1) := dk_27 (dk_at dksX1_size_0 9 rfl rfl)
theorem dX1_size_10 : decode cX1_size 10 = .ok (.iload_n 0, 1) := dk_26 (dk_at dksX1_size_0 10 rfl rfl)
theorem dX1_size_11 : decode cX1_size 11 = .ok (.iload_n 2, 1) := dk_28 (dk_at dksX1_size_0 11 rfl rfl)
theorem dX1_size_12 : decode cX1_size 12 = .ok (.ishr, 1) := dk_122 (dk_at dksX1_size_0 12 rfl rfl)
theorem dX1_size_13 : decode cX1_size 13 = .ok (.iconst 1, 1) := dk_4 (dk_at dksX1_size_0 13 rfl rfl)
theorem dX1_size_14 : decode cX1_size 14 = .ok (.iand, 1) := dk_126 (dk_at dksX1_size_0 14 rfl rfl)
theorem dX1_size_15 : decode cX1_size 15 = .ok (.iadd, 1) := dk_96 (dk_at dksX1_size_0 15 rfl rfl)
theorem dX1_size_16 : decode cX1_size 16 = .ok (.istore_n 1, 1) := dk_60 (dk_at dksX1_size_0 16 rfl rfl)
theorem dX1_size_17 : decode cX1_size 17 = .ok (.iinc 2 1, 3) := dk_132 2 1 (dk_at dksX1_size_0 17 rfl rfl)
theorem dX1_size_20 : decode cX1_size 20 = .ok (.goto (-16), 3) := dk_167 255 240 (dk_at dksX1_size_0 20 rfl rfl)
theorem dX1_size_23 : decode cX1_size 23 = .ok (.iload_n 1, 1) := dk_27 (dk_at dksX1_size_0 23 rfl rfl)
theorem dX1_size_24 : decode cX1_size 24 = .ok (.ireturn, 1) := dk_172 (dk_at dksX1_size_1 0 rfl rfl)
abbrev cX1_loadAll : ByteArray := prog_9_method_56_code
def yX1_loadAll : MethodName := ⟨RX1, "loadAll", "()V"⟩
def dkwX1_loadAll_2 : List UInt8 := [79, 42, 180, 0, 28, 27, 42, 180, 0, 53, 16, 12, 27, 96, 46, 79, 132, 1, 1, 167, 255, 218, 177]
abbrev dktX1_loadAll_2 : List UInt8 := dkwX1_loadAll_2 ++ []
def dkwX1_loadAll_1 : List UInt8 := [167, 255, 235, 3, 60, 27, 6, 162, 0, 39, 42, 180, 0, 16, 27, 42, 180, 0, 53, 16, 9, 27, 96, 46]
abbrev dktX1_loadAll_1 : List UInt8 := dkwX1_loadAll_1 ++ dktX1_loadAll_2
def dkwX1_loadAll_0 : List UInt8 := [3, 60, 27, 16, 9, 162, 0, 21, 42, 180, 0, 31, 27, 42, 180, 0, 53, 27, 46, 79, 132, 1, 1]
abbrev dktX1_loadAll_0 : List UInt8 := dkwX1_loadAll_0 ++ dktX1_loadAll_1
theorem dksX1_loadAll_0 : cX1_loadAll.data.toList.drop 0 = dktX1_loadAll_0 := by decide +kernel
theorem dksX1_loadAll_1 : cX1_loadAll.data.toList.drop 23 = dktX1_loadAll_1 := dk_seg dksX1_loadAll_0 23 rfl rfl
theorem dksX1_loadAll_2 : cX1_loadAll.data.toList.drop 47 = dktX1_loadAll_2 := dk_seg dksX1_loadAll_1 24 rfl rfl
theorem dX1_loadAll_0 : decode cX1_loadAll 0 = .ok (.iconst 0, 1) := dk_3 (dk_at dksX1_loadAll_0 0 rfl rfl)
theorem dX1_loadAll_1 : decode cX1_loadAll 1 = .ok (.istore_n 1, 1) := dk_60 (dk_at dksX1_loadAll_0 1 rfl rfl)
theorem dX1_loadAll_2 : decode cX1_loadAll 2 = .ok (.iload_n 1, 1) := dk_27 (dk_at dksX1_loadAll_0 2 rfl rfl)
theorem dX1_loadAll_3 : decode cX1_loadAll 3 = .ok (.bipush 9, 2) := dk_16 9 (dk_at dksX1_loadAll_0 3 rfl rfl)
theorem dX1_loadAll_5 : decode cX1_loadAll 5 = .ok (.if_icmp .ge 21, 3) := dk_162 0 21 (dk_at dksX1_loadAll_0 5 rfl rfl)
theorem dX1_loadAll_8 : decode cX1_loadAll 8 = .ok (.aload_n 0, 1) := dk_42 (dk_at dksX1_loadAll_0 8 rfl rfl)
theorem dX1_loadAll_9 : decode cX1_loadAll 9 = .ok (.getfield 31, 3) := dk_180 0 31 (dk_at dksX1_loadAll_0 9 rfl rfl)
theorem dX1_loadAll_12 : decode cX1_loadAll 12 = .ok (.iload_n 1, 1) := dk_27 (dk_at dksX1_loadAll_0 12 rfl rfl)
theorem dX1_loadAll_13 : decode cX1_loadAll 13 = .ok (.aload_n 0, 1) := dk_42 (dk_at dksX1_loadAll_0 13 rfl rfl)
theorem dX1_loadAll_14 : decode cX1_loadAll 14 = .ok (.getfield 53, 3) := dk_180 0 53 (dk_at dksX1_loadAll_0 14 rfl rfl)
theorem dX1_loadAll_17 : decode cX1_loadAll 17 = .ok (.iload_n 1, 1) := dk_27 (dk_at dksX1_loadAll_0 17 rfl rfl)
theorem dX1_loadAll_18 : decode cX1_loadAll 18 = .ok (.iaload, 1) := dk_46 (dk_at dksX1_loadAll_0 18 rfl rfl)
theorem dX1_loadAll_19 : decode cX1_loadAll 19 = .ok (.iastore, 1) := dk_79 (dk_at dksX1_loadAll_0 19 rfl rfl)
theorem dX1_loadAll_20 : decode cX1_loadAll 20 = .ok (.iinc 1 1, 3) := dk_132 1 1 (dk_at dksX1_loadAll_0 20 rfl rfl)
theorem dX1_loadAll_23 : decode cX1_loadAll 23 = .ok (.goto (-21), 3) := dk_167 255 235 (dk_at dksX1_loadAll_1 0 rfl rfl)
theorem dX1_loadAll_26 : decode cX1_loadAll 26 = .ok (.iconst 0, 1) := dk_3 (dk_at dksX1_loadAll_1 3 rfl rfl)
theorem dX1_loadAll_27 : decode cX1_loadAll 27 = .ok (.istore_n 1, 1) := dk_60 (dk_at dksX1_loadAll_1 4 rfl rfl)
theorem dX1_loadAll_28 : decode cX1_loadAll 28 = .ok (.iload_n 1, 1) := dk_27 (dk_at dksX1_loadAll_1 5 rfl rfl)
theorem dX1_loadAll_29 : decode cX1_loadAll 29 = .ok (.iconst 3, 1) := dk_6 (dk_at dksX1_loadAll_1 6 rfl rfl)
theorem dX1_loadAll_30 : decode cX1_loadAll 30 = .ok (.if_icmp .ge 39, 3) := dk_162 0 39 (dk_at dksX1_loadAll_1 7 rfl rfl)
theorem dX1_loadAll_33 : decode cX1_loadAll 33 = .ok (.aload_n 0, 1) := dk_42 (dk_at dksX1_loadAll_1 10 rfl rfl)
theorem dX1_loadAll_34 : decode cX1_loadAll 34 = .ok (.getfield 16, 3) := dk_180 0 16 (dk_at dksX1_loadAll_1 11 rfl rfl)
theorem dX1_loadAll_37 : decode cX1_loadAll 37 = .ok (.iload_n 1, 1) := dk_27 (dk_at dksX1_loadAll_1 14 rfl rfl)
theorem dX1_loadAll_38 : decode cX1_loadAll 38 = .ok (.aload_n 0, 1) := dk_42 (dk_at dksX1_loadAll_1 15 rfl rfl)
theorem dX1_loadAll_39 : decode cX1_loadAll 39 = .ok (.getfield 53, 3) := dk_180 0 53 (dk_at dksX1_loadAll_1 16 rfl rfl)
theorem dX1_loadAll_42 : decode cX1_loadAll 42 = .ok (.bipush 9, 2) := dk_16 9 (dk_at dksX1_loadAll_1 19 rfl rfl)
theorem dX1_loadAll_44 : decode cX1_loadAll 44 = .ok (.iload_n 1, 1) := dk_27 (dk_at dksX1_loadAll_1 21 rfl rfl)
theorem dX1_loadAll_45 : decode cX1_loadAll 45 = .ok (.iadd, 1) := dk_96 (dk_at dksX1_loadAll_1 22 rfl rfl)
theorem dX1_loadAll_46 : decode cX1_loadAll 46 = .ok (.iaload, 1) := dk_46 (dk_at dksX1_loadAll_1 23 rfl rfl)
theorem dX1_loadAll_47 : decode cX1_loadAll 47 = .ok (.iastore, 1) := dk_79 (dk_at dksX1_loadAll_2 0 rfl rfl)
theorem dX1_loadAll_48 : decode cX1_loadAll 48 = .ok (.aload_n 0, 1) := dk_42 (dk_at dksX1_loadAll_2 1 rfl rfl)
theorem dX1_loadAll_49 : decode cX1_loadAll 49 = .ok (.getfield 28, 3) := dk_180 0 28 (dk_at dksX1_loadAll_2 2 rfl rfl)
theorem dX1_loadAll_52 : decode cX1_loadAll 52 = .ok (.iload_n 1, 1) := dk_27 (dk_at dksX1_loadAll_2 5 rfl rfl)
theorem dX1_loadAll_53 : decode cX1_loadAll 53 = .ok (.aload_n 0, 1) := dk_42 (dk_at dksX1_loadAll_2 6 rfl rfl)
theorem dX1_loadAll_54 : decode cX1_loadAll 54 = .ok (.getfield 53, 3) := dk_180 0 53 (dk_at dksX1_loadAll_2 7 rfl rfl)
theorem dX1_loadAll_57 : decode cX1_loadAll 57 = .ok (.bipush 12, 2) := dk_16 12 (dk_at dksX1_loadAll_2 10 rfl rfl)
theorem dX1_loadAll_59 : decode cX1_loadAll 59 = .ok (.iload_n 1, 1) := dk_27 (dk_at dksX1_loadAll_2 12 rfl rfl)
theorem dX1_loadAll_60 : decode cX1_loadAll 60 = .ok (.iadd, 1) := dk_96 (dk_at dksX1_loadAll_2 13 rfl rfl)
theorem dX1_loadAll_61 : decode cX1_loadAll 61 = .ok (.iaload, 1) := dk_46 (dk_at dksX1_loadAll_2 14 rfl rfl)
theorem dX1_loadAll_62 : decode cX1_loadAll 62 = .ok (.iastore, 1) := dk_79 (dk_at dksX1_loadAll_2 15 rfl rfl)
theorem dX1_loadAll_63 : decode cX1_loadAll 63 = .ok (.iinc 1 1, 3) := dk_132 1 1 (dk_at dksX1_loadAll_2 16 rfl rfl)
theorem dX1_loadAll_66 : decode cX1_loadAll 66 = .ok (.goto (-38), 3) := dk_167 255 218 (dk_at dksX1_loadAll_2 19 rfl rfl)
theorem dX1_loadAll_69 : decode cX1_loadAll 69 = .ok (.return_, 1) := dk_177 (dk_at dksX1_loadAll_2 22 rfl rfl)
abbrev cX1_image : ByteArray := prog_9_method_63_code
def yX1_image : MethodName := ⟨RX1, "image", "()I"⟩
def dkwX1_image_7 : List UInt8 := [182, 1, 23, 172]
abbrev dktX1_image_7 : List UInt8 := dkwX1_image_7 ++ []
def dkwX1_image_6 : List UInt8 := [27, 46, 79, 42, 180, 0, 74, 27, 42, 180, 0, 40, 27, 46, 79, 132, 1, 1, 167, 255, 211, 42]
abbrev dktX1_image_6 : List UInt8 := dkwX1_image_6 ++ dktX1_image_7
def dkwX1_image_5 : List UInt8 := [162, 0, 45, 42, 180, 0, 68, 27, 42, 180, 0, 34, 27, 46, 79, 42, 180, 0, 71, 27, 42, 180, 0, 37]
abbrev dktX1_image_5 : List UInt8 := dkwX1_image_5 ++ dktX1_image_6
def dkwX1_image_4 : List UInt8 := [42, 180, 0, 65, 27, 42, 180, 0, 25, 27, 46, 79, 132, 1, 1, 167, 255, 212, 3, 60, 27, 16, 6]
abbrev dktX1_image_4 : List UInt8 := dkwX1_image_4 ++ dktX1_image_5
def dkwX1_image_3 : List UInt8 := [42, 180, 0, 59, 27, 42, 180, 0, 16, 27, 46, 79, 42, 180, 0, 62, 27, 42, 180, 0, 28, 27, 46, 79]
abbrev dktX1_image_3 : List UInt8 := dkwX1_image_3 ++ dktX1_image_4
def dkwX1_image_2 : List UInt8 := [180, 0, 56, 27, 42, 180, 0, 31, 27, 46, 79, 132, 1, 1, 167, 255, 235, 3, 60, 27, 6, 162, 0, 45]
abbrev dktX1_image_2 : List UInt8 := dkwX1_image_2 ++ dktX1_image_3
def dkwX1_image_1 : List UInt8 := [42, 180, 0, 116, 181, 1, 17, 42, 42, 180, 0, 119, 181, 1, 20, 3, 60, 27, 16, 9, 162, 0, 21, 42]
abbrev dktX1_image_1 : List UInt8 := dkwX1_image_1 ++ dktX1_image_2
def dkwX1_image_0 : List UInt8 := [42, 180, 0, 107, 154, 0, 6, 16, 153, 172, 42, 4, 181, 1, 11, 42, 42, 180, 0, 113, 181, 1, 14, 42]
abbrev dktX1_image_0 : List UInt8 := dkwX1_image_0 ++ dktX1_image_1
theorem dksX1_image_0 : cX1_image.data.toList.drop 0 = dktX1_image_0 := by decide +kernel
theorem dksX1_image_1 : cX1_image.data.toList.drop 24 = dktX1_image_1 := dk_seg dksX1_image_0 24 rfl rfl
theorem dksX1_image_2 : cX1_image.data.toList.drop 48 = dktX1_image_2 := dk_seg dksX1_image_1 24 rfl rfl
theorem dksX1_image_3 : cX1_image.data.toList.drop 72 = dktX1_image_3 := dk_seg dksX1_image_2 24 rfl rfl
theorem dksX1_image_4 : cX1_image.data.toList.drop 96 = dktX1_image_4 := dk_seg dksX1_image_3 24 rfl rfl
theorem dksX1_image_5 : cX1_image.data.toList.drop 119 = dktX1_image_5 := dk_seg dksX1_image_4 23 rfl rfl
theorem dksX1_image_6 : cX1_image.data.toList.drop 143 = dktX1_image_6 := dk_seg dksX1_image_5 24 rfl rfl
theorem dksX1_image_7 : cX1_image.data.toList.drop 165 = dktX1_image_7 := dk_seg dksX1_image_6 22 rfl rfl
theorem dX1_image_0 : decode cX1_image 0 = .ok (.aload_n 0, 1) := dk_42 (dk_at dksX1_image_0 0 rfl rfl)
theorem dX1_image_1 : decode cX1_image 1 = .ok (.getfield 107, 3) := dk_180 0 107 (dk_at dksX1_image_0 1 rfl rfl)
theorem dX1_image_4 : decode cX1_image 4 = .ok (.ifCond .ne 6, 3) := dk_154 0 6 (dk_at dksX1_image_0 4 rfl rfl)
theorem dX1_image_7 : decode cX1_image 7 = .ok (.bipush (-103), 2) := dk_16 153 (dk_at dksX1_image_0 7 rfl rfl)
theorem dX1_image_9 : decode cX1_image 9 = .ok (.ireturn, 1) := dk_172 (dk_at dksX1_image_0 9 rfl rfl)
theorem dX1_image_10 : decode cX1_image 10 = .ok (.aload_n 0, 1) := dk_42 (dk_at dksX1_image_0 10 rfl rfl)
theorem dX1_image_11 : decode cX1_image 11 = .ok (.iconst 1, 1) := dk_4 (dk_at dksX1_image_0 11 rfl rfl)
theorem dX1_image_12 : decode cX1_image 12 = .ok (.putfield 267, 3) := dk_181 1 11 (dk_at dksX1_image_0 12 rfl rfl)
theorem dX1_image_15 : decode cX1_image 15 = .ok (.aload_n 0, 1) := dk_42 (dk_at dksX1_image_0 15 rfl rfl)
theorem dX1_image_16 : decode cX1_image 16 = .ok (.aload_n 0, 1) := dk_42 (dk_at dksX1_image_0 16 rfl rfl)
theorem dX1_image_17 : decode cX1_image 17 = .ok (.getfield 113, 3) := dk_180 0 113 (dk_at dksX1_image_0 17 rfl rfl)
theorem dX1_image_20 : decode cX1_image 20 = .ok (.putfield 270, 3) := dk_181 1 14 (dk_at dksX1_image_0 20 rfl rfl)
theorem dX1_image_23 : decode cX1_image 23 = .ok (.aload_n 0, 1) := dk_42 (dk_at dksX1_image_0 23 rfl rfl)
theorem dX1_image_24 : decode cX1_image 24 = .ok (.aload_n 0, 1) := dk_42 (dk_at dksX1_image_1 0 rfl rfl)
theorem dX1_image_25 : decode cX1_image 25 = .ok (.getfield 116, 3) := dk_180 0 116 (dk_at dksX1_image_1 1 rfl rfl)
theorem dX1_image_28 : decode cX1_image 28 = .ok (.putfield 273, 3) := dk_181 1 17 (dk_at dksX1_image_1 4 rfl rfl)
theorem dX1_image_31 : decode cX1_image 31 = .ok (.aload_n 0, 1) := dk_42 (dk_at dksX1_image_1 7 rfl rfl)
theorem dX1_image_32 : decode cX1_image 32 = .ok (.aload_n 0, 1) := dk_42 (dk_at dksX1_image_1 8 rfl rfl)
theorem dX1_image_33 : decode cX1_image 33 = .ok (.getfield 119, 3) := dk_180 0 119 (dk_at dksX1_image_1 9 rfl rfl)
theorem dX1_image_36 : decode cX1_image 36 = .ok (.putfield 276, 3) := dk_181 1 20 (dk_at dksX1_image_1 12 rfl rfl)
theorem dX1_image_39 : decode cX1_image 39 = .ok (.iconst 0, 1) := dk_3 (dk_at dksX1_image_1 15 rfl rfl)
theorem dX1_image_40 : decode cX1_image 40 = .ok (.istore_n 1, 1) := dk_60 (dk_at dksX1_image_1 16 rfl rfl)
theorem dX1_image_41 : decode cX1_image 41 = .ok (.iload_n 1, 1) := dk_27 (dk_at dksX1_image_1 17 rfl rfl)
theorem dX1_image_42 : decode cX1_image 42 = .ok (.bipush 9, 2) := dk_16 9 (dk_at dksX1_image_1 18 rfl rfl)
theorem dX1_image_44 : decode cX1_image 44 = .ok (.if_icmp .ge 21, 3) := dk_162 0 21 (dk_at dksX1_image_1 20 rfl rfl)
theorem dX1_image_47 : decode cX1_image 47 = .ok (.aload_n 0, 1) := dk_42 (dk_at dksX1_image_1 23 rfl rfl)
theorem dX1_image_48 : decode cX1_image 48 = .ok (.getfield 56, 3) := dk_180 0 56 (dk_at dksX1_image_2 0 rfl rfl)
theorem dX1_image_51 : decode cX1_image 51 = .ok (.iload_n 1, 1) := dk_27 (dk_at dksX1_image_2 3 rfl rfl)
theorem dX1_image_52 : decode cX1_image 52 = .ok (.aload_n 0, 1) := dk_42 (dk_at dksX1_image_2 4 rfl rfl)
theorem dX1_image_53 : decode cX1_image 53 = .ok (.getfield 31, 3) := dk_180 0 31 (dk_at dksX1_image_2 5 rfl rfl)
theorem dX1_image_56 : decode cX1_image 56 = .ok (.iload_n 1, 1) := dk_27 (dk_at dksX1_image_2 8 rfl rfl)
theorem dX1_image_57 : decode cX1_image 57 = .ok (.iaload, 1) := dk_46 (dk_at dksX1_image_2 9 rfl rfl)
theorem dX1_image_58 : decode cX1_image 58 = .ok (.iastore, 1) := dk_79 (dk_at dksX1_image_2 10 rfl rfl)
theorem dX1_image_59 : decode cX1_image 59 = .ok (.iinc 1 1, 3) := dk_132 1 1 (dk_at dksX1_image_2 11 rfl rfl)
theorem dX1_image_62 : decode cX1_image 62 = .ok (.goto (-21), 3) := dk_167 255 235 (dk_at dksX1_image_2 14 rfl rfl)
theorem dX1_image_65 : decode cX1_image 65 = .ok (.iconst 0, 1) := dk_3 (dk_at dksX1_image_2 17 rfl rfl)
theorem dX1_image_66 : decode cX1_image 66 = .ok (.istore_n 1, 1) := dk_60 (dk_at dksX1_image_2 18 rfl rfl)
theorem dX1_image_67 : decode cX1_image 67 = .ok (.iload_n 1, 1) := dk_27 (dk_at dksX1_image_2 19 rfl rfl)
theorem dX1_image_68 : decode cX1_image 68 = .ok (.iconst 3, 1) := dk_6 (dk_at dksX1_image_2 20 rfl rfl)
theorem dX1_image_69 : decode cX1_image 69 = .ok (.if_icmp .ge 45, 3) := dk_162 0 45 (dk_at dksX1_image_2 21 rfl rfl)
theorem dX1_image_72 : decode cX1_image 72 = .ok (.aload_n 0, 1) := dk_42 (dk_at dksX1_image_3 0 rfl rfl)
theorem dX1_image_73 : decode cX1_image 73 = .ok (.getfield 59, 3) := dk_180 0 59 (dk_at dksX1_image_3 1 rfl rfl)
theorem dX1_image_76 : decode cX1_image 76 = .ok (.iload_n 1, 1) := dk_27 (dk_at dksX1_image_3 4 rfl rfl)
theorem dX1_image_77 : decode cX1_image 77 = .ok (.aload_n 0, 1) := dk_42 (dk_at dksX1_image_3 5 rfl rfl)
theorem dX1_image_78 : decode cX1_image 78 = .ok (.getfield 16, 3) := dk_180 0 16 (dk_at dksX1_image_3 6 rfl rfl)
theorem dX1_image_81 : decode cX1_image 81 = .ok (.iload_n 1, 1) := dk_27 (dk_at dksX1_image_3 9 rfl rfl)
theorem dX1_image_82 : decode cX1_image 82 = .ok (.iaload, 1) := dk_46 (dk_at dksX1_image_3 10 rfl rfl)
theorem dX1_image_83 : decode cX1_image 83 = .ok (.iastore, 1) := dk_79 (dk_at dksX1_image_3 11 rfl rfl)
theorem dX1_image_84 : decode cX1_image 84 = .ok (.aload_n 0, 1) := dk_42 (dk_at dksX1_image_3 12 rfl rfl)
theorem dX1_image_85 : decode cX1_image 85 = .ok (.getfield 62, 3) := dk_180 0 62 (dk_at dksX1_image_3 13 rfl rfl)
theorem dX1_image_88 : decode cX1_image 88 = .ok (.iload_n 1, 1) := dk_27 (dk_at dksX1_image_3 16 rfl rfl)
theorem dX1_image_89 : decode cX1_image 89 = .ok (.aload_n 0, 1) := dk_42 (dk_at dksX1_image_3 17 rfl rfl)
theorem dX1_image_90 : decode cX1_image 90 = .ok (.getfield 28, 3) := dk_180 0 28 (dk_at dksX1_image_3 18 rfl rfl)
theorem dX1_image_93 : decode cX1_image 93 = .ok (.iload_n 1, 1) := dk_27 (dk_at dksX1_image_3 21 rfl rfl)
theorem dX1_image_94 : decode cX1_image 94 = .ok (.iaload, 1) := dk_46 (dk_at dksX1_image_3 22 rfl rfl)
theorem dX1_image_95 : decode cX1_image 95 = .ok (.iastore, 1) := dk_79 (dk_at dksX1_image_3 23 rfl rfl)
theorem dX1_image_96 : decode cX1_image 96 = .ok (.aload_n 0, 1) := dk_42 (dk_at dksX1_image_4 0 rfl rfl)
theorem dX1_image_97 : decode cX1_image 97 = .ok (.getfield 65, 3) := dk_180 0 65 (dk_at dksX1_image_4 1 rfl rfl)
theorem dX1_image_100 : decode cX1_image 100 = .ok (.iload_n 1, 1) := dk_27 (dk_at dksX1_image_4 4 rfl rfl)
theorem dX1_image_101 : decode cX1_image 101 = .ok (.aload_n 0, 1) := dk_42 (dk_at dksX1_image_4 5 rfl rfl)
theorem dX1_image_102 : decode cX1_image 102 = .ok (.getfield 25, 3) := dk_180 0 25 (dk_at dksX1_image_4 6 rfl rfl)
theorem dX1_image_105 : decode cX1_image 105 = .ok (.iload_n 1, 1) := dk_27 (dk_at dksX1_image_4 9 rfl rfl)
theorem dX1_image_106 : decode cX1_image 106 = .ok (.iaload, 1) := dk_46 (dk_at dksX1_image_4 10 rfl rfl)
theorem dX1_image_107 : decode cX1_image 107 = .ok (.iastore, 1) := dk_79 (dk_at dksX1_image_4 11 rfl rfl)
theorem dX1_image_108 : decode cX1_image 108 = .ok (.iinc 1 1, 3) := dk_132 1 1 (dk_at dksX1_image_4 12 rfl rfl)
theorem dX1_image_111 : decode cX1_image 111 = .ok (.goto (-44), 3) := dk_167 255 212 (dk_at dksX1_image_4 15 rfl rfl)
theorem dX1_image_114 : decode cX1_image 114 = .ok (.iconst 0, 1) := dk_3 (dk_at dksX1_image_4 18 rfl rfl)
theorem dX1_image_115 : decode cX1_image 115 = .ok (.istore_n 1, 1) := dk_60 (dk_at dksX1_image_4 19 rfl rfl)
theorem dX1_image_116 : decode cX1_image 116 = .ok (.iload_n 1, 1) := dk_27 (dk_at dksX1_image_4 20 rfl rfl)
theorem dX1_image_117 : decode cX1_image 117 = .ok (.bipush 6, 2) := dk_16 6 (dk_at dksX1_image_4 21 rfl rfl)
theorem dX1_image_119 : decode cX1_image 119 = .ok (.if_icmp .ge 45, 3) := dk_162 0 45 (dk_at dksX1_image_5 0 rfl rfl)
theorem dX1_image_122 : decode cX1_image 122 = .ok (.aload_n 0, 1) := dk_42 (dk_at dksX1_image_5 3 rfl rfl)
theorem dX1_image_123 : decode cX1_image 123 = .ok (.getfield 68, 3) := dk_180 0 68 (dk_at dksX1_image_5 4 rfl rfl)
theorem dX1_image_126 : decode cX1_image 126 = .ok (.iload_n 1, 1) := dk_27 (dk_at dksX1_image_5 7 rfl rfl)
theorem dX1_image_127 : decode cX1_image 127 = .ok (.aload_n 0, 1) := dk_42 (dk_at dksX1_image_5 8 rfl rfl)
theorem dX1_image_128 : decode cX1_image 128 = .ok (.getfield 34, 3) := dk_180 0 34 (dk_at dksX1_image_5 9 rfl rfl)
theorem dX1_image_131 : decode cX1_image 131 = .ok (.iload_n 1, 1) := dk_27 (dk_at dksX1_image_5 12 rfl rfl)
theorem dX1_image_132 : decode cX1_image 132 = .ok (.iaload, 1) := dk_46 (dk_at dksX1_image_5 13 rfl rfl)
theorem dX1_image_133 : decode cX1_image 133 = .ok (.iastore, 1) := dk_79 (dk_at dksX1_image_5 14 rfl rfl)
theorem dX1_image_134 : decode cX1_image 134 = .ok (.aload_n 0, 1) := dk_42 (dk_at dksX1_image_5 15 rfl rfl)
theorem dX1_image_135 : decode cX1_image 135 = .ok (.getfield 71, 3) := dk_180 0 71 (dk_at dksX1_image_5 16 rfl rfl)
theorem dX1_image_138 : decode cX1_image 138 = .ok (.iload_n 1, 1) := dk_27 (dk_at dksX1_image_5 19 rfl rfl)
theorem dX1_image_139 : decode cX1_image 139 = .ok (.aload_n 0, 1) := dk_42 (dk_at dksX1_image_5 20 rfl rfl)
theorem dX1_image_140 : decode cX1_image 140 = .ok (.getfield 37, 3) := dk_180 0 37 (dk_at dksX1_image_5 21 rfl rfl)
theorem dX1_image_143 : decode cX1_image 143 = .ok (.iload_n 1, 1) := dk_27 (dk_at dksX1_image_6 0 rfl rfl)
theorem dX1_image_144 : decode cX1_image 144 = .ok (.iaload, 1) := dk_46 (dk_at dksX1_image_6 1 rfl rfl)
theorem dX1_image_145 : decode cX1_image 145 = .ok (.iastore, 1) := dk_79 (dk_at dksX1_image_6 2 rfl rfl)
theorem dX1_image_146 : decode cX1_image 146 = .ok (.aload_n 0, 1) := dk_42 (dk_at dksX1_image_6 3 rfl rfl)
theorem dX1_image_147 : decode cX1_image 147 = .ok (.getfield 74, 3) := dk_180 0 74 (dk_at dksX1_image_6 4 rfl rfl)
theorem dX1_image_150 : decode cX1_image 150 = .ok (.iload_n 1, 1) := dk_27 (dk_at dksX1_image_6 7 rfl rfl)
theorem dX1_image_151 : decode cX1_image 151 = .ok (.aload_n 0, 1) := dk_42 (dk_at dksX1_image_6 8 rfl rfl)
theorem dX1_image_152 : decode cX1_image 152 = .ok (.getfield 40, 3) := dk_180 0 40 (dk_at dksX1_image_6 9 rfl rfl)
theorem dX1_image_155 : decode cX1_image 155 = .ok (.iload_n 1, 1) := dk_27 (dk_at dksX1_image_6 12 rfl rfl)
theorem dX1_image_156 : decode cX1_image 156 = .ok (.iaload, 1) := dk_46 (dk_at dksX1_image_6 13 rfl rfl)
theorem dX1_image_157 : decode cX1_image 157 = .ok (.iastore, 1) := dk_79 (dk_at dksX1_image_6 14 rfl rfl)
theorem dX1_image_158 : decode cX1_image 158 = .ok (.iinc 1 1, 3) := dk_132 1 1 (dk_at dksX1_image_6 15 rfl rfl)
theorem dX1_image_161 : decode cX1_image 161 = .ok (.goto (-45), 3) := dk_167 255 211 (dk_at dksX1_image_6 18 rfl rfl)
theorem dX1_image_164 : decode cX1_image 164 = .ok (.aload_n 0, 1) := dk_42 (dk_at dksX1_image_6 21 rfl rfl)
theorem dX1_image_165 : decode cX1_image 165 = .ok (.invokevirtual 279, 3) := dk_182 1 23 (dk_at dksX1_image_7 0 rfl rfl)
theorem dX1_image_168 : decode cX1_image 168 = .ok (.ireturn, 1) := dk_172 (dk_at dksX1_image_7 3 rfl rfl)
abbrev cX1_stripesAll : ByteArray := prog_9_method_62_code
def yX1_stripesAll : MethodName := ⟨RX1, "stripesAll", "()I"⟩
def dkwX1_stripesAll_0 : List UInt8 := [42, 180, 0, 16, 3, 46, 42, 180, 0, 16, 4, 46, 96, 42, 180, 0, 16, 5, 46, 96, 172]
abbrev dktX1_stripesAll_0 : List UInt8 := dkwX1_stripesAll_0 ++ []
theorem dksX1_stripesAll_0 : cX1_stripesAll.data.toList.drop 0 = dktX1_stripesAll_0 := by decide +kernel
theorem dX1_stripesAll_0 : decode cX1_stripesAll 0 = .ok (.aload_n 0, 1) := dk_42 (dk_at dksX1_stripesAll_0 0 rfl rfl)
theorem dX1_stripesAll_1 : decode cX1_stripesAll 1 = .ok (.getfield 16, 3) := dk_180 0 16 (dk_at dksX1_stripesAll_0 1 rfl rfl)
theorem dX1_stripesAll_4 : decode cX1_stripesAll 4 = .ok (.iconst 0, 1) := dk_3 (dk_at dksX1_stripesAll_0 4 rfl rfl)
theorem dX1_stripesAll_5 : decode cX1_stripesAll 5 = .ok (.iaload, 1) := dk_46 (dk_at dksX1_stripesAll_0 5 rfl rfl)
theorem dX1_stripesAll_6 : decode cX1_stripesAll 6 = .ok (.aload_n 0, 1) := dk_42 (dk_at dksX1_stripesAll_0 6 rfl rfl)
theorem dX1_stripesAll_7 : decode cX1_stripesAll 7 = .ok (.getfield 16, 3) := dk_180 0 16 (dk_at dksX1_stripesAll_0 7 rfl rfl)
theorem dX1_stripesAll_10 : decode cX1_stripesAll 10 = .ok (.iconst 1, 1) := dk_4 (dk_at dksX1_stripesAll_0 10 rfl rfl)
theorem dX1_stripesAll_11 : decode cX1_stripesAll 11 = .ok (.iaload, 1) := dk_46 (dk_at dksX1_stripesAll_0 11 rfl rfl)
theorem dX1_stripesAll_12 : decode cX1_stripesAll 12 = .ok (.iadd, 1) := dk_96 (dk_at dksX1_stripesAll_0 12 rfl rfl)
theorem dX1_stripesAll_13 : decode cX1_stripesAll 13 = .ok (.aload_n 0, 1) := dk_42 (dk_at dksX1_stripesAll_0 13 rfl rfl)
theorem dX1_stripesAll_14 : decode cX1_stripesAll 14 = .ok (.getfield 16, 3) := dk_180 0 16 (dk_at dksX1_stripesAll_0 14 rfl rfl)
theorem dX1_stripesAll_17 : decode cX1_stripesAll 17 = .ok (.iconst 2, 1) := dk_5 (dk_at dksX1_stripesAll_0 17 rfl rfl)
theorem dX1_stripesAll_18 : decode cX1_stripesAll 18 = .ok (.iaload, 1) := dk_46 (dk_at dksX1_stripesAll_0 18 rfl rfl)
theorem dX1_stripesAll_19 : decode cX1_stripesAll 19 = .ok (.iadd, 1) := dk_96 (dk_at dksX1_stripesAll_0 19 rfl rfl)
theorem dX1_stripesAll_20 : decode cX1_stripesAll 20 = .ok (.ireturn, 1) := dk_172 (dk_at dksX1_stripesAll_0 20 rfl rfl)
abbrev cX1_restore : ByteArray := prog_9_method_64_code
def yX1_restore : MethodName := ⟨RX1, "restore", "()I"⟩
def dkwX1_restore_7 : List UInt8 := [182, 1, 23, 172]
abbrev dktX1_restore_7 : List UInt8 := dkwX1_restore_7 ++ []
def dkwX1_restore_6 : List UInt8 := [27, 46, 79, 42, 180, 0, 40, 27, 42, 180, 0, 74, 27, 46, 79, 132, 1, 1, 167, 255, 211, 42]
abbrev dktX1_restore_6 : List UInt8 := dkwX1_restore_6 ++ dktX1_restore_7
def dkwX1_restore_5 : List UInt8 := [162, 0, 45, 42, 180, 0, 34, 27, 42, 180, 0, 68, 27, 46, 79, 42, 180, 0, 37, 27, 42, 180, 0, 71]
abbrev dktX1_restore_5 : List UInt8 := dkwX1_restore_5 ++ dktX1_restore_6
def dkwX1_restore_4 : List UInt8 := [42, 180, 0, 25, 27, 42, 180, 0, 65, 27, 46, 79, 132, 1, 1, 167, 255, 212, 3, 60, 27, 16, 6]
abbrev dktX1_restore_4 : List UInt8 := dkwX1_restore_4 ++ dktX1_restore_5
def dkwX1_restore_3 : List UInt8 := [42, 180, 0, 16, 27, 42, 180, 0, 59, 27, 46, 79, 42, 180, 0, 28, 27, 42, 180, 0, 62, 27, 46, 79]
abbrev dktX1_restore_3 : List UInt8 := dkwX1_restore_3 ++ dktX1_restore_4
def dkwX1_restore_2 : List UInt8 := [180, 0, 31, 27, 42, 180, 0, 56, 27, 46, 79, 132, 1, 1, 167, 255, 235, 3, 60, 27, 6, 162, 0, 45]
abbrev dktX1_restore_2 : List UInt8 := dkwX1_restore_2 ++ dktX1_restore_3
def dkwX1_restore_1 : List UInt8 := [180, 1, 17, 181, 0, 116, 42, 42, 180, 1, 20, 181, 0, 119, 3, 60, 27, 16, 9, 162, 0, 21, 42]
abbrev dktX1_restore_1 : List UInt8 := dkwX1_restore_1 ++ dktX1_restore_2
def dkwX1_restore_0 : List UInt8 := [42, 180, 1, 11, 153, 0, 14, 42, 180, 1, 14, 42, 180, 0, 113, 159, 0, 6, 16, 153, 172, 42, 42]
abbrev dktX1_restore_0 : List UInt8 := dkwX1_restore_0 ++ dktX1_restore_1
theorem dksX1_restore_0 : cX1_restore.data.toList.drop 0 = dktX1_restore_0 := by decide +kernel
theorem dksX1_restore_1 : cX1_restore.data.toList.drop 23 = dktX1_restore_1 := dk_seg dksX1_restore_0 23 rfl rfl
theorem dksX1_restore_2 : cX1_restore.data.toList.drop 46 = dktX1_restore_2 := dk_seg dksX1_restore_1 23 rfl rfl
theorem dksX1_restore_3 : cX1_restore.data.toList.drop 70 = dktX1_restore_3 := dk_seg dksX1_restore_2 24 rfl rfl
theorem dksX1_restore_4 : cX1_restore.data.toList.drop 94 = dktX1_restore_4 := dk_seg dksX1_restore_3 24 rfl rfl
theorem dksX1_restore_5 : cX1_restore.data.toList.drop 117 = dktX1_restore_5 := dk_seg dksX1_restore_4 23 rfl rfl
theorem dksX1_restore_6 : cX1_restore.data.toList.drop 141 = dktX1_restore_6 := dk_seg dksX1_restore_5 24 rfl rfl
theorem dksX1_restore_7 : cX1_restore.data.toList.drop 163 = dktX1_restore_7 := dk_seg dksX1_restore_6 22 rfl rfl
theorem dX1_restore_0 : decode cX1_restore 0 = .ok (.aload_n 0, 1) := dk_42 (dk_at dksX1_restore_0 0 rfl rfl)
theorem dX1_restore_1 : decode cX1_restore 1 = .ok (.getfield 267, 3) := dk_180 1 11 (dk_at dksX1_restore_0 1 rfl rfl)
theorem dX1_restore_4 : decode cX1_restore 4 = .ok (.ifCond .eq 14, 3) := dk_153 0 14 (dk_at dksX1_restore_0 4 rfl rfl)
theorem dX1_restore_7 : decode cX1_restore 7 = .ok (.aload_n 0, 1) := dk_42 (dk_at dksX1_restore_0 7 rfl rfl)
theorem dX1_restore_8 : decode cX1_restore 8 = .ok (.getfield 270, 3) := dk_180 1 14 (dk_at dksX1_restore_0 8 rfl rfl)
theorem dX1_restore_11 : decode cX1_restore 11 = .ok (.aload_n 0, 1) := dk_42 (dk_at dksX1_restore_0 11 rfl rfl)
theorem dX1_restore_12 : decode cX1_restore 12 = .ok (.getfield 113, 3) := dk_180 0 113 (dk_at dksX1_restore_0 12 rfl rfl)
theorem dX1_restore_15 : decode cX1_restore 15 = .ok (.if_icmp .eq 6, 3) := dk_159 0 6 (dk_at dksX1_restore_0 15 rfl rfl)
theorem dX1_restore_18 : decode cX1_restore 18 = .ok (.bipush (-103), 2) := dk_16 153 (dk_at dksX1_restore_0 18 rfl rfl)
theorem dX1_restore_20 : decode cX1_restore 20 = .ok (.ireturn, 1) := dk_172 (dk_at dksX1_restore_0 20 rfl rfl)
theorem dX1_restore_21 : decode cX1_restore 21 = .ok (.aload_n 0, 1) := dk_42 (dk_at dksX1_restore_0 21 rfl rfl)
theorem dX1_restore_22 : decode cX1_restore 22 = .ok (.aload_n 0, 1) := dk_42 (dk_at dksX1_restore_0 22 rfl rfl)
theorem dX1_restore_23 : decode cX1_restore 23 = .ok (.getfield 273, 3) := dk_180 1 17 (dk_at dksX1_restore_1 0 rfl rfl)
theorem dX1_restore_26 : decode cX1_restore 26 = .ok (.putfield 116, 3) := dk_181 0 116 (dk_at dksX1_restore_1 3 rfl rfl)
theorem dX1_restore_29 : decode cX1_restore 29 = .ok (.aload_n 0, 1) := dk_42 (dk_at dksX1_restore_1 6 rfl rfl)
theorem dX1_restore_30 : decode cX1_restore 30 = .ok (.aload_n 0, 1) := dk_42 (dk_at dksX1_restore_1 7 rfl rfl)
theorem dX1_restore_31 : decode cX1_restore 31 = .ok (.getfield 276, 3) := dk_180 1 20 (dk_at dksX1_restore_1 8 rfl rfl)
theorem dX1_restore_34 : decode cX1_restore 34 = .ok (.putfield 119, 3) := dk_181 0 119 (dk_at dksX1_restore_1 11 rfl rfl)
theorem dX1_restore_37 : decode cX1_restore 37 = .ok (.iconst 0, 1) := dk_3 (dk_at dksX1_restore_1 14 rfl rfl)
theorem dX1_restore_38 : decode cX1_restore 38 = .ok (.istore_n 1, 1) := dk_60 (dk_at dksX1_restore_1 15 rfl rfl)
theorem dX1_restore_39 : decode cX1_restore 39 = .ok (.iload_n 1, 1) := dk_27 (dk_at dksX1_restore_1 16 rfl rfl)
theorem dX1_restore_40 : decode cX1_restore 40 = .ok (.bipush 9, 2) := dk_16 9 (dk_at dksX1_restore_1 17 rfl rfl)
theorem dX1_restore_42 : decode cX1_restore 42 = .ok (.if_icmp .ge 21, 3) := dk_162 0 21 (dk_at dksX1_restore_1 19 rfl rfl)
theorem dX1_restore_45 : decode cX1_restore 45 = .ok (.aload_n 0, 1) := dk_42 (dk_at dksX1_restore_1 22 rfl rfl)
theorem dX1_restore_46 : decode cX1_restore 46 = .ok (.getfield 31, 3) := dk_180 0 31 (dk_at dksX1_restore_2 0 rfl rfl)
theorem dX1_restore_49 : decode cX1_restore 49 = .ok (.iload_n 1, 1) := dk_27 (dk_at dksX1_restore_2 3 rfl rfl)
theorem dX1_restore_50 : decode cX1_restore 50 = .ok (.aload_n 0, 1) := dk_42 (dk_at dksX1_restore_2 4 rfl rfl)
theorem dX1_restore_51 : decode cX1_restore 51 = .ok (.getfield 56, 3) := dk_180 0 56 (dk_at dksX1_restore_2 5 rfl rfl)
theorem dX1_restore_54 : decode cX1_restore 54 = .ok (.iload_n 1, 1) := dk_27 (dk_at dksX1_restore_2 8 rfl rfl)
theorem dX1_restore_55 : decode cX1_restore 55 = .ok (.iaload, 1) := dk_46 (dk_at dksX1_restore_2 9 rfl rfl)
theorem dX1_restore_56 : decode cX1_restore 56 = .ok (.iastore, 1) := dk_79 (dk_at dksX1_restore_2 10 rfl rfl)
theorem dX1_restore_57 : decode cX1_restore 57 = .ok (.iinc 1 1, 3) := dk_132 1 1 (dk_at dksX1_restore_2 11 rfl rfl)
theorem dX1_restore_60 : decode cX1_restore 60 = .ok (.goto (-21), 3) := dk_167 255 235 (dk_at dksX1_restore_2 14 rfl rfl)
theorem dX1_restore_63 : decode cX1_restore 63 = .ok (.iconst 0, 1) := dk_3 (dk_at dksX1_restore_2 17 rfl rfl)
theorem dX1_restore_64 : decode cX1_restore 64 = .ok (.istore_n 1, 1) := dk_60 (dk_at dksX1_restore_2 18 rfl rfl)
theorem dX1_restore_65 : decode cX1_restore 65 = .ok (.iload_n 1, 1) := dk_27 (dk_at dksX1_restore_2 19 rfl rfl)
theorem dX1_restore_66 : decode cX1_restore 66 = .ok (.iconst 3, 1) := dk_6 (dk_at dksX1_restore_2 20 rfl rfl)
theorem dX1_restore_67 : decode cX1_restore 67 = .ok (.if_icmp .ge 45, 3) := dk_162 0 45 (dk_at dksX1_restore_2 21 rfl rfl)
theorem dX1_restore_70 : decode cX1_restore 70 = .ok (.aload_n 0, 1) := dk_42 (dk_at dksX1_restore_3 0 rfl rfl)
theorem dX1_restore_71 : decode cX1_restore 71 = .ok (.getfield 16, 3) := dk_180 0 16 (dk_at dksX1_restore_3 1 rfl rfl)
theorem dX1_restore_74 : decode cX1_restore 74 = .ok (.iload_n 1, 1) := dk_27 (dk_at dksX1_restore_3 4 rfl rfl)
theorem dX1_restore_75 : decode cX1_restore 75 = .ok (.aload_n 0, 1) := dk_42 (dk_at dksX1_restore_3 5 rfl rfl)
theorem dX1_restore_76 : decode cX1_restore 76 = .ok (.getfield 59, 3) := dk_180 0 59 (dk_at dksX1_restore_3 6 rfl rfl)
theorem dX1_restore_79 : decode cX1_restore 79 = .ok (.iload_n 1, 1) := dk_27 (dk_at dksX1_restore_3 9 rfl rfl)
theorem dX1_restore_80 : decode cX1_restore 80 = .ok (.iaload, 1) := dk_46 (dk_at dksX1_restore_3 10 rfl rfl)
theorem dX1_restore_81 : decode cX1_restore 81 = .ok (.iastore, 1) := dk_79 (dk_at dksX1_restore_3 11 rfl rfl)
theorem dX1_restore_82 : decode cX1_restore 82 = .ok (.aload_n 0, 1) := dk_42 (dk_at dksX1_restore_3 12 rfl rfl)
theorem dX1_restore_83 : decode cX1_restore 83 = .ok (.getfield 28, 3) := dk_180 0 28 (dk_at dksX1_restore_3 13 rfl rfl)
theorem dX1_restore_86 : decode cX1_restore 86 = .ok (.iload_n 1, 1) := dk_27 (dk_at dksX1_restore_3 16 rfl rfl)
theorem dX1_restore_87 : decode cX1_restore 87 = .ok (.aload_n 0, 1) := dk_42 (dk_at dksX1_restore_3 17 rfl rfl)
theorem dX1_restore_88 : decode cX1_restore 88 = .ok (.getfield 62, 3) := dk_180 0 62 (dk_at dksX1_restore_3 18 rfl rfl)
theorem dX1_restore_91 : decode cX1_restore 91 = .ok (.iload_n 1, 1) := dk_27 (dk_at dksX1_restore_3 21 rfl rfl)
theorem dX1_restore_92 : decode cX1_restore 92 = .ok (.iaload, 1) := dk_46 (dk_at dksX1_restore_3 22 rfl rfl)
theorem dX1_restore_93 : decode cX1_restore 93 = .ok (.iastore, 1) := dk_79 (dk_at dksX1_restore_3 23 rfl rfl)
theorem dX1_restore_94 : decode cX1_restore 94 = .ok (.aload_n 0, 1) := dk_42 (dk_at dksX1_restore_4 0 rfl rfl)
theorem dX1_restore_95 : decode cX1_restore 95 = .ok (.getfield 25, 3) := dk_180 0 25 (dk_at dksX1_restore_4 1 rfl rfl)
theorem dX1_restore_98 : decode cX1_restore 98 = .ok (.iload_n 1, 1) := dk_27 (dk_at dksX1_restore_4 4 rfl rfl)
theorem dX1_restore_99 : decode cX1_restore 99 = .ok (.aload_n 0, 1) := dk_42 (dk_at dksX1_restore_4 5 rfl rfl)
theorem dX1_restore_100 : decode cX1_restore 100 = .ok (.getfield 65, 3) := dk_180 0 65 (dk_at dksX1_restore_4 6 rfl rfl)
theorem dX1_restore_103 : decode cX1_restore 103 = .ok (.iload_n 1, 1) := dk_27 (dk_at dksX1_restore_4 9 rfl rfl)
theorem dX1_restore_104 : decode cX1_restore 104 = .ok (.iaload, 1) := dk_46 (dk_at dksX1_restore_4 10 rfl rfl)
theorem dX1_restore_105 : decode cX1_restore 105 = .ok (.iastore, 1) := dk_79 (dk_at dksX1_restore_4 11 rfl rfl)
theorem dX1_restore_106 : decode cX1_restore 106 = .ok (.iinc 1 1, 3) := dk_132 1 1 (dk_at dksX1_restore_4 12 rfl rfl)
theorem dX1_restore_109 : decode cX1_restore 109 = .ok (.goto (-44), 3) := dk_167 255 212 (dk_at dksX1_restore_4 15 rfl rfl)
theorem dX1_restore_112 : decode cX1_restore 112 = .ok (.iconst 0, 1) := dk_3 (dk_at dksX1_restore_4 18 rfl rfl)
theorem dX1_restore_113 : decode cX1_restore 113 = .ok (.istore_n 1, 1) := dk_60 (dk_at dksX1_restore_4 19 rfl rfl)
theorem dX1_restore_114 : decode cX1_restore 114 = .ok (.iload_n 1, 1) := dk_27 (dk_at dksX1_restore_4 20 rfl rfl)
theorem dX1_restore_115 : decode cX1_restore 115 = .ok (.bipush 6, 2) := dk_16 6 (dk_at dksX1_restore_4 21 rfl rfl)
theorem dX1_restore_117 : decode cX1_restore 117 = .ok (.if_icmp .ge 45, 3) := dk_162 0 45 (dk_at dksX1_restore_5 0 rfl rfl)
theorem dX1_restore_120 : decode cX1_restore 120 = .ok (.aload_n 0, 1) := dk_42 (dk_at dksX1_restore_5 3 rfl rfl)
theorem dX1_restore_121 : decode cX1_restore 121 = .ok (.getfield 34, 3) := dk_180 0 34 (dk_at dksX1_restore_5 4 rfl rfl)
theorem dX1_restore_124 : decode cX1_restore 124 = .ok (.iload_n 1, 1) := dk_27 (dk_at dksX1_restore_5 7 rfl rfl)
theorem dX1_restore_125 : decode cX1_restore 125 = .ok (.aload_n 0, 1) := dk_42 (dk_at dksX1_restore_5 8 rfl rfl)
theorem dX1_restore_126 : decode cX1_restore 126 = .ok (.getfield 68, 3) := dk_180 0 68 (dk_at dksX1_restore_5 9 rfl rfl)
theorem dX1_restore_129 : decode cX1_restore 129 = .ok (.iload_n 1, 1) := dk_27 (dk_at dksX1_restore_5 12 rfl rfl)
theorem dX1_restore_130 : decode cX1_restore 130 = .ok (.iaload, 1) := dk_46 (dk_at dksX1_restore_5 13 rfl rfl)
theorem dX1_restore_131 : decode cX1_restore 131 = .ok (.iastore, 1) := dk_79 (dk_at dksX1_restore_5 14 rfl rfl)
theorem dX1_restore_132 : decode cX1_restore 132 = .ok (.aload_n 0, 1) := dk_42 (dk_at dksX1_restore_5 15 rfl rfl)
theorem dX1_restore_133 : decode cX1_restore 133 = .ok (.getfield 37, 3) := dk_180 0 37 (dk_at dksX1_restore_5 16 rfl rfl)
theorem dX1_restore_136 : decode cX1_restore 136 = .ok (.iload_n 1, 1) := dk_27 (dk_at dksX1_restore_5 19 rfl rfl)
theorem dX1_restore_137 : decode cX1_restore 137 = .ok (.aload_n 0, 1) := dk_42 (dk_at dksX1_restore_5 20 rfl rfl)
theorem dX1_restore_138 : decode cX1_restore 138 = .ok (.getfield 71, 3) := dk_180 0 71 (dk_at dksX1_restore_5 21 rfl rfl)
theorem dX1_restore_141 : decode cX1_restore 141 = .ok (.iload_n 1, 1) := dk_27 (dk_at dksX1_restore_6 0 rfl rfl)
theorem dX1_restore_142 : decode cX1_restore 142 = .ok (.iaload, 1) := dk_46 (dk_at dksX1_restore_6 1 rfl rfl)
theorem dX1_restore_143 : decode cX1_restore 143 = .ok (.iastore, 1) := dk_79 (dk_at dksX1_restore_6 2 rfl rfl)
theorem dX1_restore_144 : decode cX1_restore 144 = .ok (.aload_n 0, 1) := dk_42 (dk_at dksX1_restore_6 3 rfl rfl)
theorem dX1_restore_145 : decode cX1_restore 145 = .ok (.getfield 40, 3) := dk_180 0 40 (dk_at dksX1_restore_6 4 rfl rfl)
theorem dX1_restore_148 : decode cX1_restore 148 = .ok (.iload_n 1, 1) := dk_27 (dk_at dksX1_restore_6 7 rfl rfl)
theorem dX1_restore_149 : decode cX1_restore 149 = .ok (.aload_n 0, 1) := dk_42 (dk_at dksX1_restore_6 8 rfl rfl)
theorem dX1_restore_150 : decode cX1_restore 150 = .ok (.getfield 74, 3) := dk_180 0 74 (dk_at dksX1_restore_6 9 rfl rfl)
theorem dX1_restore_153 : decode cX1_restore 153 = .ok (.iload_n 1, 1) := dk_27 (dk_at dksX1_restore_6 12 rfl rfl)
theorem dX1_restore_154 : decode cX1_restore 154 = .ok (.iaload, 1) := dk_46 (dk_at dksX1_restore_6 13 rfl rfl)
theorem dX1_restore_155 : decode cX1_restore 155 = .ok (.iastore, 1) := dk_79 (dk_at dksX1_restore_6 14 rfl rfl)
theorem dX1_restore_156 : decode cX1_restore 156 = .ok (.iinc 1 1, 3) := dk_132 1 1 (dk_at dksX1_restore_6 15 rfl rfl)
theorem dX1_restore_159 : decode cX1_restore 159 = .ok (.goto (-45), 3) := dk_167 255 211 (dk_at dksX1_restore_6 18 rfl rfl)
theorem dX1_restore_162 : decode cX1_restore 162 = .ok (.aload_n 0, 1) := dk_42 (dk_at dksX1_restore_6 21 rfl rfl)
theorem dX1_restore_163 : decode cX1_restore 163 = .ok (.invokevirtual 279, 3) := dk_182 1 23 (dk_at dksX1_restore_7 0 rfl rfl)
theorem dX1_restore_166 : decode cX1_restore 166 = .ok (.ireturn, 1) := dk_172 (dk_at dksX1_restore_7 3 rfl rfl)
abbrev cX1_count : ByteArray := prog_9_method_66_code
def yX1_count : MethodName := ⟨RX1, "count", "(I)I"⟩
def dkwX1_count_0 : List UInt8 := [42, 27, 182, 1, 26, 172]
abbrev dktX1_count_0 : List UInt8 := dkwX1_count_0 ++ []
theorem dksX1_count_0 : cX1_count.data.toList.drop 0 = dktX1_count_0 := by decide +kernel
theorem dX1_count_0 : decode cX1_count 0 = .ok (.aload_n 0, 1) := dk_42 (dk_at dksX1_count_0 0 rfl rfl)
theorem dX1_count_1 : decode cX1_count 1 = .ok (.iload_n 1, 1) := dk_27 (dk_at dksX1_count_0 1 rfl rfl)
theorem dX1_count_2 : decode cX1_count 2 = .ok (.invokevirtual 282, 3) := dk_182 1 26 (dk_at dksX1_count_0 2 rfl rfl)
theorem dX1_count_5 : decode cX1_count 5 = .ok (.ireturn, 1) := dk_172 (dk_at dksX1_count_0 5 rfl rfl)
abbrev cX1_howMany : ByteArray := prog_9_method_65_code
def yX1_howMany : MethodName := ⟨RX1, "howMany", "(I)I"⟩
def dkwX1_howMany_3 : List UInt8 := [172, 42, 180, 0, 119, 172, 42, 180, 0, 81, 172, 42, 180, 0, 113, 172, 42, 180, 0, 204, 172, 16, 154, 172]
abbrev dktX1_howMany_3 : List UInt8 := dkwX1_howMany_3 ++ []
def dkwX1_howMany_2 : List UInt8 := [42, 180, 0, 107, 172, 42, 180, 0, 110, 172, 42, 180, 0, 116, 172, 42, 182, 1, 23, 172, 42, 182, 1, 2]
abbrev dktX1_howMany_2 : List UInt8 := dkwX1_howMany_2 ++ dktX1_howMany_3
def dkwX1_howMany_1 : List UInt8 := [170, 0, 0, 0, 0, 0, 96, 0, 0, 0, 0, 0, 0, 0, 8, 0, 0, 0, 51, 0, 0, 0, 56, 0, 0, 0, 61, 0, 0, 0, 66, 0, 0, 0, 71, 0, 0, 0, 76, 0, 0, 0, 81, 0, 0, 0, 86, 0, 0, 0, 91]
abbrev dktX1_howMany_1 : List UInt8 := dkwX1_howMany_1 ++ dktX1_howMany_2
def dkwX1_howMany_0 : List UInt8 := [27]
abbrev dktX1_howMany_0 : List UInt8 := dkwX1_howMany_0 ++ dktX1_howMany_1
theorem dksX1_howMany_0 : cX1_howMany.data.toList.drop 0 = dktX1_howMany_0 := by decide +kernel
theorem dksX1_howMany_1 : cX1_howMany.data.toList.drop 1 = dktX1_howMany_1 := dk_seg dksX1_howMany_0 1 rfl rfl
theorem dksX1_howMany_2 : cX1_howMany.data.toList.drop 52 = dktX1_howMany_2 := dk_seg dksX1_howMany_1 51 rfl rfl
theorem dksX1_howMany_3 : cX1_howMany.data.toList.drop 76 = dktX1_howMany_3 := dk_seg dksX1_howMany_2 24 rfl rfl
theorem dX1_howMany_0 : decode cX1_howMany 0 = .ok (.iload_n 1, 1) := dk_27 (dk_at dksX1_howMany_0 0 rfl rfl)
theorem dX1_howMany_1 : decode cX1_howMany 1 = .ok (.tableswitch 96 0 8 #[51, 56, 61, 66, 71, 76, 81, 86, 91], 51) := by decide +kernel
theorem dX1_howMany_52 : decode cX1_howMany 52 = .ok (.aload_n 0, 1) := dk_42 (dk_at dksX1_howMany_2 0 rfl rfl)
theorem dX1_howMany_53 : decode cX1_howMany 53 = .ok (.getfield 107, 3) := dk_180 0 107 (dk_at dksX1_howMany_2 1 rfl rfl)
theorem dX1_howMany_56 : decode cX1_howMany 56 = .ok (.ireturn, 1) := dk_172 (dk_at dksX1_howMany_2 4 rfl rfl)
theorem dX1_howMany_57 : decode cX1_howMany 57 = .ok (.aload_n 0, 1) := dk_42 (dk_at dksX1_howMany_2 5 rfl rfl)
theorem dX1_howMany_58 : decode cX1_howMany 58 = .ok (.getfield 110, 3) := dk_180 0 110 (dk_at dksX1_howMany_2 6 rfl rfl)
theorem dX1_howMany_61 : decode cX1_howMany 61 = .ok (.ireturn, 1) := dk_172 (dk_at dksX1_howMany_2 9 rfl rfl)
theorem dX1_howMany_62 : decode cX1_howMany 62 = .ok (.aload_n 0, 1) := dk_42 (dk_at dksX1_howMany_2 10 rfl rfl)
theorem dX1_howMany_63 : decode cX1_howMany 63 = .ok (.getfield 116, 3) := dk_180 0 116 (dk_at dksX1_howMany_2 11 rfl rfl)
theorem dX1_howMany_66 : decode cX1_howMany 66 = .ok (.ireturn, 1) := dk_172 (dk_at dksX1_howMany_2 14 rfl rfl)
theorem dX1_howMany_67 : decode cX1_howMany 67 = .ok (.aload_n 0, 1) := dk_42 (dk_at dksX1_howMany_2 15 rfl rfl)
theorem dX1_howMany_68 : decode cX1_howMany 68 = .ok (.invokevirtual 279, 3) := dk_182 1 23 (dk_at dksX1_howMany_2 16 rfl rfl)
theorem dX1_howMany_71 : decode cX1_howMany 71 = .ok (.ireturn, 1) := dk_172 (dk_at dksX1_howMany_2 19 rfl rfl)
theorem dX1_howMany_72 : decode cX1_howMany 72 = .ok (.aload_n 0, 1) := dk_42 (dk_at dksX1_howMany_2 20 rfl rfl)
theorem dX1_howMany_73 : decode cX1_howMany 73 = .ok (.invokevirtual 258, 3) := dk_182 1 2 (dk_at dksX1_howMany_2 21 rfl rfl)
theorem dX1_howMany_76 : decode cX1_howMany 76 = .ok (.ireturn, 1) := dk_172 (dk_at dksX1_howMany_3 0 rfl rfl)
theorem dX1_howMany_77 : decode cX1_howMany 77 = .ok (.aload_n 0, 1) := dk_42 (dk_at dksX1_howMany_3 1 rfl rfl)
theorem dX1_howMany_78 : decode cX1_howMany 78 = .ok (.getfield 119, 3) := dk_180 0 119 (dk_at dksX1_howMany_3 2 rfl rfl)
theorem dX1_howMany_81 : decode cX1_howMany 81 = .ok (.ireturn, 1) := dk_172 (dk_at dksX1_howMany_3 5 rfl rfl)
theorem dX1_howMany_82 : decode cX1_howMany 82 = .ok (.aload_n 0, 1) := dk_42 (dk_at dksX1_howMany_3 6 rfl rfl)
theorem dX1_howMany_83 : decode cX1_howMany 83 = .ok (.getfield 81, 3) := dk_180 0 81 (dk_at dksX1_howMany_3 7 rfl rfl)
theorem dX1_howMany_86 : decode cX1_howMany 86 = .ok (.ireturn, 1) := dk_172 (dk_at dksX1_howMany_3 10 rfl rfl)
theorem dX1_howMany_87 : decode cX1_howMany 87 = .ok (.aload_n 0, 1) := dk_42 (dk_at dksX1_howMany_3 11 rfl rfl)
theorem dX1_howMany_88 : decode cX1_howMany 88 = .ok (.getfield 113, 3) := dk_180 0 113 (dk_at dksX1_howMany_3 12 rfl rfl)
theorem dX1_howMany_91 : decode cX1_howMany 91 = .ok (.ireturn, 1) := dk_172 (dk_at dksX1_howMany_3 15 rfl rfl)
theorem dX1_howMany_92 : decode cX1_howMany 92 = .ok (.aload_n 0, 1) := dk_42 (dk_at dksX1_howMany_3 16 rfl rfl)
theorem dX1_howMany_93 : decode cX1_howMany 93 = .ok (.getfield 204, 3) := dk_180 0 204 (dk_at dksX1_howMany_3 17 rfl rfl)
theorem dX1_howMany_96 : decode cX1_howMany 96 = .ok (.ireturn, 1) := dk_172 (dk_at dksX1_howMany_3 20 rfl rfl)
theorem dX1_howMany_97 : decode cX1_howMany 97 = .ok (.bipush (-102), 2) := dk_16 154 (dk_at dksX1_howMany_3 21 rfl rfl)
theorem dX1_howMany_99 : decode cX1_howMany 99 = .ok (.ireturn, 1) := dk_172 (dk_at dksX1_howMany_3 23 rfl rfl)
abbrev cX1_digest : ByteArray := prog_9_method_70_code
def yX1_digest : MethodName := ⟨RX1, "digest", "()J"⟩
def dkwX1_digest_5 : List UInt8 := [42, 27, 182, 1, 26, 133, 182, 1, 34, 132, 1, 1, 167, 255, 237, 42, 180, 1, 31, 173]
abbrev dktX1_digest_5 : List UInt8 := dkwX1_digest_5 ++ []
def dkwX1_digest_4 : List UInt8 := [180, 0, 43, 27, 51, 133, 182, 1, 34, 132, 1, 1, 167, 255, 234, 3, 60, 27, 16, 9, 162, 0, 19, 42]
abbrev dktX1_digest_4 : List UInt8 := dkwX1_digest_4 ++ dktX1_digest_5
def dkwX1_digest_3 : List UInt8 := [42, 27, 182, 1, 43, 132, 1, 1, 167, 255, 240, 3, 60, 27, 42, 180, 0, 81, 162, 0, 20, 42, 42]
abbrev dktX1_digest_3 : List UInt8 := dkwX1_digest_3 ++ dktX1_digest_4
def dkwX1_digest_2 : List UInt8 := [162, 0, 14, 42, 27, 182, 1, 40, 132, 1, 1, 167, 255, 240, 3, 60, 27, 42, 180, 0, 116, 162, 0, 14]
abbrev dktX1_digest_2 : List UInt8 := dkwX1_digest_2 ++ dktX1_digest_3
def dkwX1_digest_1 : List UInt8 := [180, 0, 16, 27, 46, 133, 182, 1, 34, 132, 1, 1, 167, 255, 230, 3, 60, 27, 42, 180, 0, 107]
abbrev dktX1_digest_1 : List UInt8 := dkwX1_digest_1 ++ dktX1_digest_2
def dkwX1_digest_0 : List UInt8 := [42, 20, 1, 38, 181, 1, 31, 3, 60, 27, 6, 162, 0, 27, 42, 180, 0, 107, 158, 0, 20, 42, 42]
abbrev dktX1_digest_0 : List UInt8 := dkwX1_digest_0 ++ dktX1_digest_1
theorem dksX1_digest_0 : cX1_digest.data.toList.drop 0 = dktX1_digest_0 := by decide +kernel
theorem dksX1_digest_1 : cX1_digest.data.toList.drop 23 = dktX1_digest_1 := dk_seg dksX1_digest_0 23 rfl rfl
theorem dksX1_digest_2 : cX1_digest.data.toList.drop 45 = dktX1_digest_2 := dk_seg dksX1_digest_1 22 rfl rfl
theorem dksX1_digest_3 : cX1_digest.data.toList.drop 69 = dktX1_digest_3 := dk_seg dksX1_digest_2 24 rfl rfl
theorem dksX1_digest_4 : cX1_digest.data.toList.drop 92 = dktX1_digest_4 := dk_seg dksX1_digest_3 23 rfl rfl
theorem dksX1_digest_5 : cX1_digest.data.toList.drop 116 = dktX1_digest_5 := dk_seg dksX1_digest_4 24 rfl rfl
theorem dX1_digest_0 : decode cX1_digest 0 = .ok (.aload_n 0, 1) := dk_42 (dk_at dksX1_digest_0 0 rfl rfl)
theorem dX1_digest_1 : decode cX1_digest 1 = .ok (.ldc2_w 294, 3) := dk_20 1 38 (dk_at dksX1_digest_0 1 rfl rfl)
theorem dX1_digest_4 : decode cX1_digest 4 = .ok (.putfield 287, 3) := dk_181 1 31 (dk_at dksX1_digest_0 4 rfl rfl)
theorem dX1_digest_7 : decode cX1_digest 7 = .ok (.iconst 0, 1) := dk_3 (dk_at dksX1_digest_0 7 rfl rfl)
theorem dX1_digest_8 : decode cX1_digest 8 = .ok (.istore_n 1, 1) := dk_60 (dk_at dksX1_digest_0 8 rfl rfl)
theorem dX1_digest_9 : decode cX1_digest 9 = .ok (.iload_n 1, 1) := dk_27 (dk_at dksX1_digest_0 9 rfl rfl)
theorem dX1_digest_10 : decode cX1_digest 10 = .ok (.iconst 3, 1) := dk_6 (dk_at dksX1_digest_0 10 rfl rfl)
theorem dX1_digest_11 : decode cX1_digest 11 = .ok (.if_icmp .ge 27, 3) := dk_162 0 27 (dk_at dksX1_digest_0 11 rfl rfl)
theorem dX1_digest_14 : decode cX1_digest 14 = .ok (.aload_n 0, 1) := dk_42 (dk_at dksX1_digest_0 14 rfl rfl)
theorem dX1_digest_15 : decode cX1_digest 15 = .ok (.getfield 107, 3) := dk_180 0 107 (dk_at dksX1_digest_0 15 rfl rfl)
theorem dX1_digest_18 : decode cX1_digest 18 = .ok (.ifCond .le 20, 3) := dk_158 0 20 (dk_at dksX1_digest_0 18 rfl rfl)
theorem dX1_digest_21 : decode cX1_digest 21 = .ok (.aload_n 0, 1) := dk_42 (dk_at dksX1_digest_0 21 rfl rfl)
theorem dX1_digest_22 : decode cX1_digest 22 = .ok (.aload_n 0, 1) := dk_42 (dk_at dksX1_digest_0 22 rfl rfl)
theorem dX1_digest_23 : decode cX1_digest 23 = .ok (.getfield 16, 3) := dk_180 0 16 (dk_at dksX1_digest_1 0 rfl rfl)
theorem dX1_digest_26 : decode cX1_digest 26 = .ok (.iload_n 1, 1) := dk_27 (dk_at dksX1_digest_1 3 rfl rfl)
theorem dX1_digest_27 : decode cX1_digest 27 = .ok (.iaload, 1) := dk_46 (dk_at dksX1_digest_1 4 rfl rfl)
theorem dX1_digest_28 : decode cX1_digest 28 = .ok (.i2l, 1) := dk_133 (dk_at dksX1_digest_1 5 rfl rfl)
theorem dX1_digest_29 : decode cX1_digest 29 = .ok (.invokevirtual 290, 3) := dk_182 1 34 (dk_at dksX1_digest_1 6 rfl rfl)
theorem dX1_digest_32 : decode cX1_digest 32 = .ok (.iinc 1 1, 3) := dk_132 1 1 (dk_at dksX1_digest_1 9 rfl rfl)
theorem dX1_digest_35 : decode cX1_digest 35 = .ok (.goto (-26), 3) := dk_167 255 230 (dk_at dksX1_digest_1 12 rfl rfl)
theorem dX1_digest_38 : decode cX1_digest 38 = .ok (.iconst 0, 1) := dk_3 (dk_at dksX1_digest_1 15 rfl rfl)
theorem dX1_digest_39 : decode cX1_digest 39 = .ok (.istore_n 1, 1) := dk_60 (dk_at dksX1_digest_1 16 rfl rfl)
theorem dX1_digest_40 : decode cX1_digest 40 = .ok (.iload_n 1, 1) := dk_27 (dk_at dksX1_digest_1 17 rfl rfl)
theorem dX1_digest_41 : decode cX1_digest 41 = .ok (.aload_n 0, 1) := dk_42 (dk_at dksX1_digest_1 18 rfl rfl)
theorem dX1_digest_42 : decode cX1_digest 42 = .ok (.getfield 107, 3) := dk_180 0 107 (dk_at dksX1_digest_1 19 rfl rfl)
theorem dX1_digest_45 : decode cX1_digest 45 = .ok (.if_icmp .ge 14, 3) := dk_162 0 14 (dk_at dksX1_digest_2 0 rfl rfl)
theorem dX1_digest_48 : decode cX1_digest 48 = .ok (.aload_n 0, 1) := dk_42 (dk_at dksX1_digest_2 3 rfl rfl)
theorem dX1_digest_49 : decode cX1_digest 49 = .ok (.iload_n 1, 1) := dk_27 (dk_at dksX1_digest_2 4 rfl rfl)
theorem dX1_digest_50 : decode cX1_digest 50 = .ok (.invokevirtual 296, 3) := dk_182 1 40 (dk_at dksX1_digest_2 5 rfl rfl)
theorem dX1_digest_53 : decode cX1_digest 53 = .ok (.iinc 1 1, 3) := dk_132 1 1 (dk_at dksX1_digest_2 8 rfl rfl)
theorem dX1_digest_56 : decode cX1_digest 56 = .ok (.goto (-16), 3) := dk_167 255 240 (dk_at dksX1_digest_2 11 rfl rfl)
theorem dX1_digest_59 : decode cX1_digest 59 = .ok (.iconst 0, 1) := dk_3 (dk_at dksX1_digest_2 14 rfl rfl)
theorem dX1_digest_60 : decode cX1_digest 60 = .ok (.istore_n 1, 1) := dk_60 (dk_at dksX1_digest_2 15 rfl rfl)
theorem dX1_digest_61 : decode cX1_digest 61 = .ok (.iload_n 1, 1) := dk_27 (dk_at dksX1_digest_2 16 rfl rfl)
theorem dX1_digest_62 : decode cX1_digest 62 = .ok (.aload_n 0, 1) := dk_42 (dk_at dksX1_digest_2 17 rfl rfl)
theorem dX1_digest_63 : decode cX1_digest 63 = .ok (.getfield 116, 3) := dk_180 0 116 (dk_at dksX1_digest_2 18 rfl rfl)
theorem dX1_digest_66 : decode cX1_digest 66 = .ok (.if_icmp .ge 14, 3) := dk_162 0 14 (dk_at dksX1_digest_2 21 rfl rfl)
theorem dX1_digest_69 : decode cX1_digest 69 = .ok (.aload_n 0, 1) := dk_42 (dk_at dksX1_digest_3 0 rfl rfl)
theorem dX1_digest_70 : decode cX1_digest 70 = .ok (.iload_n 1, 1) := dk_27 (dk_at dksX1_digest_3 1 rfl rfl)
theorem dX1_digest_71 : decode cX1_digest 71 = .ok (.invokevirtual 299, 3) := dk_182 1 43 (dk_at dksX1_digest_3 2 rfl rfl)
theorem dX1_digest_74 : decode cX1_digest 74 = .ok (.iinc 1 1, 3) := dk_132 1 1 (dk_at dksX1_digest_3 5 rfl rfl)
theorem dX1_digest_77 : decode cX1_digest 77 = .ok (.goto (-16), 3) := dk_167 255 240 (dk_at dksX1_digest_3 8 rfl rfl)
theorem dX1_digest_80 : decode cX1_digest 80 = .ok (.iconst 0, 1) := dk_3 (dk_at dksX1_digest_3 11 rfl rfl)
theorem dX1_digest_81 : decode cX1_digest 81 = .ok (.istore_n 1, 1) := dk_60 (dk_at dksX1_digest_3 12 rfl rfl)
theorem dX1_digest_82 : decode cX1_digest 82 = .ok (.iload_n 1, 1) := dk_27 (dk_at dksX1_digest_3 13 rfl rfl)
theorem dX1_digest_83 : decode cX1_digest 83 = .ok (.aload_n 0, 1) := dk_42 (dk_at dksX1_digest_3 14 rfl rfl)
theorem dX1_digest_84 : decode cX1_digest 84 = .ok (.getfield 81, 3) := dk_180 0 81 (dk_at dksX1_digest_3 15 rfl rfl)
theorem dX1_digest_87 : decode cX1_digest 87 = .ok (.if_icmp .ge 20, 3) := dk_162 0 20 (dk_at dksX1_digest_3 18 rfl rfl)
theorem dX1_digest_90 : decode cX1_digest 90 = .ok (.aload_n 0, 1) := dk_42 (dk_at dksX1_digest_3 21 rfl rfl)
theorem dX1_digest_91 : decode cX1_digest 91 = .ok (.aload_n 0, 1) := dk_42 (dk_at dksX1_digest_3 22 rfl rfl)
theorem dX1_digest_92 : decode cX1_digest 92 = .ok (.getfield 43, 3) := dk_180 0 43 (dk_at dksX1_digest_4 0 rfl rfl)
theorem dX1_digest_95 : decode cX1_digest 95 = .ok (.iload_n 1, 1) := dk_27 (dk_at dksX1_digest_4 3 rfl rfl)
theorem dX1_digest_96 : decode cX1_digest 96 = .ok (.baload, 1) := dk_51 (dk_at dksX1_digest_4 4 rfl rfl)
theorem dX1_digest_97 : decode cX1_digest 97 = .ok (.i2l, 1) := dk_133 (dk_at dksX1_digest_4 5 rfl rfl)
theorem dX1_digest_98 : decode cX1_digest 98 = .ok (.invokevirtual 290, 3) := dk_182 1 34 (dk_at dksX1_digest_4 6 rfl rfl)
theorem dX1_digest_101 : decode cX1_digest 101 = .ok (.iinc 1 1, 3) := dk_132 1 1 (dk_at dksX1_digest_4 9 rfl rfl)
theorem dX1_digest_104 : decode cX1_digest 104 = .ok (.goto (-22), 3) := dk_167 255 234 (dk_at dksX1_digest_4 12 rfl rfl)
theorem dX1_digest_107 : decode cX1_digest 107 = .ok (.iconst 0, 1) := dk_3 (dk_at dksX1_digest_4 15 rfl rfl)
theorem dX1_digest_108 : decode cX1_digest 108 = .ok (.istore_n 1, 1) := dk_60 (dk_at dksX1_digest_4 16 rfl rfl)
theorem dX1_digest_109 : decode cX1_digest 109 = .ok (.iload_n 1, 1) := dk_27 (dk_at dksX1_digest_4 17 rfl rfl)
theorem dX1_digest_110 : decode cX1_digest 110 = .ok (.bipush 9, 2) := dk_16 9 (dk_at dksX1_digest_4 18 rfl rfl)
theorem dX1_digest_112 : decode cX1_digest 112 = .ok (.if_icmp .ge 19, 3) := dk_162 0 19 (dk_at dksX1_digest_4 20 rfl rfl)
theorem dX1_digest_115 : decode cX1_digest 115 = .ok (.aload_n 0, 1) := dk_42 (dk_at dksX1_digest_4 23 rfl rfl)
theorem dX1_digest_116 : decode cX1_digest 116 = .ok (.aload_n 0, 1) := dk_42 (dk_at dksX1_digest_5 0 rfl rfl)
theorem dX1_digest_117 : decode cX1_digest 117 = .ok (.iload_n 1, 1) := dk_27 (dk_at dksX1_digest_5 1 rfl rfl)
theorem dX1_digest_118 : decode cX1_digest 118 = .ok (.invokevirtual 282, 3) := dk_182 1 26 (dk_at dksX1_digest_5 2 rfl rfl)
theorem dX1_digest_121 : decode cX1_digest 121 = .ok (.i2l, 1) := dk_133 (dk_at dksX1_digest_5 5 rfl rfl)
theorem dX1_digest_122 : decode cX1_digest 122 = .ok (.invokevirtual 290, 3) := dk_182 1 34 (dk_at dksX1_digest_5 6 rfl rfl)
theorem dX1_digest_125 : decode cX1_digest 125 = .ok (.iinc 1 1, 3) := dk_132 1 1 (dk_at dksX1_digest_5 9 rfl rfl)
theorem dX1_digest_128 : decode cX1_digest 128 = .ok (.goto (-19), 3) := dk_167 255 237 (dk_at dksX1_digest_5 12 rfl rfl)
theorem dX1_digest_131 : decode cX1_digest 131 = .ok (.aload_n 0, 1) := dk_42 (dk_at dksX1_digest_5 15 rfl rfl)
theorem dX1_digest_132 : decode cX1_digest 132 = .ok (.getfield 287, 3) := dk_180 1 31 (dk_at dksX1_digest_5 16 rfl rfl)
theorem dX1_digest_135 : decode cX1_digest 135 = .ok (.lreturn, 1) := dk_173 (dk_at dksX1_digest_5 19 rfl rfl)
abbrev cX1_mix : ByteArray := prog_9_method_67_code
def yX1_mix : MethodName := ⟨RX1, "mix", "(J)V"⟩
def dkwX1_mix_0 : List UInt8 := [42, 20, 1, 29, 42, 180, 1, 31, 105, 31, 97, 181, 1, 31, 177]
abbrev dktX1_mix_0 : List UInt8 := dkwX1_mix_0 ++ []
theorem dksX1_mix_0 : cX1_mix.data.toList.drop 0 = dktX1_mix_0 := by decide +kernel
theorem dX1_mix_0 : decode cX1_mix 0 = .ok (.aload_n 0, 1) := dk_42 (dk_at dksX1_mix_0 0 rfl rfl)
theorem dX1_mix_1 : decode cX1_mix 1 = .ok (.ldc2_w 285, 3) := dk_20 1 29 (dk_at dksX1_mix_0 1 rfl rfl)
theorem dX1_mix_4 : decode cX1_mix 4 = .ok (.aload_n 0, 1) := dk_42 (dk_at dksX1_mix_0 4 rfl rfl)
theorem dX1_mix_5 : decode cX1_mix 5 = .ok (.getfield 287, 3) := dk_180 1 31 (dk_at dksX1_mix_0 5 rfl rfl)
theorem dX1_mix_8 : decode cX1_mix 8 = .ok (.lmul, 1) := dk_105 (dk_at dksX1_mix_0 8 rfl rfl)
theorem dX1_mix_9 : decode cX1_mix 9 = .ok (.lload_n 1, 1) := dk_31 (dk_at dksX1_mix_0 9 rfl rfl)
theorem dX1_mix_10 : decode cX1_mix 10 = .ok (.ladd, 1) := dk_97 (dk_at dksX1_mix_0 10 rfl rfl)
theorem dX1_mix_11 : decode cX1_mix 11 = .ok (.putfield 287, 3) := dk_181 1 31 (dk_at dksX1_mix_0 11 rfl rfl)
theorem dX1_mix_14 : decode cX1_mix 14 = .ok (.return_, 1) := dk_177 (dk_at dksX1_mix_0 14 rfl rfl)
abbrev cX1_mixLesson : ByteArray := prog_9_method_68_code
def yX1_mixLesson : MethodName := ⟨RX1, "mixLesson", "(I)V"⟩
def dkwX1_mixLesson_3 : List UInt8 := [177]
abbrev dktX1_mixLesson_3 : List UInt8 := dkwX1_mixLesson_3 ++ []
def dkwX1_mixLesson_2 : List UInt8 := [61, 28, 16, 13, 162, 0, 20, 42, 42, 27, 28, 182, 0, 219, 133, 182, 1, 34, 132, 2, 1, 167, 255, 236]
abbrev dktX1_mixLesson_2 : List UInt8 := dkwX1_mixLesson_2 ++ dktX1_mixLesson_3
def dkwX1_mixLesson_1 : List UInt8 := [42, 42, 27, 3, 182, 0, 219, 133, 182, 1, 34, 42, 42, 27, 4, 182, 0, 219, 133, 182, 1, 34, 16, 10]
abbrev dktX1_mixLesson_1 : List UInt8 := dkwX1_mixLesson_1 ++ dktX1_mixLesson_2
def dkwX1_mixLesson_0 : List UInt8 := [3, 61, 28, 6, 162, 0, 20, 42, 42, 27, 28, 182, 0, 132, 133, 182, 1, 34, 132, 2, 1, 167, 255, 237]
abbrev dktX1_mixLesson_0 : List UInt8 := dkwX1_mixLesson_0 ++ dktX1_mixLesson_1
theorem dksX1_mixLesson_0 : cX1_mixLesson.data.toList.drop 0 = dktX1_mixLesson_0 := by decide +kernel
theorem dksX1_mixLesson_1 : cX1_mixLesson.data.toList.drop 24 = dktX1_mixLesson_1 := dk_seg dksX1_mixLesson_0 24 rfl rfl
theorem dksX1_mixLesson_2 : cX1_mixLesson.data.toList.drop 48 = dktX1_mixLesson_2 := dk_seg dksX1_mixLesson_1 24 rfl rfl
theorem dksX1_mixLesson_3 : cX1_mixLesson.data.toList.drop 72 = dktX1_mixLesson_3 := dk_seg dksX1_mixLesson_2 24 rfl rfl
theorem dX1_mixLesson_0 : decode cX1_mixLesson 0 = .ok (.iconst 0, 1) := dk_3 (dk_at dksX1_mixLesson_0 0 rfl rfl)
theorem dX1_mixLesson_1 : decode cX1_mixLesson 1 = .ok (.istore_n 2, 1) := dk_61 (dk_at dksX1_mixLesson_0 1 rfl rfl)
theorem dX1_mixLesson_2 : decode cX1_mixLesson 2 = .ok (.iload_n 2, 1) := dk_28 (dk_at dksX1_mixLesson_0 2 rfl rfl)
theorem dX1_mixLesson_3 : decode cX1_mixLesson 3 = .ok (.iconst 3, 1) := dk_6 (dk_at dksX1_mixLesson_0 3 rfl rfl)
theorem dX1_mixLesson_4 : decode cX1_mixLesson 4 = .ok (.if_icmp .ge 20, 3) := dk_162 0 20 (dk_at dksX1_mixLesson_0 4 rfl rfl)
theorem dX1_mixLesson_7 : decode cX1_mixLesson 7 = .ok (.aload_n 0, 1) := dk_42 (dk_at dksX1_mixLesson_0 7 rfl rfl)
theorem dX1_mixLesson_8 : decode cX1_mixLesson 8 = .ok (.aload_n 0, 1) := dk_42 (dk_at dksX1_mixLesson_0 8 rfl rfl)
theorem dX1_mixLesson_9 : decode cX1_mixLesson 9 = .ok (.iload_n 1, 1) := dk_27 (dk_at dksX1_mixLesson_0 9 rfl rfl)
theorem dX1_mixLesson_10 : decode cX1_mixLesson 10 = .ok (.iload_n 2, 1) := dk_28 (dk_at dksX1_mixLesson_0 10 rfl rfl)
theorem dX1_mixLesson_11 : decode cX1_mixLesson 11 = .ok (.invokevirtual 132, 3) := dk_182 0 132 (dk_at dksX1_mixLesson_0 11 rfl rfl)
theorem dX1_mixLesson_14 : decode cX1_mixLesson 14 = .ok (.i2l, 1) := dk_133 (dk_at dksX1_mixLesson_0 14 rfl rfl)
theorem dX1_mixLesson_15 : decode cX1_mixLesson 15 = .ok (.invokevirtual 290, 3) := dk_182 1 34 (dk_at dksX1_mixLesson_0 15 rfl rfl)
theorem dX1_mixLesson_18 : decode cX1_mixLesson 18 = .ok (.iinc 2 1, 3) := dk_132 2 1 (dk_at dksX1_mixLesson_0 18 rfl rfl)
theorem dX1_mixLesson_21 : decode cX1_mixLesson 21 = .ok (.goto (-19), 3) := dk_167 255 237 (dk_at dksX1_mixLesson_0 21 rfl rfl)
theorem dX1_mixLesson_24 : decode cX1_mixLesson 24 = .ok (.aload_n 0, 1) := dk_42 (dk_at dksX1_mixLesson_1 0 rfl rfl)
theorem dX1_mixLesson_25 : decode cX1_mixLesson 25 = .ok (.aload_n 0, 1) := dk_42 (dk_at dksX1_mixLesson_1 1 rfl rfl)
theorem dX1_mixLesson_26 : decode cX1_mixLesson 26 = .ok (.iload_n 1, 1) := dk_27 (dk_at dksX1_mixLesson_1 2 rfl rfl)
theorem dX1_mixLesson_27 : decode cX1_mixLesson 27 = .ok (.iconst 0, 1) := dk_3 (dk_at dksX1_mixLesson_1 3 rfl rfl)
theorem dX1_mixLesson_28 : decode cX1_mixLesson 28 = .ok (.invokevirtual 219, 3) := dk_182 0 219 (dk_at dksX1_mixLesson_1 4 rfl rfl)
theorem dX1_mixLesson_31 : decode cX1_mixLesson 31 = .ok (.i2l, 1) := dk_133 (dk_at dksX1_mixLesson_1 7 rfl rfl)
theorem dX1_mixLesson_32 : decode cX1_mixLesson 32 = .ok (.invokevirtual 290, 3) := dk_182 1 34 (dk_at dksX1_mixLesson_1 8 rfl rfl)
theorem dX1_mixLesson_35 : decode cX1_mixLesson 35 = .ok (.aload_n 0, 1) := dk_42 (dk_at dksX1_mixLesson_1 11 rfl rfl)
theorem dX1_mixLesson_36 : decode cX1_mixLesson 36 = .ok (.aload_n 0, 1) := dk_42 (dk_at dksX1_mixLesson_1 12 rfl rfl)
theorem dX1_mixLesson_37 : decode cX1_mixLesson 37 = .ok (.iload_n 1, 1) := dk_27 (dk_at dksX1_mixLesson_1 13 rfl rfl)
theorem dX1_mixLesson_38 : decode cX1_mixLesson 38 = .ok (.iconst 1, 1) := dk_4 (dk_at dksX1_mixLesson_1 14 rfl rfl)
theorem dX1_mixLesson_39 : decode cX1_mixLesson 39 = .ok (.invokevirtual 219, 3) := dk_182 0 219 (dk_at dksX1_mixLesson_1 15 rfl rfl)
theorem dX1_mixLesson_42 : decode cX1_mixLesson 42 = .ok (.i2l, 1) := dk_133 (dk_at dksX1_mixLesson_1 18 rfl rfl)
theorem dX1_mixLesson_43 : decode cX1_mixLesson 43 = .ok (.invokevirtual 290, 3) := dk_182 1 34 (dk_at dksX1_mixLesson_1 19 rfl rfl)
theorem dX1_mixLesson_46 : decode cX1_mixLesson 46 = .ok (.bipush 10, 2) := dk_16 10 (dk_at dksX1_mixLesson_1 22 rfl rfl)
theorem dX1_mixLesson_48 : decode cX1_mixLesson 48 = .ok (.istore_n 2, 1) := dk_61 (dk_at dksX1_mixLesson_2 0 rfl rfl)
theorem dX1_mixLesson_49 : decode cX1_mixLesson 49 = .ok (.iload_n 2, 1) := dk_28 (dk_at dksX1_mixLesson_2 1 rfl rfl)
theorem dX1_mixLesson_50 : decode cX1_mixLesson 50 = .ok (.bipush 13, 2) := dk_16 13 (dk_at dksX1_mixLesson_2 2 rfl rfl)
theorem dX1_mixLesson_52 : decode cX1_mixLesson 52 = .ok (.if_icmp .ge 20, 3) := dk_162 0 20 (dk_at dksX1_mixLesson_2 4 rfl rfl)
theorem dX1_mixLesson_55 : decode cX1_mixLesson 55 = .ok (.aload_n 0, 1) := dk_42 (dk_at dksX1_mixLesson_2 7 rfl rfl)
theorem dX1_mixLesson_56 : decode cX1_mixLesson 56 = .ok (.aload_n 0, 1) := dk_42 (dk_at dksX1_mixLesson_2 8 rfl rfl)
theorem dX1_mixLesson_57 : decode cX1_mixLesson 57 = .ok (.iload_n 1, 1) := dk_27 (dk_at dksX1_mixLesson_2 9 rfl rfl)
theorem dX1_mixLesson_58 : decode cX1_mixLesson 58 = .ok (.iload_n 2, 1) := dk_28 (dk_at dksX1_mixLesson_2 10 rfl rfl)
theorem dX1_mixLesson_59 : decode cX1_mixLesson 59 = .ok (.invokevirtual 219, 3) := dk_182 0 219 (dk_at dksX1_mixLesson_2 11 rfl rfl)
theorem dX1_mixLesson_62 : decode cX1_mixLesson 62 = .ok (.i2l, 1) := dk_133 (dk_at dksX1_mixLesson_2 14 rfl rfl)
theorem dX1_mixLesson_63 : decode cX1_mixLesson 63 = .ok (.invokevirtual 290, 3) := dk_182 1 34 (dk_at dksX1_mixLesson_2 15 rfl rfl)
theorem dX1_mixLesson_66 : decode cX1_mixLesson 66 = .ok (.iinc 2 1, 3) := dk_132 2 1 (dk_at dksX1_mixLesson_2 18 rfl rfl)
theorem dX1_mixLesson_69 : decode cX1_mixLesson 69 = .ok (.goto (-20), 3) := dk_167 255 236 (dk_at dksX1_mixLesson_2 21 rfl rfl)
theorem dX1_mixLesson_72 : decode cX1_mixLesson 72 = .ok (.return_, 1) := dk_177 (dk_at dksX1_mixLesson_3 0 rfl rfl)
abbrev cX1_mixPrince : ByteArray := prog_9_method_69_code
def yX1_mixPrince : MethodName := ⟨RX1, "mixPrince", "(I)V"⟩
def dkwX1_mixPrince_3 : List UInt8 := [182, 1, 34, 177]
abbrev dktX1_mixPrince_3 : List UInt8 := dkwX1_mixPrince_3 ++ []
def dkwX1_mixPrince_2 : List UInt8 := [42, 27, 28, 182, 0, 155, 133, 182, 1, 34, 132, 2, 1, 167, 255, 234, 42, 42, 27, 182, 0, 231, 133]
abbrev dktX1_mixPrince_2 : List UInt8 := dkwX1_mixPrince_2 ++ dktX1_mixPrince_3
def dkwX1_mixPrince_1 : List UInt8 := [182, 0, 152, 133, 182, 1, 34, 132, 2, 1, 167, 255, 225, 3, 61, 28, 42, 180, 0, 107, 162, 0, 20, 42]
abbrev dktX1_mixPrince_1 : List UInt8 := dkwX1_mixPrince_1 ++ dktX1_mixPrince_2
def dkwX1_mixPrince_0 : List UInt8 := [3, 61, 28, 16, 13, 162, 0, 31, 28, 8, 161, 0, 9, 28, 16, 9, 164, 0, 14, 42, 42, 27, 28]
abbrev dktX1_mixPrince_0 : List UInt8 := dkwX1_mixPrince_0 ++ dktX1_mixPrince_1
theorem dksX1_mixPrince_0 : cX1_mixPrince.data.toList.drop 0 = dktX1_mixPrince_0 := by decide +kernel
theorem dksX1_mixPrince_1 : cX1_mixPrince.data.toList.drop 23 = dktX1_mixPrince_1 := dk_seg dksX1_mixPrince_0 23 rfl rfl
theorem dksX1_mixPrince_2 : cX1_mixPrince.data.toList.drop 47 = dktX1_mixPrince_2 := dk_seg dksX1_mixPrince_1 24 rfl rfl
theorem dksX1_mixPrince_3 : cX1_mixPrince.data.toList.drop 70 = dktX1_mixPrince_3 := dk_seg dksX1_mixPrince_2 23 rfl rfl
theorem dX1_mixPrince_0 : decode cX1_mixPrince 0 = .ok (.iconst 0, 1) := dk_3 (dk_at dksX1_mixPrince_0 0 rfl rfl)
theorem dX1_mixPrince_1 : decode cX1_mixPrince 1 = .ok (.istore_n 2, 1) := dk_61 (dk_at dksX1_mixPrince_0 1 rfl rfl)
theorem dX1_mixPrince_2 : decode cX1_mixPrince 2 = .ok (.iload_n 2, 1) := dk_28 (dk_at dksX1_mixPrince_0 2 rfl rfl)
theorem dX1_mixPrince_3 : decode cX1_mixPrince 3 = .ok (.bipush 13, 2) := dk_16 13 (dk_at dksX1_mixPrince_0 3 rfl rfl)
theorem dX1_mixPrince_5 : decode cX1_mixPrince 5 = .ok (.if_icmp .ge 31, 3) := dk_162 0 31 (dk_at dksX1_mixPrince_0 5 rfl rfl)
theorem dX1_mixPrince_8 : decode cX1_mixPrince 8 = .ok (.iload_n 2, 1) := dk_28 (dk_at dksX1_mixPrince_0 8 rfl rfl)
theorem dX1_mixPrince_9 : decode cX1_mixPrince 9 = .ok (.iconst 5, 1) := dk_8 (dk_at dksX1_mixPrince_0 9 rfl rfl)
theorem dX1_mixPrince_10 : decode cX1_mixPrince 10 = .ok (.if_icmp .lt 9, 3) := dk_161 0 9 (dk_at dksX1_mixPrince_0 10 rfl rfl)
theorem dX1_mixPrince_13 : decode cX1_mixPrince 13 = .ok (.iload_n 2, 1) := dk_28 (dk_at dksX1_mixPrince_0 13 rfl rfl)
theorem dX1_mixPrince_14 : decode cX1_mixPrince 14 = .ok (.bipush 9, 2) := dk_16 9 (dk_at dksX1_mixPrince_0 14 rfl rfl)
theorem dX1_mixPrince_16 : decode cX1_mixPrince 16 = .ok (.if_icmp .le 14, 3) := dk_164 0 14 (dk_at dksX1_mixPrince_0 16 rfl rfl)
theorem dX1_mixPrince_19 : decode cX1_mixPrince 19 = .ok (.aload_n 0, 1) := dk_42 (dk_at dksX1_mixPrince_0 19 rfl rfl)
theorem dX1_mixPrince_20 : decode cX1_mixPrince 20 = .ok (.aload_n 0, 1) := dk_42 (dk_at dksX1_mixPrince_0 20 rfl rfl)
theorem dX1_mixPrince_21 : decode cX1_mixPrince 21 = .ok (.iload_n 1, 1) := dk_27 (dk_at dksX1_mixPrince_0 21 rfl rfl)
theorem dX1_mixPrince_22 : decode cX1_mixPrince 22 = .ok (.iload_n 2, 1) := dk_28 (dk_at dksX1_mixPrince_0 22 rfl rfl)
theorem dX1_mixPrince_23 : decode cX1_mixPrince 23 = .ok (.invokevirtual 152, 3) := dk_182 0 152 (dk_at dksX1_mixPrince_1 0 rfl rfl)
theorem dX1_mixPrince_26 : decode cX1_mixPrince 26 = .ok (.i2l, 1) := dk_133 (dk_at dksX1_mixPrince_1 3 rfl rfl)
theorem dX1_mixPrince_27 : decode cX1_mixPrince 27 = .ok (.invokevirtual 290, 3) := dk_182 1 34 (dk_at dksX1_mixPrince_1 4 rfl rfl)
theorem dX1_mixPrince_30 : decode cX1_mixPrince 30 = .ok (.iinc 2 1, 3) := dk_132 2 1 (dk_at dksX1_mixPrince_1 7 rfl rfl)
theorem dX1_mixPrince_33 : decode cX1_mixPrince 33 = .ok (.goto (-31), 3) := dk_167 255 225 (dk_at dksX1_mixPrince_1 10 rfl rfl)
theorem dX1_mixPrince_36 : decode cX1_mixPrince 36 = .ok (.iconst 0, 1) := dk_3 (dk_at dksX1_mixPrince_1 13 rfl rfl)
theorem dX1_mixPrince_37 : decode cX1_mixPrince 37 = .ok (.istore_n 2, 1) := dk_61 (dk_at dksX1_mixPrince_1 14 rfl rfl)
theorem dX1_mixPrince_38 : decode cX1_mixPrince 38 = .ok (.iload_n 2, 1) := dk_28 (dk_at dksX1_mixPrince_1 15 rfl rfl)
theorem dX1_mixPrince_39 : decode cX1_mixPrince 39 = .ok (.aload_n 0, 1) := dk_42 (dk_at dksX1_mixPrince_1 16 rfl rfl)
theorem dX1_mixPrince_40 : decode cX1_mixPrince 40 = .ok (.getfield 107, 3) := dk_180 0 107 (dk_at dksX1_mixPrince_1 17 rfl rfl)
theorem dX1_mixPrince_43 : decode cX1_mixPrince 43 = .ok (.if_icmp .ge 20, 3) := dk_162 0 20 (dk_at dksX1_mixPrince_1 20 rfl rfl)
theorem dX1_mixPrince_46 : decode cX1_mixPrince 46 = .ok (.aload_n 0, 1) := dk_42 (dk_at dksX1_mixPrince_1 23 rfl rfl)
theorem dX1_mixPrince_47 : decode cX1_mixPrince 47 = .ok (.aload_n 0, 1) := dk_42 (dk_at dksX1_mixPrince_2 0 rfl rfl)
theorem dX1_mixPrince_48 : decode cX1_mixPrince 48 = .ok (.iload_n 1, 1) := dk_27 (dk_at dksX1_mixPrince_2 1 rfl rfl)
theorem dX1_mixPrince_49 : decode cX1_mixPrince 49 = .ok (.iload_n 2, 1) := dk_28 (dk_at dksX1_mixPrince_2 2 rfl rfl)
theorem dX1_mixPrince_50 : decode cX1_mixPrince 50 = .ok (.invokevirtual 155, 3) := dk_182 0 155 (dk_at dksX1_mixPrince_2 3 rfl rfl)
theorem dX1_mixPrince_53 : decode cX1_mixPrince 53 = .ok (.i2l, 1) := dk_133 (dk_at dksX1_mixPrince_2 6 rfl rfl)
theorem dX1_mixPrince_54 : decode cX1_mixPrince 54 = .ok (.invokevirtual 290, 3) := dk_182 1 34 (dk_at dksX1_mixPrince_2 7 rfl rfl)
theorem dX1_mixPrince_57 : decode cX1_mixPrince 57 = .ok (.iinc 2 1, 3) := dk_132 2 1 (dk_at dksX1_mixPrince_2 10 rfl rfl)
theorem dX1_mixPrince_60 : decode cX1_mixPrince 60 = .ok (.goto (-22), 3) := dk_167 255 234 (dk_at dksX1_mixPrince_2 13 rfl rfl)
theorem dX1_mixPrince_63 : decode cX1_mixPrince 63 = .ok (.aload_n 0, 1) := dk_42 (dk_at dksX1_mixPrince_2 16 rfl rfl)
theorem dX1_mixPrince_64 : decode cX1_mixPrince 64 = .ok (.aload_n 0, 1) := dk_42 (dk_at dksX1_mixPrince_2 17 rfl rfl)
theorem dX1_mixPrince_65 : decode cX1_mixPrince 65 = .ok (.iload_n 1, 1) := dk_27 (dk_at dksX1_mixPrince_2 18 rfl rfl)
theorem dX1_mixPrince_66 : decode cX1_mixPrince 66 = .ok (.invokevirtual 231, 3) := dk_182 0 231 (dk_at dksX1_mixPrince_2 19 rfl rfl)
theorem dX1_mixPrince_69 : decode cX1_mixPrince 69 = .ok (.i2l, 1) := dk_133 (dk_at dksX1_mixPrince_2 22 rfl rfl)
theorem dX1_mixPrince_70 : decode cX1_mixPrince 70 = .ok (.invokevirtual 290, 3) := dk_182 1 34 (dk_at dksX1_mixPrince_3 0 rfl rfl)
theorem dX1_mixPrince_73 : decode cX1_mixPrince 73 = .ok (.return_, 1) := dk_177 (dk_at dksX1_mixPrince_3 3 rfl rfl)
theorem q73 : (Jvm.Cond.initialized "BeatenInsteadModel") ∈ lw_all := lw_g (lw_at lw_m1 2 rfl) rfl
theorem q696 : (Jvm.Cond.instantiable "BeatenInsteadModel" (40 : Nat)) ∈ lw_all := lw_g (lw_at lw_m3 145 rfl) rfl
theorem q698 : (Jvm.Cond.instanceMethod ({ cls := "BeatenInsteadModel", name := "<init>", desc := "()V" } : Jvm.MethodName)) ∈ lw_all := lw_g (lw_at lw_m3 147 rfl) rfl
theorem q699 : (Jvm.Cond.code ({ cls := "BeatenInsteadModel", name := "<init>", desc := "()V" } : Jvm.MethodName) prog_9_method_1_code (1 : Nat) (Option.none : Option Jvm.ClassFile.FieldType)) ∈ lw_all := lw_g (lw_at lw_m3 148 rfl) rfl
theorem q700 : (Jvm.Cond.methodLink "BeatenInsteadModel" (1 : Nat) ({ cls := "java/lang/Object", name := "<init>", desc := "()V" } : Jvm.MethodName)) ∈ lw_all := lw_g (lw_at lw_m3 149 rfl) rfl
theorem q701 : (Jvm.Cond.fieldLink "BeatenInsteadModel" (113 : Nat) "BeatenInsteadModel" "schools" "I") ∈ lw_all := lw_g (lw_at lw_m3 150 rfl) rfl
theorem q702 : (Jvm.Cond.fieldLink "BeatenInsteadModel" (107 : Nat) "BeatenInsteadModel" "lessons" "I") ∈ lw_all := lw_g (lw_at lw_m3 151 rfl) rfl
theorem q703 : (Jvm.Cond.fieldLink "BeatenInsteadModel" (110 : Nat) "BeatenInsteadModel" "limit" "I") ∈ lw_all := lw_g (lw_at lw_m3 152 rfl) rfl
theorem q704 : (Jvm.Cond.fieldLink "BeatenInsteadModel" (7 : Nat) "BeatenInsteadModel" "hardOf" "[I") ∈ lw_all := lw_g (lw_at lw_m3 153 rfl) rfl
theorem q705 : (Jvm.Cond.fieldLink "BeatenInsteadModel" (13 : Nat) "BeatenInsteadModel" "blowsOf" "[I") ∈ lw_all := lw_g (lw_at lw_m3 154 rfl) rfl
theorem q706 : (Jvm.Cond.fieldLink "BeatenInsteadModel" (16 : Nat) "BeatenInsteadModel" "stripesOf" "[I") ∈ lw_all := lw_g (lw_at lw_m3 155 rfl) rfl
theorem q707 : (Jvm.Cond.fieldLink "BeatenInsteadModel" (116 : Nat) "BeatenInsteadModel" "princes" "I") ∈ lw_all := lw_g (lw_at lw_m3 156 rfl) rfl
theorem q708 : (Jvm.Cond.fieldLink "BeatenInsteadModel" (19 : Nat) "BeatenInsteadModel" "kindOf" "[I") ∈ lw_all := lw_g (lw_at lw_m3 157 rfl) rfl
theorem q709 : (Jvm.Cond.fieldLink "BeatenInsteadModel" (22 : Nat) "BeatenInsteadModel" "witOf" "[I") ∈ lw_all := lw_g (lw_at lw_m3 158 rfl) rfl
theorem q710 : (Jvm.Cond.fieldLink "BeatenInsteadModel" (25 : Nat) "BeatenInsteadModel" "boyOf" "[I") ∈ lw_all := lw_g (lw_at lw_m3 159 rfl) rfl
theorem q711 : (Jvm.Cond.fieldLink "BeatenInsteadModel" (28 : Nat) "BeatenInsteadModel" "learntOf" "[I") ∈ lw_all := lw_g (lw_at lw_m3 160 rfl) rfl
theorem q712 : (Jvm.Cond.fieldLink "BeatenInsteadModel" (31 : Nat) "BeatenInsteadModel" "fondOf" "[I") ∈ lw_all := lw_g (lw_at lw_m3 161 rfl) rfl
theorem q713 : (Jvm.Cond.fieldLink "BeatenInsteadModel" (119 : Nat) "BeatenInsteadModel" "heard" "I") ∈ lw_all := lw_g (lw_at lw_m3 162 rfl) rfl
theorem q714 : (Jvm.Cond.fieldLink "BeatenInsteadModel" (34 : Nat) "BeatenInsteadModel" "heardPrince" "[I") ∈ lw_all := lw_g (lw_at lw_m3 163 rfl) rfl
theorem q715 : (Jvm.Cond.fieldLink "BeatenInsteadModel" (37 : Nat) "BeatenInsteadModel" "heardLesson" "[I") ∈ lw_all := lw_g (lw_at lw_m3 164 rfl) rfl
theorem q716 : (Jvm.Cond.fieldLink "BeatenInsteadModel" (40 : Nat) "BeatenInsteadModel" "heardLearnt" "[I") ∈ lw_all := lw_g (lw_at lw_m3 165 rfl) rfl
theorem q717 : (Jvm.Cond.fieldLink "BeatenInsteadModel" (204 : Nat) "BeatenInsteadModel" "asks" "I") ∈ lw_all := lw_g (lw_at lw_m3 166 rfl) rfl
theorem q718 : (Jvm.Cond.fieldLink "BeatenInsteadModel" (81 : Nat) "BeatenInsteadModel" "pageLength" "I") ∈ lw_all := lw_g (lw_at lw_m3 167 rfl) rfl
theorem q719 : (Jvm.Cond.fieldLink "BeatenInsteadModel" (43 : Nat) "BeatenInsteadModel" "page" "[B") ∈ lw_all := lw_g (lw_at lw_m3 168 rfl) rfl
theorem q720 : (Jvm.Cond.fieldLink "BeatenInsteadModel" (85 : Nat) "BeatenInsteadModel" "isWhole" "Z") ∈ lw_all := lw_g (lw_at lw_m3 169 rfl) rfl
theorem q721 : (Jvm.Cond.fieldLink "BeatenInsteadModel" (89 : Nat) "BeatenInsteadModel" "newMany" "I") ∈ lw_all := lw_g (lw_at lw_m3 170 rfl) rfl
theorem q722 : (Jvm.Cond.fieldLink "BeatenInsteadModel" (165 : Nat) "BeatenInsteadModel" "savedStripes" "I") ∈ lw_all := lw_g (lw_at lw_m3 171 rfl) rfl
theorem q723 : (Jvm.Cond.fieldLink "BeatenInsteadModel" (168 : Nat) "BeatenInsteadModel" "savedFond" "I") ∈ lw_all := lw_g (lw_at lw_m3 172 rfl) rfl
theorem q724 : (Jvm.Cond.fieldLink "BeatenInsteadModel" (47 : Nat) "BeatenInsteadModel" "left" "[I") ∈ lw_all := lw_g (lw_at lw_m3 173 rfl) rfl
theorem q725 : (Jvm.Cond.fieldLink "BeatenInsteadModel" (162 : Nat) "BeatenInsteadModel" "leftMany" "I") ∈ lw_all := lw_g (lw_at lw_m3 174 rfl) rfl
theorem q726 : (Jvm.Cond.fieldLink "BeatenInsteadModel" (50 : Nat) "BeatenInsteadModel" "row" "[I") ∈ lw_all := lw_g (lw_at lw_m3 175 rfl) rfl
theorem q727 : (Jvm.Cond.fieldLink "BeatenInsteadModel" (236 : Nat) "BeatenInsteadModel" "seedNow" "J") ∈ lw_all := lw_g (lw_at lw_m3 176 rfl) rfl
theorem q728 : (Jvm.Cond.fieldLink "BeatenInsteadModel" (53 : Nat) "BeatenInsteadModel" "saved" "[I") ∈ lw_all := lw_g (lw_at lw_m3 177 rfl) rfl
theorem q729 : (Jvm.Cond.fieldLink "BeatenInsteadModel" (267 : Nat) "BeatenInsteadModel" "isKept" "Z") ∈ lw_all := lw_g (lw_at lw_m3 178 rfl) rfl
theorem q730 : (Jvm.Cond.fieldLink "BeatenInsteadModel" (270 : Nat) "BeatenInsteadModel" "keptSchool" "I") ∈ lw_all := lw_g (lw_at lw_m3 179 rfl) rfl
theorem q731 : (Jvm.Cond.fieldLink "BeatenInsteadModel" (273 : Nat) "BeatenInsteadModel" "keptPrinces" "I") ∈ lw_all := lw_g (lw_at lw_m3 180 rfl) rfl
theorem q732 : (Jvm.Cond.fieldLink "BeatenInsteadModel" (276 : Nat) "BeatenInsteadModel" "keptHeard" "I") ∈ lw_all := lw_g (lw_at lw_m3 181 rfl) rfl
theorem q733 : (Jvm.Cond.fieldLink "BeatenInsteadModel" (56 : Nat) "BeatenInsteadModel" "keptFond" "[I") ∈ lw_all := lw_g (lw_at lw_m3 182 rfl) rfl
theorem q734 : (Jvm.Cond.fieldLink "BeatenInsteadModel" (59 : Nat) "BeatenInsteadModel" "keptStripes" "[I") ∈ lw_all := lw_g (lw_at lw_m3 183 rfl) rfl
theorem q735 : (Jvm.Cond.fieldLink "BeatenInsteadModel" (62 : Nat) "BeatenInsteadModel" "keptLearnt" "[I") ∈ lw_all := lw_g (lw_at lw_m3 184 rfl) rfl
theorem q736 : (Jvm.Cond.fieldLink "BeatenInsteadModel" (65 : Nat) "BeatenInsteadModel" "keptBoy" "[I") ∈ lw_all := lw_g (lw_at lw_m3 185 rfl) rfl
theorem q737 : (Jvm.Cond.fieldLink "BeatenInsteadModel" (68 : Nat) "BeatenInsteadModel" "keptPrince" "[I") ∈ lw_all := lw_g (lw_at lw_m3 186 rfl) rfl
theorem q738 : (Jvm.Cond.fieldLink "BeatenInsteadModel" (71 : Nat) "BeatenInsteadModel" "keptLesson" "[I") ∈ lw_all := lw_g (lw_at lw_m3 187 rfl) rfl
theorem q739 : (Jvm.Cond.fieldLink "BeatenInsteadModel" (74 : Nat) "BeatenInsteadModel" "keptIs" "[I") ∈ lw_all := lw_g (lw_at lw_m3 188 rfl) rfl
theorem q740 : (Jvm.Cond.fieldLink "BeatenInsteadModel" (287 : Nat) "BeatenInsteadModel" "h" "J") ∈ lw_all := lw_g (lw_at lw_m3 189 rfl) rfl
theorem q741 : (Jvm.Cond.lays "BeatenInsteadModel" "BeatenInsteadModel" "schools" "I") ∈ lw_all := lw_g (lw_at lw_m3 190 rfl) rfl
theorem q742 : (Jvm.Cond.soleField "BeatenInsteadModel" "schools") ∈ lw_all := lw_g (lw_at lw_m3 191 rfl) rfl
theorem q743 : (Jvm.Cond.lays "BeatenInsteadModel" "BeatenInsteadModel" "lessons" "I") ∈ lw_all := lw_g (lw_at lw_m3 192 rfl) rfl
theorem q744 : (Jvm.Cond.soleField "BeatenInsteadModel" "lessons") ∈ lw_all := lw_g (lw_at lw_m3 193 rfl) rfl
theorem q745 : (Jvm.Cond.lays "BeatenInsteadModel" "BeatenInsteadModel" "limit" "I") ∈ lw_all := lw_g (lw_at lw_m3 194 rfl) rfl
theorem q746 : (Jvm.Cond.soleField "BeatenInsteadModel" "limit") ∈ lw_all := lw_g (lw_at lw_m3 195 rfl) rfl
theorem q747 : (Jvm.Cond.laysFinal "BeatenInsteadModel" "BeatenInsteadModel" "hardOf" "[I") ∈ lw_all := lw_g (lw_at lw_m3 196 rfl) rfl
theorem q748 : (Jvm.Cond.soleField "BeatenInsteadModel" "hardOf") ∈ lw_all := lw_g (lw_at lw_m3 197 rfl) rfl
theorem q749 : (Jvm.Cond.laysFinal "BeatenInsteadModel" "BeatenInsteadModel" "blowsOf" "[I") ∈ lw_all := lw_g (lw_at lw_m3 198 rfl) rfl
theorem q750 : (Jvm.Cond.soleField "BeatenInsteadModel" "blowsOf") ∈ lw_all := lw_g (lw_at lw_m3 199 rfl) rfl
theorem q751 : (Jvm.Cond.laysFinal "BeatenInsteadModel" "BeatenInsteadModel" "stripesOf" "[I") ∈ lw_all := lw_g (lw_at lw_m3 200 rfl) rfl
theorem q752 : (Jvm.Cond.soleField "BeatenInsteadModel" "stripesOf") ∈ lw_all := lw_g (lw_at lw_m3 201 rfl) rfl
theorem q753 : (Jvm.Cond.lays "BeatenInsteadModel" "BeatenInsteadModel" "princes" "I") ∈ lw_all := lw_g (lw_at lw_m3 202 rfl) rfl
theorem q754 : (Jvm.Cond.soleField "BeatenInsteadModel" "princes") ∈ lw_all := lw_g (lw_at lw_m3 203 rfl) rfl
theorem q755 : (Jvm.Cond.laysFinal "BeatenInsteadModel" "BeatenInsteadModel" "kindOf" "[I") ∈ lw_all := lw_g (lw_at lw_m3 204 rfl) rfl
theorem q756 : (Jvm.Cond.soleField "BeatenInsteadModel" "kindOf") ∈ lw_all := lw_g (lw_at lw_m3 205 rfl) rfl
theorem q757 : (Jvm.Cond.laysFinal "BeatenInsteadModel" "BeatenInsteadModel" "witOf" "[I") ∈ lw_all := lw_g (lw_at lw_m3 206 rfl) rfl
theorem q758 : (Jvm.Cond.soleField "BeatenInsteadModel" "witOf") ∈ lw_all := lw_g (lw_at lw_m3 207 rfl) rfl
theorem q759 : (Jvm.Cond.laysFinal "BeatenInsteadModel" "BeatenInsteadModel" "boyOf" "[I") ∈ lw_all := lw_g (lw_at lw_m3 208 rfl) rfl
theorem q760 : (Jvm.Cond.soleField "BeatenInsteadModel" "boyOf") ∈ lw_all := lw_g (lw_at lw_m3 209 rfl) rfl
theorem q761 : (Jvm.Cond.laysFinal "BeatenInsteadModel" "BeatenInsteadModel" "learntOf" "[I") ∈ lw_all := lw_g (lw_at lw_m3 210 rfl) rfl
theorem q762 : (Jvm.Cond.soleField "BeatenInsteadModel" "learntOf") ∈ lw_all := lw_g (lw_at lw_m3 211 rfl) rfl
theorem q763 : (Jvm.Cond.laysFinal "BeatenInsteadModel" "BeatenInsteadModel" "fondOf" "[I") ∈ lw_all := lw_g (lw_at lw_m3 212 rfl) rfl
theorem q764 : (Jvm.Cond.soleField "BeatenInsteadModel" "fondOf") ∈ lw_all := lw_g (lw_at lw_m3 213 rfl) rfl
theorem q765 : (Jvm.Cond.lays "BeatenInsteadModel" "BeatenInsteadModel" "heard" "I") ∈ lw_all := lw_g (lw_at lw_m3 214 rfl) rfl
theorem q766 : (Jvm.Cond.soleField "BeatenInsteadModel" "heard") ∈ lw_all := lw_g (lw_at lw_m3 215 rfl) rfl
theorem q767 : (Jvm.Cond.laysFinal "BeatenInsteadModel" "BeatenInsteadModel" "heardPrince" "[I") ∈ lw_all := lw_g (lw_at lw_m3 216 rfl) rfl
theorem q768 : (Jvm.Cond.soleField "BeatenInsteadModel" "heardPrince") ∈ lw_all := lw_g (lw_at lw_m3 217 rfl) rfl
theorem q769 : (Jvm.Cond.laysFinal "BeatenInsteadModel" "BeatenInsteadModel" "heardLesson" "[I") ∈ lw_all := lw_g (lw_at lw_m3 218 rfl) rfl
theorem q770 : (Jvm.Cond.soleField "BeatenInsteadModel" "heardLesson") ∈ lw_all := lw_g (lw_at lw_m3 219 rfl) rfl
theorem q771 : (Jvm.Cond.laysFinal "BeatenInsteadModel" "BeatenInsteadModel" "heardLearnt" "[I") ∈ lw_all := lw_g (lw_at lw_m3 220 rfl) rfl
theorem q772 : (Jvm.Cond.soleField "BeatenInsteadModel" "heardLearnt") ∈ lw_all := lw_g (lw_at lw_m3 221 rfl) rfl
theorem q773 : (Jvm.Cond.lays "BeatenInsteadModel" "BeatenInsteadModel" "asks" "I") ∈ lw_all := lw_g (lw_at lw_m3 222 rfl) rfl
theorem q774 : (Jvm.Cond.soleField "BeatenInsteadModel" "asks") ∈ lw_all := lw_g (lw_at lw_m3 223 rfl) rfl
theorem q775 : (Jvm.Cond.lays "BeatenInsteadModel" "BeatenInsteadModel" "pageLength" "I") ∈ lw_all := lw_g (lw_at lw_m3 224 rfl) rfl
theorem q776 : (Jvm.Cond.soleField "BeatenInsteadModel" "pageLength") ∈ lw_all := lw_g (lw_at lw_m3 225 rfl) rfl
theorem q777 : (Jvm.Cond.laysFinal "BeatenInsteadModel" "BeatenInsteadModel" "page" "[B") ∈ lw_all := lw_g (lw_at lw_m3 226 rfl) rfl
theorem q778 : (Jvm.Cond.soleField "BeatenInsteadModel" "page") ∈ lw_all := lw_g (lw_at lw_m3 227 rfl) rfl
theorem q779 : (Jvm.Cond.lays "BeatenInsteadModel" "BeatenInsteadModel" "isWhole" "Z") ∈ lw_all := lw_g (lw_at lw_m3 228 rfl) rfl
theorem q780 : (Jvm.Cond.soleField "BeatenInsteadModel" "isWhole") ∈ lw_all := lw_g (lw_at lw_m3 229 rfl) rfl
theorem q781 : (Jvm.Cond.lays "BeatenInsteadModel" "BeatenInsteadModel" "newMany" "I") ∈ lw_all := lw_g (lw_at lw_m3 230 rfl) rfl
theorem q782 : (Jvm.Cond.soleField "BeatenInsteadModel" "newMany") ∈ lw_all := lw_g (lw_at lw_m3 231 rfl) rfl
theorem q783 : (Jvm.Cond.lays "BeatenInsteadModel" "BeatenInsteadModel" "savedStripes" "I") ∈ lw_all := lw_g (lw_at lw_m3 232 rfl) rfl
theorem q784 : (Jvm.Cond.soleField "BeatenInsteadModel" "savedStripes") ∈ lw_all := lw_g (lw_at lw_m3 233 rfl) rfl
theorem q785 : (Jvm.Cond.lays "BeatenInsteadModel" "BeatenInsteadModel" "savedFond" "I") ∈ lw_all := lw_g (lw_at lw_m3 234 rfl) rfl
theorem q786 : (Jvm.Cond.soleField "BeatenInsteadModel" "savedFond") ∈ lw_all := lw_g (lw_at lw_m3 235 rfl) rfl
theorem q787 : (Jvm.Cond.laysFinal "BeatenInsteadModel" "BeatenInsteadModel" "left" "[I") ∈ lw_all := lw_g (lw_at lw_m3 236 rfl) rfl
theorem q788 : (Jvm.Cond.soleField "BeatenInsteadModel" "left") ∈ lw_all := lw_g (lw_at lw_m3 237 rfl) rfl
theorem q789 : (Jvm.Cond.lays "BeatenInsteadModel" "BeatenInsteadModel" "leftMany" "I") ∈ lw_all := lw_g (lw_at lw_m3 238 rfl) rfl
theorem q790 : (Jvm.Cond.soleField "BeatenInsteadModel" "leftMany") ∈ lw_all := lw_g (lw_at lw_m3 239 rfl) rfl
theorem q791 : (Jvm.Cond.laysFinal "BeatenInsteadModel" "BeatenInsteadModel" "row" "[I") ∈ lw_all := lw_g (lw_at lw_m4 0 rfl) rfl
theorem q792 : (Jvm.Cond.soleField "BeatenInsteadModel" "row") ∈ lw_all := lw_g (lw_at lw_m4 1 rfl) rfl
theorem q793 : (Jvm.Cond.lays "BeatenInsteadModel" "BeatenInsteadModel" "seedNow" "J") ∈ lw_all := lw_g (lw_at lw_m4 2 rfl) rfl
theorem q794 : (Jvm.Cond.soleField "BeatenInsteadModel" "seedNow") ∈ lw_all := lw_g (lw_at lw_m4 3 rfl) rfl
theorem q795 : (Jvm.Cond.laysFinal "BeatenInsteadModel" "BeatenInsteadModel" "saved" "[I") ∈ lw_all := lw_g (lw_at lw_m4 4 rfl) rfl
theorem q796 : (Jvm.Cond.soleField "BeatenInsteadModel" "saved") ∈ lw_all := lw_g (lw_at lw_m4 5 rfl) rfl
theorem q797 : (Jvm.Cond.lays "BeatenInsteadModel" "BeatenInsteadModel" "isKept" "Z") ∈ lw_all := lw_g (lw_at lw_m4 6 rfl) rfl
theorem q798 : (Jvm.Cond.soleField "BeatenInsteadModel" "isKept") ∈ lw_all := lw_g (lw_at lw_m4 7 rfl) rfl
theorem q799 : (Jvm.Cond.lays "BeatenInsteadModel" "BeatenInsteadModel" "keptSchool" "I") ∈ lw_all := lw_g (lw_at lw_m4 8 rfl) rfl
theorem q800 : (Jvm.Cond.soleField "BeatenInsteadModel" "keptSchool") ∈ lw_all := lw_g (lw_at lw_m4 9 rfl) rfl
theorem q801 : (Jvm.Cond.lays "BeatenInsteadModel" "BeatenInsteadModel" "keptPrinces" "I") ∈ lw_all := lw_g (lw_at lw_m4 10 rfl) rfl
theorem q802 : (Jvm.Cond.soleField "BeatenInsteadModel" "keptPrinces") ∈ lw_all := lw_g (lw_at lw_m4 11 rfl) rfl
theorem q803 : (Jvm.Cond.lays "BeatenInsteadModel" "BeatenInsteadModel" "keptHeard" "I") ∈ lw_all := lw_g (lw_at lw_m4 12 rfl) rfl
theorem q804 : (Jvm.Cond.soleField "BeatenInsteadModel" "keptHeard") ∈ lw_all := lw_g (lw_at lw_m4 13 rfl) rfl
theorem q805 : (Jvm.Cond.laysFinal "BeatenInsteadModel" "BeatenInsteadModel" "keptFond" "[I") ∈ lw_all := lw_g (lw_at lw_m4 14 rfl) rfl
theorem q806 : (Jvm.Cond.soleField "BeatenInsteadModel" "keptFond") ∈ lw_all := lw_g (lw_at lw_m4 15 rfl) rfl
theorem q807 : (Jvm.Cond.laysFinal "BeatenInsteadModel" "BeatenInsteadModel" "keptStripes" "[I") ∈ lw_all := lw_g (lw_at lw_m4 16 rfl) rfl
theorem q808 : (Jvm.Cond.soleField "BeatenInsteadModel" "keptStripes") ∈ lw_all := lw_g (lw_at lw_m4 17 rfl) rfl
theorem q809 : (Jvm.Cond.laysFinal "BeatenInsteadModel" "BeatenInsteadModel" "keptLearnt" "[I") ∈ lw_all := lw_g (lw_at lw_m4 18 rfl) rfl
theorem q810 : (Jvm.Cond.soleField "BeatenInsteadModel" "keptLearnt") ∈ lw_all := lw_g (lw_at lw_m4 19 rfl) rfl
theorem q811 : (Jvm.Cond.laysFinal "BeatenInsteadModel" "BeatenInsteadModel" "keptBoy" "[I") ∈ lw_all := lw_g (lw_at lw_m4 20 rfl) rfl
theorem q812 : (Jvm.Cond.soleField "BeatenInsteadModel" "keptBoy") ∈ lw_all := lw_g (lw_at lw_m4 21 rfl) rfl
theorem q813 : (Jvm.Cond.laysFinal "BeatenInsteadModel" "BeatenInsteadModel" "keptPrince" "[I") ∈ lw_all := lw_g (lw_at lw_m4 22 rfl) rfl
theorem q814 : (Jvm.Cond.soleField "BeatenInsteadModel" "keptPrince") ∈ lw_all := lw_g (lw_at lw_m4 23 rfl) rfl
theorem q815 : (Jvm.Cond.laysFinal "BeatenInsteadModel" "BeatenInsteadModel" "keptLesson" "[I") ∈ lw_all := lw_g (lw_at lw_m4 24 rfl) rfl
theorem q816 : (Jvm.Cond.soleField "BeatenInsteadModel" "keptLesson") ∈ lw_all := lw_g (lw_at lw_m4 25 rfl) rfl
theorem q817 : (Jvm.Cond.laysFinal "BeatenInsteadModel" "BeatenInsteadModel" "keptIs" "[I") ∈ lw_all := lw_g (lw_at lw_m4 26 rfl) rfl
theorem q818 : (Jvm.Cond.soleField "BeatenInsteadModel" "keptIs") ∈ lw_all := lw_g (lw_at lw_m4 27 rfl) rfl
theorem q819 : (Jvm.Cond.lays "BeatenInsteadModel" "BeatenInsteadModel" "h" "J") ∈ lw_all := lw_g (lw_at lw_m4 28 rfl) rfl
theorem q820 : (Jvm.Cond.soleField "BeatenInsteadModel" "h") ∈ lw_all := lw_g (lw_at lw_m4 29 rfl) rfl
theorem q821 : (Jvm.Cond.superclass "BeatenInsteadModel" "java/lang/Object") ∈ lw_all := lw_g (lw_at lw_m4 30 rfl) rfl
theorem q823 : (Jvm.Cond.instanceMethod ({ cls := "BeatenInsteadModel", name := "letter", desc := "(I)I" } : Jvm.MethodName)) ∈ lw_all := lw_g (lw_at lw_m4 32 rfl) rfl
theorem q824 : (Jvm.Cond.selects "BeatenInsteadModel" ({ cls := "BeatenInsteadModel", name := "letter", desc := "(I)I" } : Jvm.MethodName) ({ cls := "BeatenInsteadModel", name := "letter", desc := "(I)I" } : Jvm.MethodName)) ∈ lw_all := lw_g (lw_at lw_m4 33 rfl) rfl
theorem q825 : (Jvm.Cond.code ({ cls := "BeatenInsteadModel", name := "letter", desc := "(I)I" } : Jvm.MethodName) prog_9_method_7_code (2 : Nat) (Option.some Jvm.ClassFile.FieldType.int)) ∈ lw_all := lw_g (lw_at lw_m4 34 rfl) rfl
theorem q826 : (Jvm.Cond.methodLink "BeatenInsteadModel" (77 : Nat) ({ cls := "BeatenInsteadModel", name := "within", desc := "(III)Z" } : Jvm.MethodName)) ∈ lw_all := lw_g (lw_at lw_m4 35 rfl) rfl
theorem q827 : (Jvm.Cond.static ({ cls := "BeatenInsteadModel", name := "within", desc := "(III)Z" } : Jvm.MethodName)) ∈ lw_all := lw_g (lw_at lw_m4 36 rfl) rfl
theorem q828 : (Jvm.Cond.code ({ cls := "BeatenInsteadModel", name := "within", desc := "(III)Z" } : Jvm.MethodName) prog_9_method_3_code (3 : Nat) (Option.some Jvm.ClassFile.FieldType.boolean)) ∈ lw_all := lw_g (lw_at lw_m4 37 rfl) rfl
theorem q830 : (Jvm.Cond.instanceMethod ({ cls := "BeatenInsteadModel", name := "blank", desc := "()I" } : Jvm.MethodName)) ∈ lw_all := lw_g (lw_at lw_m4 39 rfl) rfl
theorem q831 : (Jvm.Cond.selects "BeatenInsteadModel" ({ cls := "BeatenInsteadModel", name := "blank", desc := "()I" } : Jvm.MethodName) ({ cls := "BeatenInsteadModel", name := "blank", desc := "()I" } : Jvm.MethodName)) ∈ lw_all := lw_g (lw_at lw_m4 40 rfl) rfl
theorem q832 : (Jvm.Cond.code ({ cls := "BeatenInsteadModel", name := "blank", desc := "()I" } : Jvm.MethodName) prog_9_method_8_code (2 : Nat) (Option.some Jvm.ClassFile.FieldType.int)) ∈ lw_all := lw_g (lw_at lw_m4 41 rfl) rfl
theorem q834 : (Jvm.Cond.instanceMethod ({ cls := "BeatenInsteadModel", name := "fault", desc := "()I" } : Jvm.MethodName)) ∈ lw_all := lw_g (lw_at lw_m4 43 rfl) rfl
theorem q835 : (Jvm.Cond.selects "BeatenInsteadModel" ({ cls := "BeatenInsteadModel", name := "fault", desc := "()I" } : Jvm.MethodName) ({ cls := "BeatenInsteadModel", name := "fault", desc := "()I" } : Jvm.MethodName)) ∈ lw_all := lw_g (lw_at lw_m4 44 rfl) rfl
theorem q836 : (Jvm.Cond.code ({ cls := "BeatenInsteadModel", name := "fault", desc := "()I" } : Jvm.MethodName) prog_9_method_13_code (1 : Nat) (Option.some Jvm.ClassFile.FieldType.int)) ∈ lw_all := lw_g (lw_at lw_m4 45 rfl) rfl
theorem q837 : (Jvm.Cond.methodLink "BeatenInsteadModel" (103 : Nat) ({ cls := "BeatenInsteadModel", name := "read", desc := "()I" } : Jvm.MethodName)) ∈ lw_all := lw_g (lw_at lw_m4 46 rfl) rfl
theorem q838 : (Jvm.Cond.privateMethod ({ cls := "BeatenInsteadModel", name := "read", desc := "()I" } : Jvm.MethodName)) ∈ lw_tbl := lw_at lw_m4 47 rfl
theorem q839 : (Jvm.Cond.instanceMethod ({ cls := "BeatenInsteadModel", name := "read", desc := "()I" } : Jvm.MethodName)) ∈ lw_all := lw_g (lw_at lw_m4 48 rfl) rfl
theorem q840 : (Jvm.Cond.code ({ cls := "BeatenInsteadModel", name := "read", desc := "()I" } : Jvm.MethodName) prog_9_method_11_code (2 : Nat) (Option.some Jvm.ClassFile.FieldType.int)) ∈ lw_all := lw_g (lw_at lw_m4 49 rfl) rfl
theorem q841 : (Jvm.Cond.methodLink "BeatenInsteadModel" (92 : Nat) ({ cls := "BeatenInsteadModel", name := "isFigure", desc := "(III)Z" } : Jvm.MethodName)) ∈ lw_all := lw_g (lw_at lw_m4 50 rfl) rfl
theorem q842 : (Jvm.Cond.privateMethod ({ cls := "BeatenInsteadModel", name := "isFigure", desc := "(III)Z" } : Jvm.MethodName)) ∈ lw_tbl := lw_at lw_m4 51 rfl
theorem q843 : (Jvm.Cond.instanceMethod ({ cls := "BeatenInsteadModel", name := "isFigure", desc := "(III)Z" } : Jvm.MethodName)) ∈ lw_all := lw_g (lw_at lw_m4 52 rfl) rfl
theorem q844 : (Jvm.Cond.code ({ cls := "BeatenInsteadModel", name := "isFigure", desc := "(III)Z" } : Jvm.MethodName) prog_9_method_9_code (4 : Nat) (Option.some Jvm.ClassFile.FieldType.boolean)) ∈ lw_all := lw_g (lw_at lw_m4 53 rfl) rfl
theorem q845 : (Jvm.Cond.methodLink "BeatenInsteadModel" (95 : Nat) ({ cls := "BeatenInsteadModel", name := "isSign", desc := "(II)Z" } : Jvm.MethodName)) ∈ lw_all := lw_g (lw_at lw_m4 54 rfl) rfl
theorem q846 : (Jvm.Cond.privateMethod ({ cls := "BeatenInsteadModel", name := "isSign", desc := "(II)Z" } : Jvm.MethodName)) ∈ lw_tbl := lw_at lw_m4 55 rfl
theorem q847 : (Jvm.Cond.instanceMethod ({ cls := "BeatenInsteadModel", name := "isSign", desc := "(II)Z" } : Jvm.MethodName)) ∈ lw_all := lw_g (lw_at lw_m4 56 rfl) rfl
theorem q848 : (Jvm.Cond.code ({ cls := "BeatenInsteadModel", name := "isSign", desc := "(II)Z" } : Jvm.MethodName) prog_9_method_10_code (3 : Nat) (Option.some Jvm.ClassFile.FieldType.boolean)) ∈ lw_all := lw_g (lw_at lw_m4 57 rfl) rfl
theorem q849 : (Jvm.Cond.methodLink "BeatenInsteadModel" (99 : Nat) ({ cls := "BeatenInsteadModel", name := "readLimit", desc := "(I)I" } : Jvm.MethodName)) ∈ lw_all := lw_g (lw_at lw_m4 58 rfl) rfl
theorem q850 : (Jvm.Cond.privateMethod ({ cls := "BeatenInsteadModel", name := "readLimit", desc := "(I)I" } : Jvm.MethodName)) ∈ lw_tbl := lw_at lw_m4 59 rfl
theorem q851 : (Jvm.Cond.instanceMethod ({ cls := "BeatenInsteadModel", name := "readLimit", desc := "(I)I" } : Jvm.MethodName)) ∈ lw_all := lw_g (lw_at lw_m4 60 rfl) rfl
theorem q852 : (Jvm.Cond.code ({ cls := "BeatenInsteadModel", name := "readLimit", desc := "(I)I" } : Jvm.MethodName) prog_9_method_12_code (2 : Nat) (Option.some Jvm.ClassFile.FieldType.int)) ∈ lw_all := lw_g (lw_at lw_m4 61 rfl) rfl
theorem q854 : (Jvm.Cond.instanceMethod ({ cls := "BeatenInsteadModel", name := "school", desc := "()I" } : Jvm.MethodName)) ∈ lw_all := lw_g (lw_at lw_m4 63 rfl) rfl
theorem q855 : (Jvm.Cond.selects "BeatenInsteadModel" ({ cls := "BeatenInsteadModel", name := "school", desc := "()I" } : Jvm.MethodName) ({ cls := "BeatenInsteadModel", name := "school", desc := "()I" } : Jvm.MethodName)) ∈ lw_all := lw_g (lw_at lw_m4 64 rfl) rfl
theorem q856 : (Jvm.Cond.code ({ cls := "BeatenInsteadModel", name := "school", desc := "()I" } : Jvm.MethodName) prog_9_method_14_code (3 : Nat) (Option.some Jvm.ClassFile.FieldType.int)) ∈ lw_all := lw_g (lw_at lw_m4 65 rfl) rfl
theorem q858 : (Jvm.Cond.instanceMethod ({ cls := "BeatenInsteadModel", name := "lesson", desc := "(II)I" } : Jvm.MethodName)) ∈ lw_all := lw_g (lw_at lw_m4 67 rfl) rfl
theorem q859 : (Jvm.Cond.selects "BeatenInsteadModel" ({ cls := "BeatenInsteadModel", name := "lesson", desc := "(II)I" } : Jvm.MethodName) ({ cls := "BeatenInsteadModel", name := "lesson", desc := "(II)I" } : Jvm.MethodName)) ∈ lw_all := lw_g (lw_at lw_m4 68 rfl) rfl
theorem q860 : (Jvm.Cond.code ({ cls := "BeatenInsteadModel", name := "lesson", desc := "(II)I" } : Jvm.MethodName) prog_9_method_20_code (3 : Nat) (Option.some Jvm.ClassFile.FieldType.int)) ∈ lw_all := lw_g (lw_at lw_m4 69 rfl) rfl
theorem q861 : (Jvm.Cond.methodLink "BeatenInsteadModel" (128 : Nat) ({ cls := "BeatenInsteadModel", name := "isLesson", desc := "(I)Z" } : Jvm.MethodName)) ∈ lw_all := lw_g (lw_at lw_m4 70 rfl) rfl
theorem q862 : (Jvm.Cond.privateMethod ({ cls := "BeatenInsteadModel", name := "isLesson", desc := "(I)Z" } : Jvm.MethodName)) ∈ lw_tbl := lw_at lw_m4 71 rfl
theorem q863 : (Jvm.Cond.instanceMethod ({ cls := "BeatenInsteadModel", name := "isLesson", desc := "(I)Z" } : Jvm.MethodName)) ∈ lw_all := lw_g (lw_at lw_m4 72 rfl) rfl
theorem q864 : (Jvm.Cond.code ({ cls := "BeatenInsteadModel", name := "isLesson", desc := "(I)Z" } : Jvm.MethodName) prog_9_method_15_code (2 : Nat) (Option.some Jvm.ClassFile.FieldType.boolean)) ∈ lw_all := lw_g (lw_at lw_m4 73 rfl) rfl
theorem q865 : (Jvm.Cond.methodLink "BeatenInsteadModel" (132 : Nat) ({ cls := "BeatenInsteadModel", name := "lessonNow", desc := "(II)I" } : Jvm.MethodName)) ∈ lw_all := lw_g (lw_at lw_m4 74 rfl) rfl
theorem q866 : (Jvm.Cond.privateMethod ({ cls := "BeatenInsteadModel", name := "lessonNow", desc := "(II)I" } : Jvm.MethodName)) ∈ lw_tbl := lw_at lw_m4 75 rfl
theorem q867 : (Jvm.Cond.instanceMethod ({ cls := "BeatenInsteadModel", name := "lessonNow", desc := "(II)I" } : Jvm.MethodName)) ∈ lw_all := lw_g (lw_at lw_m4 76 rfl) rfl
theorem q868 : (Jvm.Cond.code ({ cls := "BeatenInsteadModel", name := "lessonNow", desc := "(II)I" } : Jvm.MethodName) prog_9_method_19_code (3 : Nat) (Option.some Jvm.ClassFile.FieldType.int)) ∈ lw_all := lw_g (lw_at lw_m4 77 rfl) rfl
theorem q869 : (Jvm.Cond.methodLink "BeatenInsteadModel" (125 : Nat) ({ cls := "BeatenInsteadModel", name := "learntBy", desc := "(I)I" } : Jvm.MethodName)) ∈ lw_all := lw_g (lw_at lw_m4 78 rfl) rfl
theorem q870 : (Jvm.Cond.privateMethod ({ cls := "BeatenInsteadModel", name := "learntBy", desc := "(I)I" } : Jvm.MethodName)) ∈ lw_tbl := lw_at lw_m4 79 rfl
theorem q871 : (Jvm.Cond.instanceMethod ({ cls := "BeatenInsteadModel", name := "learntBy", desc := "(I)I" } : Jvm.MethodName)) ∈ lw_all := lw_g (lw_at lw_m4 80 rfl) rfl
theorem q872 : (Jvm.Cond.code ({ cls := "BeatenInsteadModel", name := "learntBy", desc := "(I)I" } : Jvm.MethodName) prog_9_method_18_code (4 : Nat) (Option.some Jvm.ClassFile.FieldType.int)) ∈ lw_all := lw_g (lw_at lw_m4 81 rfl) rfl
theorem q873 : (Jvm.Cond.methodLink "BeatenInsteadModel" (122 : Nat) ({ cls := "BeatenInsteadModel", name := "has", desc := "(II)Z" } : Jvm.MethodName)) ∈ lw_all := lw_g (lw_at lw_m4 82 rfl) rfl
theorem q874 : (Jvm.Cond.static ({ cls := "BeatenInsteadModel", name := "has", desc := "(II)Z" } : Jvm.MethodName)) ∈ lw_all := lw_g (lw_at lw_m4 83 rfl) rfl
theorem q875 : (Jvm.Cond.code ({ cls := "BeatenInsteadModel", name := "has", desc := "(II)Z" } : Jvm.MethodName) prog_9_method_4_code (2 : Nat) (Option.some Jvm.ClassFile.FieldType.boolean)) ∈ lw_all := lw_g (lw_at lw_m4 84 rfl) rfl
theorem q877 : (Jvm.Cond.instanceMethod ({ cls := "BeatenInsteadModel", name := "stripes", desc := "(I)I" } : Jvm.MethodName)) ∈ lw_all := lw_g (lw_at lw_m4 86 rfl) rfl
theorem q878 : (Jvm.Cond.selects "BeatenInsteadModel" ({ cls := "BeatenInsteadModel", name := "stripes", desc := "(I)I" } : Jvm.MethodName) ({ cls := "BeatenInsteadModel", name := "stripes", desc := "(I)I" } : Jvm.MethodName)) ∈ lw_all := lw_g (lw_at lw_m4 87 rfl) rfl
theorem q879 : (Jvm.Cond.code ({ cls := "BeatenInsteadModel", name := "stripes", desc := "(I)I" } : Jvm.MethodName) prog_9_method_21_code (2 : Nat) (Option.some Jvm.ClassFile.FieldType.int)) ∈ lw_all := lw_g (lw_at lw_m4 88 rfl) rfl
theorem q880 : (Jvm.Cond.methodLink "BeatenInsteadModel" (136 : Nat) ({ cls := "BeatenInsteadModel", name := "isBoy", desc := "(I)Z" } : Jvm.MethodName)) ∈ lw_all := lw_g (lw_at lw_m4 89 rfl) rfl
theorem q881 : (Jvm.Cond.privateMethod ({ cls := "BeatenInsteadModel", name := "isBoy", desc := "(I)Z" } : Jvm.MethodName)) ∈ lw_tbl := lw_at lw_m4 90 rfl
theorem q882 : (Jvm.Cond.instanceMethod ({ cls := "BeatenInsteadModel", name := "isBoy", desc := "(I)Z" } : Jvm.MethodName)) ∈ lw_all := lw_g (lw_at lw_m4 91 rfl) rfl
theorem q883 : (Jvm.Cond.code ({ cls := "BeatenInsteadModel", name := "isBoy", desc := "(I)Z" } : Jvm.MethodName) prog_9_method_16_code (2 : Nat) (Option.some Jvm.ClassFile.FieldType.boolean)) ∈ lw_all := lw_g (lw_at lw_m4 92 rfl) rfl
theorem q885 : (Jvm.Cond.instanceMethod ({ cls := "BeatenInsteadModel", name := "prince", desc := "(II)I" } : Jvm.MethodName)) ∈ lw_all := lw_g (lw_at lw_m4 94 rfl) rfl
theorem q886 : (Jvm.Cond.selects "BeatenInsteadModel" ({ cls := "BeatenInsteadModel", name := "prince", desc := "(II)I" } : Jvm.MethodName) ({ cls := "BeatenInsteadModel", name := "prince", desc := "(II)I" } : Jvm.MethodName)) ∈ lw_all := lw_g (lw_at lw_m4 95 rfl) rfl
theorem q887 : (Jvm.Cond.code ({ cls := "BeatenInsteadModel", name := "prince", desc := "(II)I" } : Jvm.MethodName) prog_9_method_22_code (5 : Nat) (Option.some Jvm.ClassFile.FieldType.int)) ∈ lw_all := lw_g (lw_at lw_m4 96 rfl) rfl
theorem q889 : (Jvm.Cond.instanceMethod ({ cls := "BeatenInsteadModel", name := "about", desc := "(II)I" } : Jvm.MethodName)) ∈ lw_all := lw_g (lw_at lw_m4 98 rfl) rfl
theorem q890 : (Jvm.Cond.selects "BeatenInsteadModel" ({ cls := "BeatenInsteadModel", name := "about", desc := "(II)I" } : Jvm.MethodName) ({ cls := "BeatenInsteadModel", name := "about", desc := "(II)I" } : Jvm.MethodName)) ∈ lw_all := lw_g (lw_at lw_m4 99 rfl) rfl
theorem q891 : (Jvm.Cond.code ({ cls := "BeatenInsteadModel", name := "about", desc := "(II)I" } : Jvm.MethodName) prog_9_method_28_code (3 : Nat) (Option.some Jvm.ClassFile.FieldType.int)) ∈ lw_all := lw_g (lw_at lw_m4 100 rfl) rfl
theorem q892 : (Jvm.Cond.methodLink "BeatenInsteadModel" (149 : Nat) ({ cls := "BeatenInsteadModel", name := "isPrince", desc := "(I)Z" } : Jvm.MethodName)) ∈ lw_all := lw_g (lw_at lw_m4 101 rfl) rfl
theorem q893 : (Jvm.Cond.privateMethod ({ cls := "BeatenInsteadModel", name := "isPrince", desc := "(I)Z" } : Jvm.MethodName)) ∈ lw_tbl := lw_at lw_m4 102 rfl
theorem q894 : (Jvm.Cond.instanceMethod ({ cls := "BeatenInsteadModel", name := "isPrince", desc := "(I)Z" } : Jvm.MethodName)) ∈ lw_all := lw_g (lw_at lw_m4 103 rfl) rfl
theorem q895 : (Jvm.Cond.code ({ cls := "BeatenInsteadModel", name := "isPrince", desc := "(I)Z" } : Jvm.MethodName) prog_9_method_17_code (2 : Nat) (Option.some Jvm.ClassFile.FieldType.boolean)) ∈ lw_all := lw_g (lw_at lw_m4 104 rfl) rfl
theorem q896 : (Jvm.Cond.methodLink "BeatenInsteadModel" (152 : Nat) ({ cls := "BeatenInsteadModel", name := "princeNow", desc := "(II)I" } : Jvm.MethodName)) ∈ lw_all := lw_g (lw_at lw_m4 105 rfl) rfl
theorem q897 : (Jvm.Cond.privateMethod ({ cls := "BeatenInsteadModel", name := "princeNow", desc := "(II)I" } : Jvm.MethodName)) ∈ lw_tbl := lw_at lw_m4 106 rfl
theorem q898 : (Jvm.Cond.instanceMethod ({ cls := "BeatenInsteadModel", name := "princeNow", desc := "(II)I" } : Jvm.MethodName)) ∈ lw_all := lw_g (lw_at lw_m4 107 rfl) rfl
theorem q899 : (Jvm.Cond.code ({ cls := "BeatenInsteadModel", name := "princeNow", desc := "(II)I" } : Jvm.MethodName) prog_9_method_27_code (3 : Nat) (Option.some Jvm.ClassFile.FieldType.int)) ∈ lw_all := lw_g (lw_at lw_m4 108 rfl) rfl
theorem q900 : (Jvm.Cond.methodLink "BeatenInsteadModel" (146 : Nat) ({ cls := "BeatenInsteadModel", name := "feelsNow", desc := "(I)I" } : Jvm.MethodName)) ∈ lw_all := lw_g (lw_at lw_m4 109 rfl) rfl
theorem q901 : (Jvm.Cond.privateMethod ({ cls := "BeatenInsteadModel", name := "feelsNow", desc := "(I)I" } : Jvm.MethodName)) ∈ lw_tbl := lw_at lw_m4 110 rfl
theorem q902 : (Jvm.Cond.instanceMethod ({ cls := "BeatenInsteadModel", name := "feelsNow", desc := "(I)I" } : Jvm.MethodName)) ∈ lw_all := lw_g (lw_at lw_m4 111 rfl) rfl
theorem q903 : (Jvm.Cond.code ({ cls := "BeatenInsteadModel", name := "feelsNow", desc := "(I)I" } : Jvm.MethodName) prog_9_method_24_code (2 : Nat) (Option.some Jvm.ClassFile.FieldType.int)) ∈ lw_all := lw_g (lw_at lw_m4 112 rfl) rfl
theorem q904 : (Jvm.Cond.methodLink "BeatenInsteadModel" (139 : Nat) ({ cls := "BeatenInsteadModel", name := "feels", desc := "(II)I" } : Jvm.MethodName)) ∈ lw_all := lw_g (lw_at lw_m4 113 rfl) rfl
theorem q905 : (Jvm.Cond.static ({ cls := "BeatenInsteadModel", name := "feels", desc := "(II)I" } : Jvm.MethodName)) ∈ lw_all := lw_g (lw_at lw_m4 114 rfl) rfl
theorem q906 : (Jvm.Cond.code ({ cls := "BeatenInsteadModel", name := "feels", desc := "(II)I" } : Jvm.MethodName) prog_9_method_23_code (3 : Nat) (Option.some Jvm.ClassFile.FieldType.int)) ∈ lw_all := lw_g (lw_at lw_m4 115 rfl) rfl
theorem q908 : (Jvm.Cond.instanceMethod ({ cls := "BeatenInsteadModel", name := "as", desc := "(II)I" } : Jvm.MethodName)) ∈ lw_all := lw_g (lw_at lw_m4 117 rfl) rfl
theorem q909 : (Jvm.Cond.selects "BeatenInsteadModel" ({ cls := "BeatenInsteadModel", name := "as", desc := "(II)I" } : Jvm.MethodName) ({ cls := "BeatenInsteadModel", name := "as", desc := "(II)I" } : Jvm.MethodName)) ∈ lw_all := lw_g (lw_at lw_m4 118 rfl) rfl
theorem q910 : (Jvm.Cond.code ({ cls := "BeatenInsteadModel", name := "as", desc := "(II)I" } : Jvm.MethodName) prog_9_method_29_code (4 : Nat) (Option.some Jvm.ClassFile.FieldType.int)) ∈ lw_all := lw_g (lw_at lw_m4 119 rfl) rfl
theorem q912 : (Jvm.Cond.instanceMethod ({ cls := "BeatenInsteadModel", name := "give", desc := "(II)I" } : Jvm.MethodName)) ∈ lw_all := lw_g (lw_at lw_m4 121 rfl) rfl
theorem q913 : (Jvm.Cond.selects "BeatenInsteadModel" ({ cls := "BeatenInsteadModel", name := "give", desc := "(II)I" } : Jvm.MethodName) ({ cls := "BeatenInsteadModel", name := "give", desc := "(II)I" } : Jvm.MethodName)) ∈ lw_all := lw_g (lw_at lw_m4 122 rfl) rfl
theorem q914 : (Jvm.Cond.code ({ cls := "BeatenInsteadModel", name := "give", desc := "(II)I" } : Jvm.MethodName) prog_9_method_30_code (4 : Nat) (Option.some Jvm.ClassFile.FieldType.int)) ∈ lw_all := lw_g (lw_at lw_m4 123 rfl) rfl
theorem q916 : (Jvm.Cond.instanceMethod ({ cls := "BeatenInsteadModel", name := "fond", desc := "(III)I" } : Jvm.MethodName)) ∈ lw_all := lw_g (lw_at lw_m4 125 rfl) rfl
theorem q917 : (Jvm.Cond.selects "BeatenInsteadModel" ({ cls := "BeatenInsteadModel", name := "fond", desc := "(III)I" } : Jvm.MethodName) ({ cls := "BeatenInsteadModel", name := "fond", desc := "(III)I" } : Jvm.MethodName)) ∈ lw_all := lw_g (lw_at lw_m4 126 rfl) rfl
theorem q918 : (Jvm.Cond.code ({ cls := "BeatenInsteadModel", name := "fond", desc := "(III)I" } : Jvm.MethodName) prog_9_method_31_code (5 : Nat) (Option.some Jvm.ClassFile.FieldType.int)) ∈ lw_all := lw_g (lw_at lw_m4 127 rfl) rfl
theorem q920 : (Jvm.Cond.instanceMethod ({ cls := "BeatenInsteadModel", name := "tenths", desc := "(II)I" } : Jvm.MethodName)) ∈ lw_all := lw_g (lw_at lw_m4 129 rfl) rfl
theorem q921 : (Jvm.Cond.selects "BeatenInsteadModel" ({ cls := "BeatenInsteadModel", name := "tenths", desc := "(II)I" } : Jvm.MethodName) ({ cls := "BeatenInsteadModel", name := "tenths", desc := "(II)I" } : Jvm.MethodName)) ∈ lw_all := lw_g (lw_at lw_m4 130 rfl) rfl
theorem q922 : (Jvm.Cond.code ({ cls := "BeatenInsteadModel", name := "tenths", desc := "(II)I" } : Jvm.MethodName) prog_9_method_32_code (3 : Nat) (Option.some Jvm.ClassFile.FieldType.int)) ∈ lw_all := lw_g (lw_at lw_m4 131 rfl) rfl
theorem q923 : (Jvm.Cond.methodLink "BeatenInsteadModel" (155 : Nat) ({ cls := "BeatenInsteadModel", name := "tenthsNow", desc := "(II)I" } : Jvm.MethodName)) ∈ lw_all := lw_g (lw_at lw_m4 132 rfl) rfl
theorem q924 : (Jvm.Cond.privateMethod ({ cls := "BeatenInsteadModel", name := "tenthsNow", desc := "(II)I" } : Jvm.MethodName)) ∈ lw_tbl := lw_at lw_m4 133 rfl
theorem q925 : (Jvm.Cond.instanceMethod ({ cls := "BeatenInsteadModel", name := "tenthsNow", desc := "(II)I" } : Jvm.MethodName)) ∈ lw_all := lw_g (lw_at lw_m4 134 rfl) rfl
theorem q926 : (Jvm.Cond.code ({ cls := "BeatenInsteadModel", name := "tenthsNow", desc := "(II)I" } : Jvm.MethodName) prog_9_method_26_code (3 : Nat) (Option.some Jvm.ClassFile.FieldType.int)) ∈ lw_all := lw_g (lw_at lw_m4 135 rfl) rfl
theorem q927 : (Jvm.Cond.methodLink "BeatenInsteadModel" (142 : Nat) ({ cls := "BeatenInsteadModel", name := "tenthsBy", desc := "(III)I" } : Jvm.MethodName)) ∈ lw_all := lw_g (lw_at lw_m4 136 rfl) rfl
theorem q928 : (Jvm.Cond.privateMethod ({ cls := "BeatenInsteadModel", name := "tenthsBy", desc := "(III)I" } : Jvm.MethodName)) ∈ lw_tbl := lw_at lw_m4 137 rfl
theorem q929 : (Jvm.Cond.instanceMethod ({ cls := "BeatenInsteadModel", name := "tenthsBy", desc := "(III)I" } : Jvm.MethodName)) ∈ lw_all := lw_g (lw_at lw_m4 138 rfl) rfl
theorem q930 : (Jvm.Cond.code ({ cls := "BeatenInsteadModel", name := "tenthsBy", desc := "(III)I" } : Jvm.MethodName) prog_9_method_25_code (5 : Nat) (Option.some Jvm.ClassFile.FieldType.int)) ∈ lw_all := lw_g (lw_at lw_m4 139 rfl) rfl
theorem q932 : (Jvm.Cond.instanceMethod ({ cls := "BeatenInsteadModel", name := "teach", desc := "(IIZ)I" } : Jvm.MethodName)) ∈ lw_all := lw_g (lw_at lw_m4 141 rfl) rfl
theorem q933 : (Jvm.Cond.selects "BeatenInsteadModel" ({ cls := "BeatenInsteadModel", name := "teach", desc := "(IIZ)I" } : Jvm.MethodName) ({ cls := "BeatenInsteadModel", name := "teach", desc := "(IIZ)I" } : Jvm.MethodName)) ∈ lw_all := lw_g (lw_at lw_m4 142 rfl) rfl
theorem q934 : (Jvm.Cond.code ({ cls := "BeatenInsteadModel", name := "teach", desc := "(IIZ)I" } : Jvm.MethodName) prog_9_method_34_code (4 : Nat) (Option.some Jvm.ClassFile.FieldType.int)) ∈ lw_all := lw_g (lw_at lw_m4 143 rfl) rfl
theorem q935 : (Jvm.Cond.methodLink "BeatenInsteadModel" (158 : Nat) ({ cls := "BeatenInsteadModel", name := "fails", desc := "(II)V" } : Jvm.MethodName)) ∈ lw_all := lw_g (lw_at lw_m4 144 rfl) rfl
theorem q936 : (Jvm.Cond.privateMethod ({ cls := "BeatenInsteadModel", name := "fails", desc := "(II)V" } : Jvm.MethodName)) ∈ lw_tbl := lw_at lw_m4 145 rfl
theorem q937 : (Jvm.Cond.instanceMethod ({ cls := "BeatenInsteadModel", name := "fails", desc := "(II)V" } : Jvm.MethodName)) ∈ lw_all := lw_g (lw_at lw_m4 146 rfl) rfl
theorem q938 : (Jvm.Cond.code ({ cls := "BeatenInsteadModel", name := "fails", desc := "(II)V" } : Jvm.MethodName) prog_9_method_33_code (5 : Nat) (Option.none : Option Jvm.ClassFile.FieldType)) ∈ lw_all := lw_g (lw_at lw_m4 147 rfl) rfl
theorem q940 : (Jvm.Cond.instanceMethod ({ cls := "BeatenInsteadModel", name := "order", desc := "(II)J" } : Jvm.MethodName)) ∈ lw_all := lw_g (lw_at lw_m4 149 rfl) rfl
theorem q941 : (Jvm.Cond.selects "BeatenInsteadModel" ({ cls := "BeatenInsteadModel", name := "order", desc := "(II)J" } : Jvm.MethodName) ({ cls := "BeatenInsteadModel", name := "order", desc := "(II)J" } : Jvm.MethodName)) ∈ lw_all := lw_g (lw_at lw_m4 150 rfl) rfl
theorem q942 : (Jvm.Cond.code ({ cls := "BeatenInsteadModel", name := "order", desc := "(II)J" } : Jvm.MethodName) prog_9_method_42_code (3 : Nat) (Option.some Jvm.ClassFile.FieldType.long)) ∈ lw_all := lw_g (lw_at lw_m4 151 rfl) rfl
theorem q943 : (Jvm.Cond.constantLong "BeatenInsteadModel" (200 : Nat) (-101 : Int64)) ∈ lw_all := lw_g (lw_at lw_m4 152 rfl) rfl
theorem q944 : (Jvm.Cond.constantLong "BeatenInsteadModel" (202 : Nat) (-102 : Int64)) ∈ lw_all := lw_g (lw_at lw_m4 153 rfl) rfl
theorem q945 : (Jvm.Cond.constantLong "BeatenInsteadModel" (207 : Nat) (-103 : Int64)) ∈ lw_all := lw_g (lw_at lw_m4 154 rfl) rfl
theorem q946 : (Jvm.Cond.methodLink "BeatenInsteadModel" (209 : Nat) ({ cls := "BeatenInsteadModel", name := "orderNow", desc := "(II)J" } : Jvm.MethodName)) ∈ lw_all := lw_g (lw_at lw_m4 155 rfl) rfl
theorem q947 : (Jvm.Cond.privateMethod ({ cls := "BeatenInsteadModel", name := "orderNow", desc := "(II)J" } : Jvm.MethodName)) ∈ lw_tbl := lw_at lw_m4 156 rfl
theorem q948 : (Jvm.Cond.instanceMethod ({ cls := "BeatenInsteadModel", name := "orderNow", desc := "(II)J" } : Jvm.MethodName)) ∈ lw_all := lw_g (lw_at lw_m4 157 rfl) rfl
theorem q949 : (Jvm.Cond.code ({ cls := "BeatenInsteadModel", name := "orderNow", desc := "(II)J" } : Jvm.MethodName) prog_9_method_41_code (13 : Nat) (Option.some Jvm.ClassFile.FieldType.long)) ∈ lw_all := lw_g (lw_at lw_m4 158 rfl) rfl
theorem q950 : (Jvm.Cond.methodLink "BeatenInsteadModel" (182 : Nat) ({ cls := "BeatenInsteadModel", name := "layLeft", desc := "(I)V" } : Jvm.MethodName)) ∈ lw_all := lw_g (lw_at lw_m4 159 rfl) rfl
theorem q951 : (Jvm.Cond.privateMethod ({ cls := "BeatenInsteadModel", name := "layLeft", desc := "(I)V" } : Jvm.MethodName)) ∈ lw_tbl := lw_at lw_m4 160 rfl
theorem q952 : (Jvm.Cond.instanceMethod ({ cls := "BeatenInsteadModel", name := "layLeft", desc := "(I)V" } : Jvm.MethodName)) ∈ lw_all := lw_g (lw_at lw_m4 161 rfl) rfl
theorem q953 : (Jvm.Cond.code ({ cls := "BeatenInsteadModel", name := "layLeft", desc := "(I)V" } : Jvm.MethodName) prog_9_method_35_code (3 : Nat) (Option.none : Option Jvm.ClassFile.FieldType)) ∈ lw_all := lw_g (lw_at lw_m4 162 rfl) rfl
theorem q954 : (Jvm.Cond.constantLong "BeatenInsteadModel" (185 : Nat) (10 : Int64)) ∈ lw_all := lw_g (lw_at lw_m4 163 rfl) rfl
theorem q955 : (Jvm.Cond.methodLink "BeatenInsteadModel" (187 : Nat) ({ cls := "BeatenInsteadModel", name := "layOrder", desc := "(II)V" } : Jvm.MethodName)) ∈ lw_all := lw_g (lw_at lw_m4 164 rfl) rfl
theorem q956 : (Jvm.Cond.privateMethod ({ cls := "BeatenInsteadModel", name := "layOrder", desc := "(II)V" } : Jvm.MethodName)) ∈ lw_tbl := lw_at lw_m4 165 rfl
theorem q957 : (Jvm.Cond.instanceMethod ({ cls := "BeatenInsteadModel", name := "layOrder", desc := "(II)V" } : Jvm.MethodName)) ∈ lw_all := lw_g (lw_at lw_m4 166 rfl) rfl
theorem q958 : (Jvm.Cond.code ({ cls := "BeatenInsteadModel", name := "layOrder", desc := "(II)V" } : Jvm.MethodName) prog_9_method_38_code (9 : Nat) (Option.none : Option Jvm.ClassFile.FieldType)) ∈ lw_all := lw_g (lw_at lw_m4 167 rfl) rfl
theorem q959 : (Jvm.Cond.methodLink "BeatenInsteadModel" (190 : Nat) ({ cls := "BeatenInsteadModel", name := "meanOf", desc := "(I)J" } : Jvm.MethodName)) ∈ lw_all := lw_g (lw_at lw_m4 168 rfl) rfl
theorem q960 : (Jvm.Cond.privateMethod ({ cls := "BeatenInsteadModel", name := "meanOf", desc := "(I)J" } : Jvm.MethodName)) ∈ lw_tbl := lw_at lw_m4 169 rfl
theorem q961 : (Jvm.Cond.instanceMethod ({ cls := "BeatenInsteadModel", name := "meanOf", desc := "(I)J" } : Jvm.MethodName)) ∈ lw_all := lw_g (lw_at lw_m4 170 rfl) rfl
theorem q962 : (Jvm.Cond.code ({ cls := "BeatenInsteadModel", name := "meanOf", desc := "(I)J" } : Jvm.MethodName) prog_9_method_40_code (5 : Nat) (Option.some Jvm.ClassFile.FieldType.long)) ∈ lw_all := lw_g (lw_at lw_m4 171 rfl) rfl
theorem q963 : (Jvm.Cond.methodLink "BeatenInsteadModel" (178 : Nat) ({ cls := "BeatenInsteadModel", name := "meanBy", desc := "(II)J" } : Jvm.MethodName)) ∈ lw_all := lw_g (lw_at lw_m4 172 rfl) rfl
theorem q964 : (Jvm.Cond.privateMethod ({ cls := "BeatenInsteadModel", name := "meanBy", desc := "(II)J" } : Jvm.MethodName)) ∈ lw_tbl := lw_at lw_m4 173 rfl
theorem q965 : (Jvm.Cond.instanceMethod ({ cls := "BeatenInsteadModel", name := "meanBy", desc := "(II)J" } : Jvm.MethodName)) ∈ lw_all := lw_g (lw_at lw_m4 174 rfl) rfl
theorem q966 : (Jvm.Cond.code ({ cls := "BeatenInsteadModel", name := "meanBy", desc := "(II)J" } : Jvm.MethodName) prog_9_method_39_code (8 : Nat) (Option.some Jvm.ClassFile.FieldType.long)) ∈ lw_all := lw_g (lw_at lw_m4 175 rfl) rfl
theorem q967 : (Jvm.Cond.methodLink "BeatenInsteadModel" (171 : Nat) ({ cls := "BeatenInsteadModel", name := "save", desc := "(I)V" } : Jvm.MethodName)) ∈ lw_all := lw_g (lw_at lw_m4 176 rfl) rfl
theorem q968 : (Jvm.Cond.privateMethod ({ cls := "BeatenInsteadModel", name := "save", desc := "(I)V" } : Jvm.MethodName)) ∈ lw_tbl := lw_at lw_m4 177 rfl
theorem q969 : (Jvm.Cond.instanceMethod ({ cls := "BeatenInsteadModel", name := "save", desc := "(I)V" } : Jvm.MethodName)) ∈ lw_all := lw_g (lw_at lw_m4 178 rfl) rfl
theorem q970 : (Jvm.Cond.code ({ cls := "BeatenInsteadModel", name := "save", desc := "(I)V" } : Jvm.MethodName) prog_9_method_36_code (2 : Nat) (Option.none : Option Jvm.ClassFile.FieldType)) ∈ lw_all := lw_g (lw_at lw_m4 179 rfl) rfl
theorem q971 : (Jvm.Cond.methodLink "BeatenInsteadModel" (175 : Nat) ({ cls := "BeatenInsteadModel", name := "load", desc := "(I)V" } : Jvm.MethodName)) ∈ lw_all := lw_g (lw_at lw_m4 180 rfl) rfl
theorem q972 : (Jvm.Cond.privateMethod ({ cls := "BeatenInsteadModel", name := "load", desc := "(I)V" } : Jvm.MethodName)) ∈ lw_tbl := lw_at lw_m4 181 rfl
theorem q973 : (Jvm.Cond.instanceMethod ({ cls := "BeatenInsteadModel", name := "load", desc := "(I)V" } : Jvm.MethodName)) ∈ lw_all := lw_g (lw_at lw_m4 182 rfl) rfl
theorem q974 : (Jvm.Cond.code ({ cls := "BeatenInsteadModel", name := "load", desc := "(I)V" } : Jvm.MethodName) prog_9_method_37_code (2 : Nat) (Option.none : Option Jvm.ClassFile.FieldType)) ∈ lw_all := lw_g (lw_at lw_m4 183 rfl) rfl
theorem q975 : (Jvm.Cond.methodLink "BeatenInsteadModel" (194 : Nat) ({ cls := "BeatenInsteadModel", name := "lowest", desc := "(JJI)J" } : Jvm.MethodName)) ∈ lw_all := lw_g (lw_at lw_m4 184 rfl) rfl
theorem q976 : (Jvm.Cond.static ({ cls := "BeatenInsteadModel", name := "lowest", desc := "(JJI)J" } : Jvm.MethodName)) ∈ lw_all := lw_g (lw_at lw_m4 185 rfl) rfl
theorem q977 : (Jvm.Cond.code ({ cls := "BeatenInsteadModel", name := "lowest", desc := "(JJI)J" } : Jvm.MethodName) prog_9_method_6_code (11 : Nat) (Option.some Jvm.ClassFile.FieldType.long)) ∈ lw_all := lw_g (lw_at lw_m4 186 rfl) rfl
theorem q978 : (Jvm.Cond.constantLong "BeatenInsteadModel" (198 : Nat) (-1 : Int64)) ∈ lw_all := lw_g (lw_at lw_m4 187 rfl) rfl
theorem q980 : (Jvm.Cond.instanceMethod ({ cls := "BeatenInsteadModel", name := "match", desc := "(II)I" } : Jvm.MethodName)) ∈ lw_all := lw_g (lw_at lw_m4 189 rfl) rfl
theorem q981 : (Jvm.Cond.selects "BeatenInsteadModel" ({ cls := "BeatenInsteadModel", name := "match", desc := "(II)I" } : Jvm.MethodName) ({ cls := "BeatenInsteadModel", name := "match", desc := "(II)I" } : Jvm.MethodName)) ∈ lw_all := lw_g (lw_at lw_m4 190 rfl) rfl
theorem q982 : (Jvm.Cond.code ({ cls := "BeatenInsteadModel", name := "match", desc := "(II)I" } : Jvm.MethodName) prog_9_method_46_code (3 : Nat) (Option.some Jvm.ClassFile.FieldType.int)) ∈ lw_all := lw_g (lw_at lw_m4 191 rfl) rfl
theorem q983 : (Jvm.Cond.methodLink "BeatenInsteadModel" (219 : Nat) ({ cls := "BeatenInsteadModel", name := "matchNow", desc := "(II)I" } : Jvm.MethodName)) ∈ lw_all := lw_g (lw_at lw_m4 192 rfl) rfl
theorem q984 : (Jvm.Cond.privateMethod ({ cls := "BeatenInsteadModel", name := "matchNow", desc := "(II)I" } : Jvm.MethodName)) ∈ lw_tbl := lw_at lw_m4 193 rfl
theorem q985 : (Jvm.Cond.instanceMethod ({ cls := "BeatenInsteadModel", name := "matchNow", desc := "(II)I" } : Jvm.MethodName)) ∈ lw_all := lw_g (lw_at lw_m4 194 rfl) rfl
theorem q986 : (Jvm.Cond.code ({ cls := "BeatenInsteadModel", name := "matchNow", desc := "(II)I" } : Jvm.MethodName) prog_9_method_45_code (8 : Nat) (Option.some Jvm.ClassFile.FieldType.int)) ∈ lw_all := lw_g (lw_at lw_m4 195 rfl) rfl
theorem q987 : (Jvm.Cond.constant "BeatenInsteadModel" (215 : Nat) (268435456 : Int32)) ∈ lw_all := lw_g (lw_at lw_m4 196 rfl) rfl
theorem q988 : (Jvm.Cond.methodLink "BeatenInsteadModel" (216 : Nat) ({ cls := "BeatenInsteadModel", name := "matchBy", desc := "(II)I" } : Jvm.MethodName)) ∈ lw_all := lw_g (lw_at lw_m4 197 rfl) rfl
theorem q989 : (Jvm.Cond.privateMethod ({ cls := "BeatenInsteadModel", name := "matchBy", desc := "(II)I" } : Jvm.MethodName)) ∈ lw_tbl := lw_at lw_m4 198 rfl
theorem q990 : (Jvm.Cond.instanceMethod ({ cls := "BeatenInsteadModel", name := "matchBy", desc := "(II)I" } : Jvm.MethodName)) ∈ lw_all := lw_g (lw_at lw_m4 199 rfl) rfl
theorem q991 : (Jvm.Cond.code ({ cls := "BeatenInsteadModel", name := "matchBy", desc := "(II)I" } : Jvm.MethodName) prog_9_method_44_code (7 : Nat) (Option.some Jvm.ClassFile.FieldType.int)) ∈ lw_all := lw_g (lw_at lw_m4 200 rfl) rfl
theorem q992 : (Jvm.Cond.methodLink "BeatenInsteadModel" (212 : Nat) ({ cls := "BeatenInsteadModel", name := "boyBy", desc := "(II)I" } : Jvm.MethodName)) ∈ lw_all := lw_g (lw_at lw_m4 201 rfl) rfl
theorem q993 : (Jvm.Cond.privateMethod ({ cls := "BeatenInsteadModel", name := "boyBy", desc := "(II)I" } : Jvm.MethodName)) ∈ lw_tbl := lw_at lw_m4 202 rfl
theorem q994 : (Jvm.Cond.instanceMethod ({ cls := "BeatenInsteadModel", name := "boyBy", desc := "(II)I" } : Jvm.MethodName)) ∈ lw_all := lw_g (lw_at lw_m4 203 rfl) rfl
theorem q995 : (Jvm.Cond.code ({ cls := "BeatenInsteadModel", name := "boyBy", desc := "(II)I" } : Jvm.MethodName) prog_9_method_43_code (5 : Nat) (Option.some Jvm.ClassFile.FieldType.int)) ∈ lw_all := lw_g (lw_at lw_m4 204 rfl) rfl
theorem q997 : (Jvm.Cond.instanceMethod ({ cls := "BeatenInsteadModel", name := "faults", desc := "(III)I" } : Jvm.MethodName)) ∈ lw_all := lw_g (lw_at lw_m4 206 rfl) rfl
theorem q998 : (Jvm.Cond.selects "BeatenInsteadModel" ({ cls := "BeatenInsteadModel", name := "faults", desc := "(III)I" } : Jvm.MethodName) ({ cls := "BeatenInsteadModel", name := "faults", desc := "(III)I" } : Jvm.MethodName)) ∈ lw_all := lw_g (lw_at lw_m4 207 rfl) rfl
theorem q999 : (Jvm.Cond.code ({ cls := "BeatenInsteadModel", name := "faults", desc := "(III)I" } : Jvm.MethodName) prog_9_method_49_code (4 : Nat) (Option.some Jvm.ClassFile.FieldType.int)) ∈ lw_all := lw_g (lw_at lw_m4 208 rfl) rfl
theorem q1000 : (Jvm.Cond.methodLink "BeatenInsteadModel" (225 : Nat) ({ cls := "BeatenInsteadModel", name := "faultsNow", desc := "(III)I" } : Jvm.MethodName)) ∈ lw_all := lw_g (lw_at lw_m4 209 rfl) rfl
theorem q1001 : (Jvm.Cond.privateMethod ({ cls := "BeatenInsteadModel", name := "faultsNow", desc := "(III)I" } : Jvm.MethodName)) ∈ lw_tbl := lw_at lw_m4 210 rfl
theorem q1002 : (Jvm.Cond.instanceMethod ({ cls := "BeatenInsteadModel", name := "faultsNow", desc := "(III)I" } : Jvm.MethodName)) ∈ lw_all := lw_g (lw_at lw_m4 211 rfl) rfl
theorem q1003 : (Jvm.Cond.code ({ cls := "BeatenInsteadModel", name := "faultsNow", desc := "(III)I" } : Jvm.MethodName) prog_9_method_48_code (7 : Nat) (Option.some Jvm.ClassFile.FieldType.int)) ∈ lw_all := lw_g (lw_at lw_m4 212 rfl) rfl
theorem q1004 : (Jvm.Cond.methodLink "BeatenInsteadModel" (222 : Nat) ({ cls := "BeatenInsteadModel", name := "couldFail", desc := "(III)Z" } : Jvm.MethodName)) ∈ lw_all := lw_g (lw_at lw_m4 213 rfl) rfl
theorem q1005 : (Jvm.Cond.privateMethod ({ cls := "BeatenInsteadModel", name := "couldFail", desc := "(III)Z" } : Jvm.MethodName)) ∈ lw_tbl := lw_at lw_m4 214 rfl
theorem q1006 : (Jvm.Cond.instanceMethod ({ cls := "BeatenInsteadModel", name := "couldFail", desc := "(III)Z" } : Jvm.MethodName)) ∈ lw_all := lw_g (lw_at lw_m4 215 rfl) rfl
theorem q1007 : (Jvm.Cond.code ({ cls := "BeatenInsteadModel", name := "couldFail", desc := "(III)Z" } : Jvm.MethodName) prog_9_method_47_code (8 : Nat) (Option.some Jvm.ClassFile.FieldType.boolean)) ∈ lw_all := lw_g (lw_at lw_m4 216 rfl) rfl
theorem q1009 : (Jvm.Cond.instanceMethod ({ cls := "BeatenInsteadModel", name := "hear", desc := "(IIZ)I" } : Jvm.MethodName)) ∈ lw_all := lw_g (lw_at lw_m4 218 rfl) rfl
theorem q1010 : (Jvm.Cond.selects "BeatenInsteadModel" ({ cls := "BeatenInsteadModel", name := "hear", desc := "(IIZ)I" } : Jvm.MethodName) ({ cls := "BeatenInsteadModel", name := "hear", desc := "(IIZ)I" } : Jvm.MethodName)) ∈ lw_all := lw_g (lw_at lw_m4 219 rfl) rfl
theorem q1011 : (Jvm.Cond.code ({ cls := "BeatenInsteadModel", name := "hear", desc := "(IIZ)I" } : Jvm.MethodName) prog_9_method_50_code (4 : Nat) (Option.some Jvm.ClassFile.FieldType.int)) ∈ lw_all := lw_g (lw_at lw_m4 220 rfl) rfl
theorem q1013 : (Jvm.Cond.instanceMethod ({ cls := "BeatenInsteadModel", name := "forget", desc := "()I" } : Jvm.MethodName)) ∈ lw_all := lw_g (lw_at lw_m4 222 rfl) rfl
theorem q1014 : (Jvm.Cond.selects "BeatenInsteadModel" ({ cls := "BeatenInsteadModel", name := "forget", desc := "()I" } : Jvm.MethodName) ({ cls := "BeatenInsteadModel", name := "forget", desc := "()I" } : Jvm.MethodName)) ∈ lw_all := lw_g (lw_at lw_m4 223 rfl) rfl
theorem q1015 : (Jvm.Cond.code ({ cls := "BeatenInsteadModel", name := "forget", desc := "()I" } : Jvm.MethodName) prog_9_method_51_code (2 : Nat) (Option.some Jvm.ClassFile.FieldType.int)) ∈ lw_all := lw_g (lw_at lw_m4 224 rfl) rfl
theorem q1017 : (Jvm.Cond.instanceMethod ({ cls := "BeatenInsteadModel", name := "fondness", desc := "(I)I" } : Jvm.MethodName)) ∈ lw_all := lw_g (lw_at lw_m4 226 rfl) rfl
theorem q1018 : (Jvm.Cond.selects "BeatenInsteadModel" ({ cls := "BeatenInsteadModel", name := "fondness", desc := "(I)I" } : Jvm.MethodName) ({ cls := "BeatenInsteadModel", name := "fondness", desc := "(I)I" } : Jvm.MethodName)) ∈ lw_all := lw_g (lw_at lw_m4 227 rfl) rfl
theorem q1019 : (Jvm.Cond.code ({ cls := "BeatenInsteadModel", name := "fondness", desc := "(I)I" } : Jvm.MethodName) prog_9_method_54_code (2 : Nat) (Option.some Jvm.ClassFile.FieldType.int)) ∈ lw_all := lw_g (lw_at lw_m4 228 rfl) rfl
theorem q1020 : (Jvm.Cond.methodLink "BeatenInsteadModel" (231 : Nat) ({ cls := "BeatenInsteadModel", name := "fondnessNow", desc := "(I)I" } : Jvm.MethodName)) ∈ lw_all := lw_g (lw_at lw_m4 229 rfl) rfl
theorem q1021 : (Jvm.Cond.privateMethod ({ cls := "BeatenInsteadModel", name := "fondnessNow", desc := "(I)I" } : Jvm.MethodName)) ∈ lw_tbl := lw_at lw_m4 230 rfl
theorem q1022 : (Jvm.Cond.instanceMethod ({ cls := "BeatenInsteadModel", name := "fondnessNow", desc := "(I)I" } : Jvm.MethodName)) ∈ lw_all := lw_g (lw_at lw_m4 231 rfl) rfl
theorem q1023 : (Jvm.Cond.code ({ cls := "BeatenInsteadModel", name := "fondnessNow", desc := "(I)I" } : Jvm.MethodName) prog_9_method_53_code (4 : Nat) (Option.some Jvm.ClassFile.FieldType.int)) ∈ lw_all := lw_g (lw_at lw_m4 232 rfl) rfl
theorem q1024 : (Jvm.Cond.methodLink "BeatenInsteadModel" (228 : Nat) ({ cls := "BeatenInsteadModel", name := "couldBe", desc := "(II)Z" } : Jvm.MethodName)) ∈ lw_all := lw_g (lw_at lw_m4 233 rfl) rfl
theorem q1025 : (Jvm.Cond.privateMethod ({ cls := "BeatenInsteadModel", name := "couldBe", desc := "(II)Z" } : Jvm.MethodName)) ∈ lw_tbl := lw_at lw_m4 234 rfl
theorem q1026 : (Jvm.Cond.instanceMethod ({ cls := "BeatenInsteadModel", name := "couldBe", desc := "(II)Z" } : Jvm.MethodName)) ∈ lw_all := lw_g (lw_at lw_m4 235 rfl) rfl
theorem q1027 : (Jvm.Cond.code ({ cls := "BeatenInsteadModel", name := "couldBe", desc := "(II)Z" } : Jvm.MethodName) prog_9_method_52_code (6 : Nat) (Option.some Jvm.ClassFile.FieldType.boolean)) ∈ lw_all := lw_g (lw_at lw_m4 236 rfl) rfl
theorem q1029 : (Jvm.Cond.instanceMethod ({ cls := "BeatenInsteadModel", name := "schools", desc := "(III)I" } : Jvm.MethodName)) ∈ lw_all := lw_g (lw_at lw_m4 238 rfl) rfl
theorem q1030 : (Jvm.Cond.selects "BeatenInsteadModel" ({ cls := "BeatenInsteadModel", name := "schools", desc := "(III)I" } : Jvm.MethodName) ({ cls := "BeatenInsteadModel", name := "schools", desc := "(III)I" } : Jvm.MethodName)) ∈ lw_all := lw_g (lw_at lw_m4 239 rfl) rfl
theorem q1031 : (Jvm.Cond.code ({ cls := "BeatenInsteadModel", name := "schools", desc := "(III)I" } : Jvm.MethodName) prog_9_method_61_code (4 : Nat) (Option.some Jvm.ClassFile.FieldType.int)) ∈ lw_all := lw_g (lw_at lw_m5 0 rfl) rfl
theorem q1032 : (Jvm.Cond.methodLink "BeatenInsteadModel" (264 : Nat) ({ cls := "BeatenInsteadModel", name := "schoolsNow", desc := "(III)I" } : Jvm.MethodName)) ∈ lw_all := lw_g (lw_at lw_m5 1 rfl) rfl
theorem q1033 : (Jvm.Cond.privateMethod ({ cls := "BeatenInsteadModel", name := "schoolsNow", desc := "(III)I" } : Jvm.MethodName)) ∈ lw_tbl := lw_at lw_m5 2 rfl
theorem q1034 : (Jvm.Cond.instanceMethod ({ cls := "BeatenInsteadModel", name := "schoolsNow", desc := "(III)I" } : Jvm.MethodName)) ∈ lw_all := lw_g (lw_at lw_m5 3 rfl) rfl
theorem q1035 : (Jvm.Cond.code ({ cls := "BeatenInsteadModel", name := "schoolsNow", desc := "(III)I" } : Jvm.MethodName) prog_9_method_60_code (8 : Nat) (Option.some Jvm.ClassFile.FieldType.int)) ∈ lw_all := lw_g (lw_at lw_m5 4 rfl) rfl
theorem q1036 : (Jvm.Cond.methodLink "BeatenInsteadModel" (252 : Nat) ({ cls := "BeatenInsteadModel", name := "saveAll", desc := "()V" } : Jvm.MethodName)) ∈ lw_all := lw_g (lw_at lw_m5 5 rfl) rfl
theorem q1037 : (Jvm.Cond.privateMethod ({ cls := "BeatenInsteadModel", name := "saveAll", desc := "()V" } : Jvm.MethodName)) ∈ lw_tbl := lw_at lw_m5 6 rfl
theorem q1038 : (Jvm.Cond.instanceMethod ({ cls := "BeatenInsteadModel", name := "saveAll", desc := "()V" } : Jvm.MethodName)) ∈ lw_all := lw_g (lw_at lw_m5 7 rfl) rfl
theorem q1039 : (Jvm.Cond.code ({ cls := "BeatenInsteadModel", name := "saveAll", desc := "()V" } : Jvm.MethodName) prog_9_method_55_code (2 : Nat) (Option.none : Option Jvm.ClassFile.FieldType)) ∈ lw_all := lw_g (lw_at lw_m5 8 rfl) rfl
theorem q1040 : (Jvm.Cond.methodLink "BeatenInsteadModel" (255 : Nat) ({ cls := "BeatenInsteadModel", name := "goOne", desc := "(II)I" } : Jvm.MethodName)) ∈ lw_all := lw_g (lw_at lw_m5 9 rfl) rfl
theorem q1041 : (Jvm.Cond.privateMethod ({ cls := "BeatenInsteadModel", name := "goOne", desc := "(II)I" } : Jvm.MethodName)) ∈ lw_tbl := lw_at lw_m5 10 rfl
theorem q1042 : (Jvm.Cond.instanceMethod ({ cls := "BeatenInsteadModel", name := "goOne", desc := "(II)I" } : Jvm.MethodName)) ∈ lw_all := lw_g (lw_at lw_m5 11 rfl) rfl
theorem q1043 : (Jvm.Cond.code ({ cls := "BeatenInsteadModel", name := "goOne", desc := "(II)I" } : Jvm.MethodName) prog_9_method_58_code (3 : Nat) (Option.some Jvm.ClassFile.FieldType.int)) ∈ lw_all := lw_g (lw_at lw_m5 12 rfl) rfl
theorem q1044 : (Jvm.Cond.methodLink "BeatenInsteadModel" (246 : Nat) ({ cls := "BeatenInsteadModel", name := "draw", desc := "(I)I" } : Jvm.MethodName)) ∈ lw_all := lw_g (lw_at lw_m5 13 rfl) rfl
theorem q1045 : (Jvm.Cond.privateMethod ({ cls := "BeatenInsteadModel", name := "draw", desc := "(I)I" } : Jvm.MethodName)) ∈ lw_tbl := lw_at lw_m5 14 rfl
theorem q1046 : (Jvm.Cond.instanceMethod ({ cls := "BeatenInsteadModel", name := "draw", desc := "(I)I" } : Jvm.MethodName)) ∈ lw_all := lw_g (lw_at lw_m5 15 rfl) rfl
theorem q1047 : (Jvm.Cond.code ({ cls := "BeatenInsteadModel", name := "draw", desc := "(I)I" } : Jvm.MethodName) prog_9_method_57_code (2 : Nat) (Option.some Jvm.ClassFile.FieldType.int)) ∈ lw_all := lw_g (lw_at lw_m5 16 rfl) rfl
theorem q1048 : (Jvm.Cond.constantLong "BeatenInsteadModel" (234 : Nat) (1103515245 : Int64)) ∈ lw_all := lw_g (lw_at lw_m5 17 rfl) rfl
theorem q1049 : (Jvm.Cond.constantLong "BeatenInsteadModel" (240 : Nat) (12345 : Int64)) ∈ lw_all := lw_g (lw_at lw_m5 18 rfl) rfl
theorem q1050 : (Jvm.Cond.constantLong "BeatenInsteadModel" (242 : Nat) (2147483647 : Int64)) ∈ lw_all := lw_g (lw_at lw_m5 19 rfl) rfl
theorem q1051 : (Jvm.Cond.constantLong "BeatenInsteadModel" (244 : Nat) (65536 : Int64)) ∈ lw_all := lw_g (lw_at lw_m5 20 rfl) rfl
theorem q1052 : (Jvm.Cond.methodLink "BeatenInsteadModel" (258 : Nat) ({ cls := "BeatenInsteadModel", name := "learntAll", desc := "()I" } : Jvm.MethodName)) ∈ lw_all := lw_g (lw_at lw_m5 21 rfl) rfl
theorem q1053 : (Jvm.Cond.privateMethod ({ cls := "BeatenInsteadModel", name := "learntAll", desc := "()I" } : Jvm.MethodName)) ∈ lw_tbl := lw_at lw_m5 22 rfl
theorem q1054 : (Jvm.Cond.instanceMethod ({ cls := "BeatenInsteadModel", name := "learntAll", desc := "()I" } : Jvm.MethodName)) ∈ lw_all := lw_g (lw_at lw_m5 23 rfl) rfl
theorem q1055 : (Jvm.Cond.code ({ cls := "BeatenInsteadModel", name := "learntAll", desc := "()I" } : Jvm.MethodName) prog_9_method_59_code (3 : Nat) (Option.some Jvm.ClassFile.FieldType.int)) ∈ lw_all := lw_g (lw_at lw_m5 24 rfl) rfl
theorem q1056 : (Jvm.Cond.methodLink "BeatenInsteadModel" (249 : Nat) ({ cls := "BeatenInsteadModel", name := "size", desc := "(I)I" } : Jvm.MethodName)) ∈ lw_all := lw_g (lw_at lw_m5 25 rfl) rfl
theorem q1057 : (Jvm.Cond.static ({ cls := "BeatenInsteadModel", name := "size", desc := "(I)I" } : Jvm.MethodName)) ∈ lw_all := lw_g (lw_at lw_m5 26 rfl) rfl
theorem q1058 : (Jvm.Cond.code ({ cls := "BeatenInsteadModel", name := "size", desc := "(I)I" } : Jvm.MethodName) prog_9_method_5_code (3 : Nat) (Option.some Jvm.ClassFile.FieldType.int)) ∈ lw_all := lw_g (lw_at lw_m5 27 rfl) rfl
theorem q1059 : (Jvm.Cond.methodLink "BeatenInsteadModel" (261 : Nat) ({ cls := "BeatenInsteadModel", name := "loadAll", desc := "()V" } : Jvm.MethodName)) ∈ lw_all := lw_g (lw_at lw_m5 28 rfl) rfl
theorem q1060 : (Jvm.Cond.privateMethod ({ cls := "BeatenInsteadModel", name := "loadAll", desc := "()V" } : Jvm.MethodName)) ∈ lw_tbl := lw_at lw_m5 29 rfl
theorem q1061 : (Jvm.Cond.instanceMethod ({ cls := "BeatenInsteadModel", name := "loadAll", desc := "()V" } : Jvm.MethodName)) ∈ lw_all := lw_g (lw_at lw_m5 30 rfl) rfl
theorem q1062 : (Jvm.Cond.code ({ cls := "BeatenInsteadModel", name := "loadAll", desc := "()V" } : Jvm.MethodName) prog_9_method_56_code (2 : Nat) (Option.none : Option Jvm.ClassFile.FieldType)) ∈ lw_all := lw_g (lw_at lw_m5 31 rfl) rfl
theorem q1064 : (Jvm.Cond.instanceMethod ({ cls := "BeatenInsteadModel", name := "image", desc := "()I" } : Jvm.MethodName)) ∈ lw_all := lw_g (lw_at lw_m5 33 rfl) rfl
theorem q1065 : (Jvm.Cond.selects "BeatenInsteadModel" ({ cls := "BeatenInsteadModel", name := "image", desc := "()I" } : Jvm.MethodName) ({ cls := "BeatenInsteadModel", name := "image", desc := "()I" } : Jvm.MethodName)) ∈ lw_all := lw_g (lw_at lw_m5 34 rfl) rfl
theorem q1066 : (Jvm.Cond.code ({ cls := "BeatenInsteadModel", name := "image", desc := "()I" } : Jvm.MethodName) prog_9_method_63_code (2 : Nat) (Option.some Jvm.ClassFile.FieldType.int)) ∈ lw_all := lw_g (lw_at lw_m5 35 rfl) rfl
theorem q1067 : (Jvm.Cond.methodLink "BeatenInsteadModel" (279 : Nat) ({ cls := "BeatenInsteadModel", name := "stripesAll", desc := "()I" } : Jvm.MethodName)) ∈ lw_all := lw_g (lw_at lw_m5 36 rfl) rfl
theorem q1068 : (Jvm.Cond.privateMethod ({ cls := "BeatenInsteadModel", name := "stripesAll", desc := "()I" } : Jvm.MethodName)) ∈ lw_tbl := lw_at lw_m5 37 rfl
theorem q1069 : (Jvm.Cond.instanceMethod ({ cls := "BeatenInsteadModel", name := "stripesAll", desc := "()I" } : Jvm.MethodName)) ∈ lw_all := lw_g (lw_at lw_m5 38 rfl) rfl
theorem q1070 : (Jvm.Cond.code ({ cls := "BeatenInsteadModel", name := "stripesAll", desc := "()I" } : Jvm.MethodName) prog_9_method_62_code (1 : Nat) (Option.some Jvm.ClassFile.FieldType.int)) ∈ lw_all := lw_g (lw_at lw_m5 39 rfl) rfl
theorem q1072 : (Jvm.Cond.instanceMethod ({ cls := "BeatenInsteadModel", name := "restore", desc := "()I" } : Jvm.MethodName)) ∈ lw_all := lw_g (lw_at lw_m5 41 rfl) rfl
theorem q1073 : (Jvm.Cond.selects "BeatenInsteadModel" ({ cls := "BeatenInsteadModel", name := "restore", desc := "()I" } : Jvm.MethodName) ({ cls := "BeatenInsteadModel", name := "restore", desc := "()I" } : Jvm.MethodName)) ∈ lw_all := lw_g (lw_at lw_m5 42 rfl) rfl
theorem q1074 : (Jvm.Cond.code ({ cls := "BeatenInsteadModel", name := "restore", desc := "()I" } : Jvm.MethodName) prog_9_method_64_code (2 : Nat) (Option.some Jvm.ClassFile.FieldType.int)) ∈ lw_all := lw_g (lw_at lw_m5 43 rfl) rfl
theorem q1076 : (Jvm.Cond.instanceMethod ({ cls := "BeatenInsteadModel", name := "count", desc := "(I)I" } : Jvm.MethodName)) ∈ lw_all := lw_g (lw_at lw_m5 45 rfl) rfl
theorem q1077 : (Jvm.Cond.selects "BeatenInsteadModel" ({ cls := "BeatenInsteadModel", name := "count", desc := "(I)I" } : Jvm.MethodName) ({ cls := "BeatenInsteadModel", name := "count", desc := "(I)I" } : Jvm.MethodName)) ∈ lw_all := lw_g (lw_at lw_m5 46 rfl) rfl
theorem q1078 : (Jvm.Cond.code ({ cls := "BeatenInsteadModel", name := "count", desc := "(I)I" } : Jvm.MethodName) prog_9_method_66_code (2 : Nat) (Option.some Jvm.ClassFile.FieldType.int)) ∈ lw_all := lw_g (lw_at lw_m5 47 rfl) rfl
theorem q1079 : (Jvm.Cond.methodLink "BeatenInsteadModel" (282 : Nat) ({ cls := "BeatenInsteadModel", name := "howMany", desc := "(I)I" } : Jvm.MethodName)) ∈ lw_all := lw_g (lw_at lw_m5 48 rfl) rfl
theorem q1080 : (Jvm.Cond.privateMethod ({ cls := "BeatenInsteadModel", name := "howMany", desc := "(I)I" } : Jvm.MethodName)) ∈ lw_tbl := lw_at lw_m5 49 rfl
theorem q1081 : (Jvm.Cond.instanceMethod ({ cls := "BeatenInsteadModel", name := "howMany", desc := "(I)I" } : Jvm.MethodName)) ∈ lw_all := lw_g (lw_at lw_m5 50 rfl) rfl
theorem q1082 : (Jvm.Cond.code ({ cls := "BeatenInsteadModel", name := "howMany", desc := "(I)I" } : Jvm.MethodName) prog_9_method_65_code (2 : Nat) (Option.some Jvm.ClassFile.FieldType.int)) ∈ lw_all := lw_g (lw_at lw_m5 51 rfl) rfl
theorem q1084 : (Jvm.Cond.instanceMethod ({ cls := "BeatenInsteadModel", name := "digest", desc := "()J" } : Jvm.MethodName)) ∈ lw_all := lw_g (lw_at lw_m5 53 rfl) rfl
theorem q1085 : (Jvm.Cond.selects "BeatenInsteadModel" ({ cls := "BeatenInsteadModel", name := "digest", desc := "()J" } : Jvm.MethodName) ({ cls := "BeatenInsteadModel", name := "digest", desc := "()J" } : Jvm.MethodName)) ∈ lw_all := lw_g (lw_at lw_m5 54 rfl) rfl
theorem q1086 : (Jvm.Cond.code ({ cls := "BeatenInsteadModel", name := "digest", desc := "()J" } : Jvm.MethodName) prog_9_method_70_code (2 : Nat) (Option.some Jvm.ClassFile.FieldType.long)) ∈ lw_all := lw_g (lw_at lw_m5 55 rfl) rfl
theorem q1087 : (Jvm.Cond.constantLong "BeatenInsteadModel" (294 : Nat) (877 : Int64)) ∈ lw_all := lw_g (lw_at lw_m5 56 rfl) rfl
theorem q1088 : (Jvm.Cond.methodLink "BeatenInsteadModel" (290 : Nat) ({ cls := "BeatenInsteadModel", name := "mix", desc := "(J)V" } : Jvm.MethodName)) ∈ lw_all := lw_g (lw_at lw_m5 57 rfl) rfl
theorem q1089 : (Jvm.Cond.privateMethod ({ cls := "BeatenInsteadModel", name := "mix", desc := "(J)V" } : Jvm.MethodName)) ∈ lw_tbl := lw_at lw_m5 58 rfl
theorem q1090 : (Jvm.Cond.instanceMethod ({ cls := "BeatenInsteadModel", name := "mix", desc := "(J)V" } : Jvm.MethodName)) ∈ lw_all := lw_g (lw_at lw_m5 59 rfl) rfl
theorem q1091 : (Jvm.Cond.code ({ cls := "BeatenInsteadModel", name := "mix", desc := "(J)V" } : Jvm.MethodName) prog_9_method_67_code (3 : Nat) (Option.none : Option Jvm.ClassFile.FieldType)) ∈ lw_all := lw_g (lw_at lw_m5 60 rfl) rfl
theorem q1092 : (Jvm.Cond.constantLong "BeatenInsteadModel" (285 : Nat) (31 : Int64)) ∈ lw_all := lw_g (lw_at lw_m5 61 rfl) rfl
theorem q1093 : (Jvm.Cond.methodLink "BeatenInsteadModel" (296 : Nat) ({ cls := "BeatenInsteadModel", name := "mixLesson", desc := "(I)V" } : Jvm.MethodName)) ∈ lw_all := lw_g (lw_at lw_m5 62 rfl) rfl
theorem q1094 : (Jvm.Cond.privateMethod ({ cls := "BeatenInsteadModel", name := "mixLesson", desc := "(I)V" } : Jvm.MethodName)) ∈ lw_tbl := lw_at lw_m5 63 rfl
theorem q1095 : (Jvm.Cond.instanceMethod ({ cls := "BeatenInsteadModel", name := "mixLesson", desc := "(I)V" } : Jvm.MethodName)) ∈ lw_all := lw_g (lw_at lw_m5 64 rfl) rfl
theorem q1096 : (Jvm.Cond.code ({ cls := "BeatenInsteadModel", name := "mixLesson", desc := "(I)V" } : Jvm.MethodName) prog_9_method_68_code (3 : Nat) (Option.none : Option Jvm.ClassFile.FieldType)) ∈ lw_all := lw_g (lw_at lw_m5 65 rfl) rfl
theorem q1097 : (Jvm.Cond.methodLink "BeatenInsteadModel" (299 : Nat) ({ cls := "BeatenInsteadModel", name := "mixPrince", desc := "(I)V" } : Jvm.MethodName)) ∈ lw_all := lw_g (lw_at lw_m5 66 rfl) rfl
theorem q1098 : (Jvm.Cond.privateMethod ({ cls := "BeatenInsteadModel", name := "mixPrince", desc := "(I)V" } : Jvm.MethodName)) ∈ lw_tbl := lw_at lw_m5 67 rfl
theorem q1099 : (Jvm.Cond.instanceMethod ({ cls := "BeatenInsteadModel", name := "mixPrince", desc := "(I)V" } : Jvm.MethodName)) ∈ lw_all := lw_g (lw_at lw_m5 68 rfl) rfl
theorem q1100 : (Jvm.Cond.code ({ cls := "BeatenInsteadModel", name := "mixPrince", desc := "(I)V" } : Jvm.MethodName) prog_9_method_69_code (3 : Nat) (Option.none : Option Jvm.ClassFile.FieldType)) ∈ lw_all := lw_g (lw_at lw_m5 69 rfl) rfl
theorem in_X1 : ∀ w ∈ wsX10, w ∈ lw_all := lw_in wsX10 [741, 743, 745, 747, 749, 751, 753, 755, 757, 759, 761, 763, 765, 767, 769, 771, 773, 775, 777, 779, 781, 783, 785, 787, 789, 791, 793, 795, 797, 799, 801, 803, 805, 807, 809, 811, 813, 815, 817, 819] (by decide +kernel) (by decide +kernel)
