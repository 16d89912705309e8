theorem q71 : (Jvm.Cond.initialized "BeatenInsteadLaw") ∈ lw_all := lw_g (lw_at lw_m1 0 rfl) rfl
set_option maxRecDepth 100000
theorem q87 : (Jvm.Cond.classLink "BeatenInsteadLaw" (7 : Nat) "BeatenInstead") ∈ lw_all := lw_g (lw_at lw_m1 16 rfl) rfl
theorem q89 : (Jvm.Cond.methodLink "BeatenInsteadLaw" (9 : Nat) ({ cls := "BeatenInstead", name := "<init>", desc := "()V" } : Jvm.MethodName)) ∈ lw_all := lw_g (lw_at lw_m1 18 rfl) rfl
theorem q205 : (Jvm.Cond.methodLink "BeatenInsteadLaw" (13 : Nat) ({ cls := "BeatenInstead", name := "letter", desc := "(I)I" } : Jvm.MethodName)) ∈ lw_all := lw_g (lw_at lw_m1 134 rfl) rfl
theorem q214 : (Jvm.Cond.methodLink "BeatenInsteadLaw" (18 : Nat) ({ cls := "BeatenInstead", name := "blank", desc := "()I" } : Jvm.MethodName)) ∈ lw_all := lw_g (lw_at lw_m1 143 rfl) rfl
theorem q218 : (Jvm.Cond.methodLink "BeatenInsteadLaw" (23 : Nat) ({ cls := "BeatenInstead", name := "fault", desc := "()I" } : Jvm.MethodName)) ∈ lw_all := lw_g (lw_at lw_m1 147 rfl) rfl
theorem q233 : (Jvm.Cond.methodLink "BeatenInsteadLaw" (27 : Nat) ({ cls := "BeatenInstead", name := "school", desc := "()I" } : Jvm.MethodName)) ∈ lw_all := lw_g (lw_at lw_m1 162 rfl) rfl
theorem q238 : (Jvm.Cond.methodLink "BeatenInsteadLaw" (31 : Nat) ({ cls := "BeatenInstead", name := "lesson", desc := "(II)I" } : Jvm.MethodName)) ∈ lw_all := lw_g (lw_at lw_m1 167 rfl) rfl
theorem q257 : (Jvm.Cond.methodLink "BeatenInsteadLaw" (36 : Nat) ({ cls := "BeatenInstead", name := "stripes", desc := "(I)I" } : Jvm.MethodName)) ∈ lw_all := lw_g (lw_at lw_m1 186 rfl) rfl
theorem q269 : (Jvm.Cond.methodLink "BeatenInsteadLaw" (40 : Nat) ({ cls := "BeatenInstead", name := "prince", desc := "(II)I" } : Jvm.MethodName)) ∈ lw_all := lw_g (lw_at lw_m1 198 rfl) rfl
theorem q362 : (Jvm.Cond.methodLink "BeatenInsteadLaw" (44 : Nat) ({ cls := "BeatenInstead", name := "about", desc := "(II)I" } : Jvm.MethodName)) ∈ lw_all := lw_g (lw_at lw_m2 51 rfl) rfl
theorem q435 : (Jvm.Cond.methodLink "BeatenInsteadLaw" (48 : Nat) ({ cls := "BeatenInstead", name := "as", desc := "(II)I" } : Jvm.MethodName)) ∈ lw_all := lw_g (lw_at lw_m2 124 rfl) rfl
theorem q511 : (Jvm.Cond.methodLink "BeatenInsteadLaw" (52 : Nat) ({ cls := "BeatenInstead", name := "give", desc := "(II)I" } : Jvm.MethodName)) ∈ lw_all := lw_g (lw_at lw_m2 200 rfl) rfl
theorem q515 : (Jvm.Cond.methodLink "BeatenInsteadLaw" (56 : Nat) ({ cls := "BeatenInstead", name := "fond", desc := "(III)I" } : Jvm.MethodName)) ∈ lw_all := lw_g (lw_at lw_m2 204 rfl) rfl
theorem q519 : (Jvm.Cond.methodLink "BeatenInsteadLaw" (61 : Nat) ({ cls := "BeatenInstead", name := "tenths", desc := "(II)I" } : Jvm.MethodName)) ∈ lw_all := lw_g (lw_at lw_m2 208 rfl) rfl
theorem q537 : (Jvm.Cond.methodLink "BeatenInsteadLaw" (65 : Nat) ({ cls := "BeatenInstead", name := "teach", desc := "(IIZ)I" } : Jvm.MethodName)) ∈ lw_all := lw_g (lw_at lw_m2 226 rfl) rfl
theorem q549 : (Jvm.Cond.methodLink "BeatenInsteadLaw" (70 : Nat) ({ cls := "BeatenInstead", name := "order", desc := "(II)J" } : Jvm.MethodName)) ∈ lw_all := lw_g (lw_at lw_m2 238 rfl) rfl
theorem q586 : (Jvm.Cond.methodLink "BeatenInsteadLaw" (75 : Nat) ({ cls := "BeatenInstead", name := "match", desc := "(II)I" } : Jvm.MethodName)) ∈ lw_all := lw_g (lw_at lw_m3 35 rfl) rfl
theorem q602 : (Jvm.Cond.methodLink "BeatenInsteadLaw" (79 : Nat) ({ cls := "BeatenInstead", name := "faults", desc := "(III)I" } : Jvm.MethodName)) ∈ lw_all := lw_g (lw_at lw_m3 51 rfl) rfl
theorem q615 : (Jvm.Cond.methodLink "BeatenInsteadLaw" (83 : Nat) ({ cls := "BeatenInstead", name := "hear", desc := "(IIZ)I" } : Jvm.MethodName)) ∈ lw_all := lw_g (lw_at lw_m3 64 rfl) rfl
theorem q619 : (Jvm.Cond.methodLink "BeatenInsteadLaw" (87 : Nat) ({ cls := "BeatenInstead", name := "forget", desc := "()I" } : Jvm.MethodName)) ∈ lw_all := lw_g (lw_at lw_m3 68 rfl) rfl
theorem q623 : (Jvm.Cond.methodLink "BeatenInsteadLaw" (91 : Nat) ({ cls := "BeatenInstead", name := "fondness", desc := "(I)I" } : Jvm.MethodName)) ∈ lw_all := lw_g (lw_at lw_m3 72 rfl) rfl
theorem q635 : (Jvm.Cond.methodLink "BeatenInsteadLaw" (95 : Nat) ({ cls := "BeatenInstead", name := "schools", desc := "(III)I" } : Jvm.MethodName)) ∈ lw_all := lw_g (lw_at lw_m3 84 rfl) rfl
theorem q664 : (Jvm.Cond.methodLink "BeatenInsteadLaw" (99 : Nat) ({ cls := "BeatenInstead", name := "image", desc := "()I" } : Jvm.MethodName)) ∈ lw_all := lw_g (lw_at lw_m3 113 rfl) rfl
theorem q668 : (Jvm.Cond.methodLink "BeatenInsteadLaw" (103 : Nat) ({ cls := "BeatenInstead", name := "restore", desc := "()I" } : Jvm.MethodName)) ∈ lw_all := lw_g (lw_at lw_m3 117 rfl) rfl
theorem q672 : (Jvm.Cond.methodLink "BeatenInsteadLaw" (107 : Nat) ({ cls := "BeatenInstead", name := "count", desc := "(I)I" } : Jvm.MethodName)) ∈ lw_all := lw_g (lw_at lw_m3 121 rfl) rfl
theorem q676 : (Jvm.Cond.methodLink "BeatenInsteadLaw" (111 : Nat) ({ cls := "BeatenInstead", name := "digest", desc := "()J" } : Jvm.MethodName)) ∈ lw_all := lw_g (lw_at lw_m3 125 rfl) rfl
theorem q695 : (Jvm.Cond.classLink "BeatenInsteadLaw" (10 : Nat) "BeatenInsteadModel") ∈ lw_all := lw_g (lw_at lw_m3 144 rfl) rfl
theorem q697 : (Jvm.Cond.methodLink "BeatenInsteadLaw" (12 : Nat) ({ cls := "BeatenInsteadModel", name := "<init>", desc := "()V" } : Jvm.MethodName)) ∈ lw_all := lw_g (lw_at lw_m3 146 rfl) rfl
theorem q822 : (Jvm.Cond.methodLink "BeatenInsteadLaw" (17 : Nat) ({ cls := "BeatenInsteadModel", name := "letter", desc := "(I)I" } : Jvm.MethodName)) ∈ lw_all := lw_g (lw_at lw_m4 31 rfl) rfl
theorem q829 : (Jvm.Cond.methodLink "BeatenInsteadLaw" (22 : Nat) ({ cls := "BeatenInsteadModel", name := "blank", desc := "()I" } : Jvm.MethodName)) ∈ lw_all := lw_g (lw_at lw_m4 38 rfl) rfl
theorem q833 : (Jvm.Cond.methodLink "BeatenInsteadLaw" (26 : Nat) ({ cls := "BeatenInsteadModel", name := "fault", desc := "()I" } : Jvm.MethodName)) ∈ lw_all := lw_g (lw_at lw_m4 42 rfl) rfl
theorem q853 : (Jvm.Cond.methodLink "BeatenInsteadLaw" (30 : Nat) ({ cls := "BeatenInsteadModel", name := "school", desc := "()I" } : Jvm.MethodName)) ∈ lw_all := lw_g (lw_at lw_m4 62 rfl) rfl
theorem q857 : (Jvm.Cond.methodLink "BeatenInsteadLaw" (35 : Nat) ({ cls := "BeatenInsteadModel", name := "lesson", desc := "(II)I" } : Jvm.MethodName)) ∈ lw_all := lw_g (lw_at lw_m4 66 rfl) rfl
theorem q876 : (Jvm.Cond.methodLink "BeatenInsteadLaw" (39 : Nat) ({ cls := "BeatenInsteadModel", name := "stripes", desc := "(I)I" } : Jvm.MethodName)) ∈ lw_all := lw_g (lw_at lw_m4 85 rfl) rfl
theorem q884 : (Jvm.Cond.methodLink "BeatenInsteadLaw" (43 : Nat) ({ cls := "BeatenInsteadModel", name := "prince", desc := "(II)I" } : Jvm.MethodName)) ∈ lw_all := lw_g (lw_at lw_m4 93 rfl) rfl
theorem q888 : (Jvm.Cond.methodLink "BeatenInsteadLaw" (47 : Nat) ({ cls := "BeatenInsteadModel", name := "about", desc := "(II)I" } : Jvm.MethodName)) ∈ lw_all := lw_g (lw_at lw_m4 97 rfl) rfl
theorem q907 : (Jvm.Cond.methodLink "BeatenInsteadLaw" (51 : Nat) ({ cls := "BeatenInsteadModel", name := "as", desc := "(II)I" } : Jvm.MethodName)) ∈ lw_all := lw_g (lw_at lw_m4 116 rfl) rfl
theorem q911 : (Jvm.Cond.methodLink "BeatenInsteadLaw" (55 : Nat) ({ cls := "BeatenInsteadModel", name := "give", desc := "(II)I" } : Jvm.MethodName)) ∈ lw_all := lw_g (lw_at lw_m4 120 rfl) rfl
theorem q915 : (Jvm.Cond.methodLink "BeatenInsteadLaw" (60 : Nat) ({ cls := "BeatenInsteadModel", name := "fond", desc := "(III)I" } : Jvm.MethodName)) ∈ lw_all := lw_g (lw_at lw_m4 124 rfl) rfl
theorem q919 : (Jvm.Cond.methodLink "BeatenInsteadLaw" (64 : Nat) ({ cls := "BeatenInsteadModel", name := "tenths", desc := "(II)I" } : Jvm.MethodName)) ∈ lw_all := lw_g (lw_at lw_m4 128 rfl) rfl
theorem q931 : (Jvm.Cond.methodLink "BeatenInsteadLaw" (69 : Nat) ({ cls := "BeatenInsteadModel", name := "teach", desc := "(IIZ)I" } : Jvm.MethodName)) ∈ lw_all := lw_g (lw_at lw_m4 140 rfl) rfl
theorem q939 : (Jvm.Cond.methodLink "BeatenInsteadLaw" (74 : Nat) ({ cls := "BeatenInsteadModel", name := "order", desc := "(II)J" } : Jvm.MethodName)) ∈ lw_all := lw_g (lw_at lw_m4 148 rfl) rfl
theorem q979 : (Jvm.Cond.methodLink "BeatenInsteadLaw" (78 : Nat) ({ cls := "BeatenInsteadModel", name := "match", desc := "(II)I" } : Jvm.MethodName)) ∈ lw_all := lw_g (lw_at lw_m4 188 rfl) rfl
theorem q996 : (Jvm.Cond.methodLink "BeatenInsteadLaw" (82 : Nat) ({ cls := "BeatenInsteadModel", name := "faults", desc := "(III)I" } : Jvm.MethodName)) ∈ lw_all := lw_g (lw_at lw_m4 205 rfl) rfl
theorem q1008 : (Jvm.Cond.methodLink "BeatenInsteadLaw" (86 : Nat) ({ cls := "BeatenInsteadModel", name := "hear", desc := "(IIZ)I" } : Jvm.MethodName)) ∈ lw_all := lw_g (lw_at lw_m4 217 rfl) rfl
theorem q1012 : (Jvm.Cond.methodLink "BeatenInsteadLaw" (90 : Nat) ({ cls := "BeatenInsteadModel", name := "forget", desc := "()I" } : Jvm.MethodName)) ∈ lw_all := lw_g (lw_at lw_m4 221 rfl) rfl
theorem q1016 : (Jvm.Cond.methodLink "BeatenInsteadLaw" (94 : Nat) ({ cls := "BeatenInsteadModel", name := "fondness", desc := "(I)I" } : Jvm.MethodName)) ∈ lw_all := lw_g (lw_at lw_m4 225 rfl) rfl
theorem q1028 : (Jvm.Cond.methodLink "BeatenInsteadLaw" (98 : Nat) ({ cls := "BeatenInsteadModel", name := "schools", desc := "(III)I" } : Jvm.MethodName)) ∈ lw_all := lw_g (lw_at lw_m4 237 rfl) rfl
theorem q1063 : (Jvm.Cond.methodLink "BeatenInsteadLaw" (102 : Nat) ({ cls := "BeatenInsteadModel", name := "image", desc := "()I" } : Jvm.MethodName)) ∈ lw_all := lw_g (lw_at lw_m5 32 rfl) rfl
theorem q1071 : (Jvm.Cond.methodLink "BeatenInsteadLaw" (106 : Nat) ({ cls := "BeatenInsteadModel", name := "restore", desc := "()I" } : Jvm.MethodName)) ∈ lw_all := lw_g (lw_at lw_m5 40 rfl) rfl
theorem q1075 : (Jvm.Cond.methodLink "BeatenInsteadLaw" (110 : Nat) ({ cls := "BeatenInsteadModel", name := "count", desc := "(I)I" } : Jvm.MethodName)) ∈ lw_all := lw_g (lw_at lw_m5 44 rfl) rfl
theorem q1083 : (Jvm.Cond.methodLink "BeatenInsteadLaw" (115 : Nat) ({ cls := "BeatenInsteadModel", name := "digest", desc := "()J" } : Jvm.MethodName)) ∈ lw_all := lw_g (lw_at lw_m5 52 rfl) rfl
theorem q86 : (Jvm.Cond.initialized "java/lang/System") ∈ lw_all := lw_g (lw_at lw_m1 15 rfl) rfl
set_option maxRecDepth 100000
theorem q581 : (Jvm.Cond.static ({ cls := "java/lang/System", name := "arraycopy", desc := "(Ljava/lang/Object;ILjava/lang/Object;II)V" } : Jvm.MethodName)) ∈ lw_all := lw_g (lw_at lw_m3 30 rfl) rfl
theorem q582 : (Jvm.Cond.native ({ cls := "java/lang/System", name := "arraycopy", desc := "(Ljava/lang/Object;ILjava/lang/Object;II)V" } : Jvm.MethodName)) ∈ lw_all := lw_g (lw_at lw_m3 31 rfl) rfl
theorem q96 : (Jvm.Cond.arrayOver (Jvm.ClassFile.FieldType.object "BeatenInstead$Prince")) ∈ lw_tbl := lw_at lw_m1 25 rfl
set_option maxRecDepth 100000
theorem q203 : (Jvm.Cond.arrayClass Jvm.ClassFile.FieldType.int) ∈ lw_all := lw_g (lw_at lw_m1 132 rfl) rfl
theorem q204 : (Jvm.Cond.arrayClass Jvm.ClassFile.FieldType.boolean) ∈ lw_all := lw_g (lw_at lw_m1 133 rfl) rfl
theorem q503 : (Jvm.Cond.arrayClass Jvm.ClassFile.FieldType.byte) ∈ lw_all := lw_g (lw_at lw_m2 192 rfl) rfl
/-! java/lang/Throwable -/
set_option maxRecDepth 100000
def RJ0 : String := "java/lang/Throwable"
def TJ0 : u_T := fun k => match k with
  | 0 => ("java/lang/Throwable", "cause", "Ljava/lang/Throwable;", false)
  | 1 => ("java/lang/Throwable", "stackTrace", "[Ljava/lang/StackTraceElement;", false)
  | 2 => ("java/lang/Throwable", "suppressedExceptions", "Ljava/util/List;", false)
  | 3 => ("java/lang/Throwable", "detailMessage", "Ljava/lang/String;", false)
  | _ => ("java/lang/Throwable", "backtrace", "Ljava/lang/Object;", false)
def tyJ0 : Nat → FieldType := fun k => match k with
  | 0 => .object "java/lang/Throwable"
  | 1 => .array (.object "java/lang/StackTraceElement")
  | 2 => .object "java/util/List"
  | 3 => .object "java/lang/String"
  | _ => .object "java/lang/Object"
abbrev wsJ00 : List Cond := u_ws RJ0 TJ0 5
theorem nmJ0 : ∀ a, a < 5 → ∀ b, b < 5 → a ≠ b → (TJ0 a).2.1 ≠ (TJ0 b).2.1 := by decide +kernel
theorem tyJ0_ok : ∀ k, k < 5 → parseFieldDescriptor (TJ0 k).2.2.1 = some (tyJ0 k) := by decide +kernel
abbrev cJ0_init : ByteArray := prog_17_method_2_code
def yJ0_init : MethodName := ⟨RJ0, "<init>", "(Ljava/lang/String;)V"⟩
def dkwJ0_init_1 : List UInt8 := [182, 0, 27, 87, 42, 43, 181, 0, 31, 177]
abbrev dktJ0_init_1 : List UInt8 := dkwJ0_init_1 ++ []
def dkwJ0_init_0 : List UInt8 := [42, 183, 0, 1, 42, 42, 181, 0, 7, 42, 178, 0, 13, 181, 0, 17, 42, 178, 0, 20, 181, 0, 24, 42]
abbrev dktJ0_init_0 : List UInt8 := dkwJ0_init_0 ++ dktJ0_init_1
theorem dksJ0_init_0 : cJ0_init.data.toList.drop 0 = dktJ0_init_0 := by decide +kernel
theorem dksJ0_init_1 : cJ0_init.data.toList.drop 24 = dktJ0_init_1 := dk_seg dksJ0_init_0 24 rfl rfl
theorem dJ0_init_0 : decode cJ0_init 0 = .ok (.aload_n 0, 1) := dk_42 (dk_at dksJ0_init_0 0 rfl rfl)
theorem dJ0_init_1 : decode cJ0_init 1 = .ok (.invokespecial 1, 3) := dk_183 0 1 (dk_at dksJ0_init_0 1 rfl rfl)
theorem dJ0_init_4 : decode cJ0_init 4 = .ok (.aload_n 0, 1) := dk_42 (dk_at dksJ0_init_0 4 rfl rfl)
theorem dJ0_init_5 : decode cJ0_init 5 = .ok (.aload_n 0, 1) := dk_42 (dk_at dksJ0_init_0 5 rfl rfl)
theorem dJ0_init_6 : decode cJ0_init 6 = .ok (.putfield 7, 3) := dk_181 0 7 (dk_at dksJ0_init_0 6 rfl rfl)
theorem dJ0_init_9 : decode cJ0_init 9 = .ok (.aload_n 0, 1) := dk_42 (dk_at dksJ0_init_0 9 rfl rfl)
theorem dJ0_init_10 : decode cJ0_init 10 = .ok (.getstatic 13, 3) := dk_178 0 13 (dk_at dksJ0_init_0 10 rfl rfl)
theorem dJ0_init_13 : decode cJ0_init 13 = .ok (.putfield 17, 3) := dk_181 0 17 (dk_at dksJ0_init_0 13 rfl rfl)
theorem dJ0_init_16 : decode cJ0_init 16 = .ok (.aload_n 0, 1) := dk_42 (dk_at dksJ0_init_0 16 rfl rfl)
theorem dJ0_init_17 : decode cJ0_init 17 = .ok (.getstatic 20, 3) := dk_178 0 20 (dk_at dksJ0_init_0 17 rfl rfl)
theorem dJ0_init_20 : decode cJ0_init 20 = .ok (.putfield 24, 3) := dk_181 0 24 (dk_at dksJ0_init_0 20 rfl rfl)
theorem dJ0_init_23 : decode cJ0_init 23 = .ok (.aload_n 0, 1) := dk_42 (dk_at dksJ0_init_0 23 rfl rfl)
theorem dJ0_init_24 : decode cJ0_init 24 = .ok (.invokevirtual 27, 3) := dk_182 0 27 (dk_at dksJ0_init_1 0 rfl rfl)
theorem dJ0_init_27 : decode cJ0_init 27 = .ok (.pop, 1) := dk_87 (dk_at dksJ0_init_1 3 rfl rfl)
theorem dJ0_init_28 : decode cJ0_init 28 = .ok (.aload_n 0, 1) := dk_42 (dk_at dksJ0_init_1 4 rfl rfl)
theorem dJ0_init_29 : decode cJ0_init 29 = .ok (.aload_n 1, 1) := dk_43 (dk_at dksJ0_init_1 5 rfl rfl)
theorem dJ0_init_30 : decode cJ0_init 30 = .ok (.putfield 31, 3) := dk_181 0 31 (dk_at dksJ0_init_1 6 rfl rfl)
theorem dJ0_init_33 : decode cJ0_init 33 = .ok (.return_, 1) := dk_177 (dk_at dksJ0_init_1 9 rfl rfl)
abbrev cJ0_init_2 : ByteArray := prog_17_method_1_code
def yJ0_init_2 : MethodName := ⟨RJ0, "<init>", "()V"⟩
def dkwJ0_init_2_1 : List UInt8 := [182, 0, 27, 87, 177]
abbrev dktJ0_init_2_1 : List UInt8 := dkwJ0_init_2_1 ++ []
def dkwJ0_init_2_0 : List UInt8 := [42, 183, 0, 1, 42, 42, 181, 0, 7, 42, 178, 0, 13, 181, 0, 17, 42, 178, 0, 20, 181, 0, 24, 42]
abbrev dktJ0_init_2_0 : List UInt8 := dkwJ0_init_2_0 ++ dktJ0_init_2_1
theorem dksJ0_init_2_0 : cJ0_init_2.data.toList.drop 0 = dktJ0_init_2_0 := by decide +kernel
theorem dksJ0_init_2_1 : cJ0_init_2.data.toList.drop 24 = dktJ0_init_2_1 := dk_seg dksJ0_init_2_0 24 rfl rfl
theorem dJ0_init_2_0 : decode cJ0_init_2 0 = .ok (.aload_n 0, 1) := dk_42 (dk_at dksJ0_init_2_0 0 rfl rfl)
theorem dJ0_init_2_1 : decode cJ0_init_2 1 = .ok (.invokespecial 1, 3) := dk_183 0 1 (dk_at dksJ0_init_2_0 1 rfl rfl)
theorem dJ0_init_2_4 : decode cJ0_init_2 4 = .ok (.aload_n 0, 1) := dk_42 (dk_at dksJ0_init_2_0 4 rfl rfl)
theorem dJ0_init_2_5 : decode cJ0_init_2 5 = .ok (.aload_n 0, 1) := dk_42 (dk_at dksJ0_init_2_0 5 rfl rfl)
theorem dJ0_init_2_6 : decode cJ0_init_2 6 = .ok (.putfield 7, 3) := dk_181 0 7 (dk_at dksJ0_init_2_0 6 rfl rfl)
theorem dJ0_init_2_9 : decode cJ0_init_2 9 = .ok (.aload_n 0, 1) := dk_42 (dk_at dksJ0_init_2_0 9 rfl rfl)
theorem dJ0_init_2_10 : decode cJ0_init_2 10 = .ok (.getstatic 13, 3) := dk_178 0 13 (dk_at dksJ0_init_2_0 10 rfl rfl)
theorem dJ0_init_2_13 : decode cJ0_init_2 13 = .ok (.putfield 17, 3) := dk_181 0 17 (dk_at dksJ0_init_2_0 13 rfl rfl)
theorem dJ0_init_2_16 : decode cJ0_init_2 16 = .ok (.aload_n 0, 1) := dk_42 (dk_at dksJ0_init_2_0 16 rfl rfl)
theorem dJ0_init_2_17 : decode cJ0_init_2 17 = .ok (.getstatic 20, 3) := dk_178 0 20 (dk_at dksJ0_init_2_0 17 rfl rfl)
theorem dJ0_init_2_20 : decode cJ0_init_2 20 = .ok (.putfield 24, 3) := dk_181 0 24 (dk_at dksJ0_init_2_0 20 rfl rfl)
theorem dJ0_init_2_23 : decode cJ0_init_2 23 = .ok (.aload_n 0, 1) := dk_42 (dk_at dksJ0_init_2_0 23 rfl rfl)
theorem dJ0_init_2_24 : decode cJ0_init_2 24 = .ok (.invokevirtual 27, 3) := dk_182 0 27 (dk_at dksJ0_init_2_1 0 rfl rfl)
theorem dJ0_init_2_27 : decode cJ0_init_2 27 = .ok (.pop, 1) := dk_87 (dk_at dksJ0_init_2_1 3 rfl rfl)
theorem dJ0_init_2_28 : decode cJ0_init_2 28 = .ok (.return_, 1) := dk_177 (dk_at dksJ0_init_2_1 4 rfl rfl)
theorem q79 : (Jvm.Cond.initialized "java/lang/Throwable") ∈ lw_all := lw_g (lw_at lw_m1 8 rfl) rfl
theorem q450 : (Jvm.Cond.instanceMethod ({ cls := "java/lang/Throwable", name := "<init>", desc := "(Ljava/lang/String;)V" } : Jvm.MethodName)) ∈ lw_all := lw_g (lw_at lw_m2 139 rfl) rfl
theorem q451 : (Jvm.Cond.code ({ cls := "java/lang/Throwable", name := "<init>", desc := "(Ljava/lang/String;)V" } : Jvm.MethodName) prog_17_method_2_code (2 : Nat) (Option.none : Option Jvm.ClassFile.FieldType)) ∈ lw_all := lw_g (lw_at lw_m2 140 rfl) rfl
theorem q452 : (Jvm.Cond.methodLink "java/lang/Throwable" (1 : Nat) ({ cls := "java/lang/Object", name := "<init>", desc := "()V" } : Jvm.MethodName)) ∈ lw_all := lw_g (lw_at lw_m2 141 rfl) rfl
theorem q453 : (Jvm.Cond.fieldLink "java/lang/Throwable" (13 : Nat) "java/lang/Throwable" "UNASSIGNED_STACK" "[Ljava/lang/StackTraceElement;") ∈ lw_all := lw_g (lw_at lw_m2 142 rfl) rfl
theorem q454 : (Jvm.Cond.laysStatic "java/lang/Throwable" "UNASSIGNED_STACK" "[Ljava/lang/StackTraceElement;") ∈ lw_tbl := lw_at lw_m2 143 rfl
theorem q455 : (Jvm.Cond.fieldLink "java/lang/Throwable" (20 : Nat) "java/lang/Throwable" "SUPPRESSED_SENTINEL" "Ljava/util/List;") ∈ lw_all := lw_g (lw_at lw_m2 144 rfl) rfl
theorem q456 : (Jvm.Cond.laysStatic "java/lang/Throwable" "SUPPRESSED_SENTINEL" "Ljava/util/List;") ∈ lw_tbl := lw_at lw_m2 145 rfl
theorem q457 : (Jvm.Cond.methodLink "java/lang/Throwable" (27 : Nat) ({ cls := "java/lang/Throwable", name := "fillInStackTrace", desc := "()Ljava/lang/Throwable;" } : Jvm.MethodName)) ∈ lw_all := lw_g (lw_at lw_m2 146 rfl) rfl
theorem q458 : (Jvm.Cond.instanceMethod ({ cls := "java/lang/Throwable", name := "fillInStackTrace", desc := "()Ljava/lang/Throwable;" } : Jvm.MethodName)) ∈ lw_all := lw_g (lw_at lw_m2 147 rfl) rfl
theorem q459 : (Jvm.Cond.sameMethod "java/lang/Throwable" "java/lang/Throwable" "fillInStackTrace" "()Ljava/lang/Throwable;") ∈ lw_all := lw_g (lw_at lw_m2 148 rfl) rfl
theorem q461 : (Jvm.Cond.codeSync ({ cls := "java/lang/Throwable", name := "fillInStackTrace", desc := "()Ljava/lang/Throwable;" } : Jvm.MethodName) prog_17_method_18_code (1 : Nat) (Option.some (Jvm.ClassFile.FieldType.object "java/lang/Throwable"))) ∈ lw_all := lw_g (lw_at lw_m2 150 rfl) rfl
theorem q462 : (Jvm.Cond.methodLink "java/lang/Throwable" (202 : Nat) ({ cls := "java/lang/Throwable", name := "fillInStackTrace", desc := "(I)Ljava/lang/Throwable;" } : Jvm.MethodName)) ∈ lw_all := lw_g (lw_at lw_m2 151 rfl) rfl
theorem q463 : (Jvm.Cond.privateMethod ({ cls := "java/lang/Throwable", name := "fillInStackTrace", desc := "(I)Ljava/lang/Throwable;" } : Jvm.MethodName)) ∈ lw_tbl := lw_at lw_m2 152 rfl
theorem q464 : (Jvm.Cond.instanceMethod ({ cls := "java/lang/Throwable", name := "fillInStackTrace", desc := "(I)Ljava/lang/Throwable;" } : Jvm.MethodName)) ∈ lw_all := lw_g (lw_at lw_m2 153 rfl) rfl
theorem q465 : (Jvm.Cond.instantiable "java/lang/Throwable" (6 : Nat)) ∈ lw_all := lw_g (lw_at lw_m2 154 rfl) rfl
theorem q466 : (Jvm.Cond.native ({ cls := "java/lang/Throwable", name := "fillInStackTrace", desc := "(I)Ljava/lang/Throwable;" } : Jvm.MethodName)) ∈ lw_all := lw_g (lw_at lw_m2 155 rfl) rfl
theorem q467 : (Jvm.Cond.fieldLink "java/lang/Throwable" (198 : Nat) "java/lang/Throwable" "backtrace" "Ljava/lang/Object;") ∈ lw_all := lw_g (lw_at lw_m2 156 rfl) rfl
theorem q468 : (Jvm.Cond.fieldLink "java/lang/Throwable" (31 : Nat) "java/lang/Throwable" "detailMessage" "Ljava/lang/String;") ∈ lw_all := lw_g (lw_at lw_m2 157 rfl) rfl
theorem q469 : (Jvm.Cond.fieldLink "java/lang/Throwable" (7 : Nat) "java/lang/Throwable" "cause" "Ljava/lang/Throwable;") ∈ lw_all := lw_g (lw_at lw_m2 158 rfl) rfl
theorem q470 : (Jvm.Cond.fieldLink "java/lang/Throwable" (17 : Nat) "java/lang/Throwable" "stackTrace" "[Ljava/lang/StackTraceElement;") ∈ lw_all := lw_g (lw_at lw_m2 159 rfl) rfl
theorem q471 : (Jvm.Cond.fieldLink "java/lang/Throwable" (24 : Nat) "java/lang/Throwable" "suppressedExceptions" "Ljava/util/List;") ∈ lw_all := lw_g (lw_at lw_m2 160 rfl) rfl
theorem q473 : (Jvm.Cond.soleField "java/lang/Throwable" "backtrace") ∈ lw_all := lw_g (lw_at lw_m2 162 rfl) rfl
theorem q475 : (Jvm.Cond.soleField "java/lang/Throwable" "detailMessage") ∈ lw_all := lw_g (lw_at lw_m2 164 rfl) rfl
theorem q477 : (Jvm.Cond.soleField "java/lang/Throwable" "cause") ∈ lw_all := lw_g (lw_at lw_m2 166 rfl) rfl
theorem q479 : (Jvm.Cond.soleField "java/lang/Throwable" "stackTrace") ∈ lw_all := lw_g (lw_at lw_m2 168 rfl) rfl
theorem q481 : (Jvm.Cond.soleField "java/lang/Throwable" "depth") ∈ lw_all := lw_g (lw_at lw_m2 170 rfl) rfl
theorem q483 : (Jvm.Cond.soleField "java/lang/Throwable" "suppressedExceptions") ∈ lw_all := lw_g (lw_at lw_m2 172 rfl) rfl
theorem q490 : (Jvm.Cond.declares ({ cls := "java/lang/Throwable", name := "<init>", desc := "()V" } : Jvm.MethodName)) ∈ lw_tbl := lw_at lw_m2 179 rfl
theorem q491 : (Jvm.Cond.declares ({ cls := "java/lang/Throwable", name := "<init>", desc := "(Ljava/lang/String;)V" } : Jvm.MethodName)) ∈ lw_tbl := lw_at lw_m2 180 rfl
theorem q493 : (Jvm.Cond.lays "java/lang/Throwable" "java/lang/Throwable" "cause" "Ljava/lang/Throwable;") ∈ lw_all := lw_g (lw_at lw_m2 182 rfl) rfl
theorem q494 : (Jvm.Cond.lays "java/lang/Throwable" "java/lang/Throwable" "stackTrace" "[Ljava/lang/StackTraceElement;") ∈ lw_all := lw_g (lw_at lw_m2 183 rfl) rfl
theorem q495 : (Jvm.Cond.lays "java/lang/Throwable" "java/lang/Throwable" "suppressedExceptions" "Ljava/util/List;") ∈ lw_all := lw_g (lw_at lw_m2 184 rfl) rfl
theorem q496 : (Jvm.Cond.lays "java/lang/Throwable" "java/lang/Throwable" "detailMessage" "Ljava/lang/String;") ∈ lw_all := lw_g (lw_at lw_m2 185 rfl) rfl
theorem q497 : (Jvm.Cond.lays "java/lang/Throwable" "java/lang/Throwable" "backtrace" "Ljava/lang/Object;") ∈ lw_all := lw_g (lw_at lw_m2 186 rfl) rfl
theorem q498 : (Jvm.Cond.fieldLink "java/lang/Throwable" (198 : Nat) "java/lang/Throwable" "backtrace" "Ljava/lang/Object;") ∈ lw_all := lw_g (lw_at lw_m2 187 rfl) rfl
theorem q499 : (Jvm.Cond.superclass "java/lang/Throwable" "java/lang/Object") ∈ lw_all := lw_g (lw_at lw_m2 188 rfl) rfl
theorem q500 : (Jvm.Cond.instanceMethod ({ cls := "java/lang/Throwable", name := "<init>", desc := "()V" } : Jvm.MethodName)) ∈ lw_all := lw_g (lw_at lw_m2 189 rfl) rfl
theorem q501 : (Jvm.Cond.code ({ cls := "java/lang/Throwable", name := "<init>", desc := "()V" } : Jvm.MethodName) prog_17_method_1_code (1 : Nat) (Option.none : Option Jvm.ClassFile.FieldType)) ∈ lw_all := lw_g (lw_at lw_m2 190 rfl) rfl
theorem q1102 : (Jvm.Cond.sameMethod "java/lang/Throwable" "java/lang/Throwable" "fillInStackTrace" "(I)Ljava/lang/Throwable;") ∈ lw_all := lw_g (lw_at lw_m5 71 rfl) rfl
theorem in_J0 : ∀ w ∈ wsJ00, w ∈ lw_all := lw_in wsJ00 [493, 494, 495, 496, 497] (by decide +kernel) (by decide +kernel)
/-! java/lang/Exception -/
set_option maxRecDepth 100000
def RJ1 : String := "java/lang/Exception"
abbrev cJ1_init : ByteArray := prog_11_method_2_code
def yJ1_init : MethodName := ⟨RJ1, "<init>", "(Ljava/lang/String;)V"⟩
def dkwJ1_init_0 : List UInt8 := [42, 43, 183, 0, 7, 177]
abbrev dktJ1_init_0 : List UInt8 := dkwJ1_init_0 ++ []
theorem dksJ1_init_0 : cJ1_init.data.toList.drop 0 = dktJ1_init_0 := by decide +kernel
theorem dJ1_init_0 : decode cJ1_init 0 = .ok (.aload_n 0, 1) := dk_42 (dk_at dksJ1_init_0 0 rfl rfl)
theorem dJ1_init_1 : decode cJ1_init 1 = .ok (.aload_n 1, 1) := dk_43 (dk_at dksJ1_init_0 1 rfl rfl)
theorem dJ1_init_2 : decode cJ1_init 2 = .ok (.invokespecial 7, 3) := dk_183 0 7 (dk_at dksJ1_init_0 2 rfl rfl)
theorem dJ1_init_5 : decode cJ1_init 5 = .ok (.return_, 1) := dk_177 (dk_at dksJ1_init_0 5 rfl rfl)
theorem q80 : (Jvm.Cond.initialized "java/lang/Exception") ∈ lw_all := lw_g (lw_at lw_m1 9 rfl) rfl
theorem q447 : (Jvm.Cond.instanceMethod ({ cls := "java/lang/Exception", name := "<init>", desc := "(Ljava/lang/String;)V" } : Jvm.MethodName)) ∈ lw_all := lw_g (lw_at lw_m2 136 rfl) rfl
theorem q448 : (Jvm.Cond.code ({ cls := "java/lang/Exception", name := "<init>", desc := "(Ljava/lang/String;)V" } : Jvm.MethodName) prog_11_method_2_code (2 : Nat) (Option.none : Option Jvm.ClassFile.FieldType)) ∈ lw_all := lw_g (lw_at lw_m2 137 rfl) rfl
theorem q449 : (Jvm.Cond.methodLink "java/lang/Exception" (7 : Nat) ({ cls := "java/lang/Throwable", name := "<init>", desc := "(Ljava/lang/String;)V" } : Jvm.MethodName)) ∈ lw_all := lw_g (lw_at lw_m2 138 rfl) rfl
theorem q488 : (Jvm.Cond.declares ({ cls := "java/lang/Exception", name := "<init>", desc := "()V" } : Jvm.MethodName)) ∈ lw_tbl := lw_at lw_m2 177 rfl
theorem q489 : (Jvm.Cond.declares ({ cls := "java/lang/Exception", name := "<init>", desc := "(Ljava/lang/String;)V" } : Jvm.MethodName)) ∈ lw_tbl := lw_at lw_m2 178 rfl
/-! java/lang/RuntimeException -/
set_option maxRecDepth 100000
def RJ2 : String := "java/lang/RuntimeException"
abbrev cJ2_init : ByteArray := prog_14_method_2_code
def yJ2_init : MethodName := ⟨RJ2, "<init>", "(Ljava/lang/String;)V"⟩
def dkwJ2_init_0 : List UInt8 := [42, 43, 183, 0, 7, 177]
abbrev dktJ2_init_0 : List UInt8 := dkwJ2_init_0 ++ []
theorem dksJ2_init_0 : cJ2_init.data.toList.drop 0 = dktJ2_init_0 := by decide +kernel
theorem dJ2_init_0 : decode cJ2_init 0 = .ok (.aload_n 0, 1) := dk_42 (dk_at dksJ2_init_0 0 rfl rfl)
theorem dJ2_init_1 : decode cJ2_init 1 = .ok (.aload_n 1, 1) := dk_43 (dk_at dksJ2_init_0 1 rfl rfl)
theorem dJ2_init_2 : decode cJ2_init 2 = .ok (.invokespecial 7, 3) := dk_183 0 7 (dk_at dksJ2_init_0 2 rfl rfl)
theorem dJ2_init_5 : decode cJ2_init 5 = .ok (.return_, 1) := dk_177 (dk_at dksJ2_init_0 5 rfl rfl)
theorem q81 : (Jvm.Cond.initialized "java/lang/RuntimeException") ∈ lw_all := lw_g (lw_at lw_m1 10 rfl) rfl
theorem q444 : (Jvm.Cond.instanceMethod ({ cls := "java/lang/RuntimeException", name := "<init>", desc := "(Ljava/lang/String;)V" } : Jvm.MethodName)) ∈ lw_all := lw_g (lw_at lw_m2 133 rfl) rfl
theorem q445 : (Jvm.Cond.code ({ cls := "java/lang/RuntimeException", name := "<init>", desc := "(Ljava/lang/String;)V" } : Jvm.MethodName) prog_14_method_2_code (2 : Nat) (Option.none : Option Jvm.ClassFile.FieldType)) ∈ lw_all := lw_g (lw_at lw_m2 134 rfl) rfl
theorem q446 : (Jvm.Cond.methodLink "java/lang/RuntimeException" (7 : Nat) ({ cls := "java/lang/Exception", name := "<init>", desc := "(Ljava/lang/String;)V" } : Jvm.MethodName)) ∈ lw_all := lw_g (lw_at lw_m2 135 rfl) rfl
theorem q486 : (Jvm.Cond.declares ({ cls := "java/lang/RuntimeException", name := "<init>", desc := "()V" } : Jvm.MethodName)) ∈ lw_tbl := lw_at lw_m2 175 rfl
theorem q487 : (Jvm.Cond.declares ({ cls := "java/lang/RuntimeException", name := "<init>", desc := "(Ljava/lang/String;)V" } : Jvm.MethodName)) ∈ lw_tbl := lw_at lw_m2 176 rfl
/-! java/lang/ClassCastException -/
set_option maxRecDepth 100000
def RJ3 : String := "java/lang/ClassCastException"
def TJ3 : u_T := fun k => match k with
  | 0 => ("java/lang/Throwable", "backtrace", "Ljava/lang/Object;", false)
  | 1 => ("java/lang/Throwable", "detailMessage", "Ljava/lang/String;", false)
  | 2 => ("java/lang/Throwable", "cause", "Ljava/lang/Throwable;", false)
  | 3 => ("java/lang/Throwable", "stackTrace", "[Ljava/lang/StackTraceElement;", false)
  | 4 => ("java/lang/Throwable", "depth", "I", false)
  | _ => ("java/lang/Throwable", "suppressedExceptions", "Ljava/util/List;", false)
def tyJ3 : Nat → FieldType := fun k => match k with
  | 0 => .object "java/lang/Object"
  | 1 => .object "java/lang/String"
  | 2 => .object "java/lang/Throwable"
  | 3 => .array (.object "java/lang/StackTraceElement")
  | 4 => .int
  | _ => .object "java/util/List"
abbrev wsJ30 : List Cond := u_ws RJ3 TJ3 6
theorem nmJ3 : ∀ a, a < 6 → ∀ b, b < 6 → a ≠ b → (TJ3 a).2.1 ≠ (TJ3 b).2.1 := by decide +kernel
theorem tyJ3_ok : ∀ k, k < 6 → parseFieldDescriptor (TJ3 k).2.2.1 = some (tyJ3 k) := by decide +kernel
abbrev cJ3_init : ByteArray := prog_10_method_2_code
def yJ3_init : MethodName := ⟨RJ3, "<init>", "(Ljava/lang/String;)V"⟩
def dkwJ3_init_0 : List UInt8 := [42, 43, 183, 0, 7, 177]
abbrev dktJ3_init_0 : List UInt8 := dkwJ3_init_0 ++ []
theorem dksJ3_init_0 : cJ3_init.data.toList.drop 0 = dktJ3_init_0 := by decide +kernel
theorem dJ3_init_0 : decode cJ3_init 0 = .ok (.aload_n 0, 1) := dk_42 (dk_at dksJ3_init_0 0 rfl rfl)
theorem dJ3_init_1 : decode cJ3_init 1 = .ok (.aload_n 1, 1) := dk_43 (dk_at dksJ3_init_0 1 rfl rfl)
theorem dJ3_init_2 : decode cJ3_init 2 = .ok (.invokespecial 7, 3) := dk_183 0 7 (dk_at dksJ3_init_0 2 rfl rfl)
theorem dJ3_init_5 : decode cJ3_init 5 = .ok (.return_, 1) := dk_177 (dk_at dksJ3_init_0 5 rfl rfl)
theorem q82 : (Jvm.Cond.initialized "java/lang/ClassCastException") ∈ lw_all := lw_g (lw_at lw_m1 11 rfl) rfl
theorem q440 : (Jvm.Cond.instantiable "java/lang/ClassCastException" (6 : Nat)) ∈ lw_all := lw_g (lw_at lw_m2 129 rfl) rfl
theorem q441 : (Jvm.Cond.instanceMethod ({ cls := "java/lang/ClassCastException", name := "<init>", desc := "(Ljava/lang/String;)V" } : Jvm.MethodName)) ∈ lw_all := lw_g (lw_at lw_m2 130 rfl) rfl
theorem q442 : (Jvm.Cond.code ({ cls := "java/lang/ClassCastException", name := "<init>", desc := "(Ljava/lang/String;)V" } : Jvm.MethodName) prog_10_method_2_code (2 : Nat) (Option.none : Option Jvm.ClassFile.FieldType)) ∈ lw_all := lw_g (lw_at lw_m2 131 rfl) rfl
theorem q443 : (Jvm.Cond.methodLink "java/lang/ClassCastException" (7 : Nat) ({ cls := "java/lang/RuntimeException", name := "<init>", desc := "(Ljava/lang/String;)V" } : Jvm.MethodName)) ∈ lw_all := lw_g (lw_at lw_m2 132 rfl) rfl
theorem q460 : (Jvm.Cond.selects "java/lang/ClassCastException" ({ cls := "java/lang/Throwable", name := "fillInStackTrace", desc := "()Ljava/lang/Throwable;" } : Jvm.MethodName) ({ cls := "java/lang/Throwable", name := "fillInStackTrace", desc := "()Ljava/lang/Throwable;" } : Jvm.MethodName)) ∈ lw_all := lw_g (lw_at lw_m2 149 rfl) rfl
theorem q472 : (Jvm.Cond.lays "java/lang/ClassCastException" "java/lang/Throwable" "backtrace" "Ljava/lang/Object;") ∈ lw_all := lw_g (lw_at lw_m2 161 rfl) rfl
theorem q474 : (Jvm.Cond.lays "java/lang/ClassCastException" "java/lang/Throwable" "detailMessage" "Ljava/lang/String;") ∈ lw_all := lw_g (lw_at lw_m2 163 rfl) rfl
theorem q476 : (Jvm.Cond.lays "java/lang/ClassCastException" "java/lang/Throwable" "cause" "Ljava/lang/Throwable;") ∈ lw_all := lw_g (lw_at lw_m2 165 rfl) rfl
theorem q478 : (Jvm.Cond.lays "java/lang/ClassCastException" "java/lang/Throwable" "stackTrace" "[Ljava/lang/StackTraceElement;") ∈ lw_all := lw_g (lw_at lw_m2 167 rfl) rfl
theorem q480 : (Jvm.Cond.lays "java/lang/ClassCastException" "java/lang/Throwable" "depth" "I") ∈ lw_all := lw_g (lw_at lw_m2 169 rfl) rfl
theorem q482 : (Jvm.Cond.lays "java/lang/ClassCastException" "java/lang/Throwable" "suppressedExceptions" "Ljava/util/List;") ∈ lw_all := lw_g (lw_at lw_m2 171 rfl) rfl
theorem q484 : (Jvm.Cond.superclass "java/lang/ClassCastException" "java/lang/RuntimeException") ∈ lw_all := lw_g (lw_at lw_m2 173 rfl) rfl
theorem q485 : (Jvm.Cond.castable "java/lang/ClassCastException" "java/lang/ClassCastException") ∈ lw_tbl := lw_at lw_m2 174 rfl
theorem q492 : (Jvm.Cond.selects "java/lang/ClassCastException" ({ cls := "java/lang/Throwable", name := "fillInStackTrace", desc := "(I)Ljava/lang/Throwable;" } : Jvm.MethodName) ({ cls := "java/lang/Throwable", name := "fillInStackTrace", desc := "(I)Ljava/lang/Throwable;" } : Jvm.MethodName)) ∈ lw_all := lw_g (lw_at lw_m2 181 rfl) rfl
theorem in_J3 : ∀ w ∈ wsJ30, w ∈ lw_all := lw_in wsJ30 [472, 474, 476, 478, 480, 482] (by decide +kernel) (by decide +kernel)
/-! java/lang/String -/
set_option maxRecDepth 100000
def RJ4 : String := "java/lang/String"
def TJ4 : u_T := fun k => match k with
  | 0 => ("java/lang/String", "value", "[B", true)
  | _ => ("java/lang/String", "coder", "B", true)
def tyJ4 : Nat → FieldType := fun k => match k with
  | 0 => .array .byte
  | _ => .byte
abbrev wsJ40 : List Cond := u_ws RJ4 TJ4 2
theorem nmJ4 : ∀ a, a < 2 → ∀ b, b < 2 → a ≠ b → (TJ4 a).2.1 ≠ (TJ4 b).2.1 := by decide +kernel
theorem tyJ4_ok : ∀ k, k < 2 → parseFieldDescriptor (TJ4 k).2.2.1 = some (tyJ4 k) := by decide +kernel
theorem q83 : (Jvm.Cond.initialized "java/lang/String") ∈ lw_all := lw_g (lw_at lw_m1 12 rfl) rfl
theorem q502 : (Jvm.Cond.instantiable "java/lang/String" (4 : Nat)) ∈ lw_all := lw_g (lw_at lw_m2 191 rfl) rfl
theorem q504 : (Jvm.Cond.laysFinal "java/lang/String" "java/lang/String" "value" "[B") ∈ lw_all := lw_g (lw_at lw_m2 193 rfl) rfl
theorem q505 : (Jvm.Cond.soleField "java/lang/String" "value") ∈ lw_all := lw_g (lw_at lw_m2 194 rfl) rfl
theorem q506 : (Jvm.Cond.laysFinal "java/lang/String" "java/lang/String" "coder" "B") ∈ lw_all := lw_g (lw_at lw_m2 195 rfl) rfl
theorem q507 : (Jvm.Cond.soleField "java/lang/String" "coder") ∈ lw_all := lw_g (lw_at lw_m2 196 rfl) rfl
theorem in_J4 : ∀ w ∈ wsJ40, w ∈ lw_all := lw_in wsJ40 [504, 506] (by decide +kernel) (by decide +kernel)
/-! java/lang/Math -/
set_option maxRecDepth 100000
def RJ5 : String := "java/lang/Math"
abbrev cJ5_min : ByteArray := prog_13_method_69_code
def yJ5_min : MethodName := ⟨RJ5, "min", "(II)I"⟩
def dkwJ5_min_0 : List UInt8 := [26, 27, 163, 0, 7, 26, 167, 0, 4, 27, 172]
abbrev dktJ5_min_0 : List UInt8 := dkwJ5_min_0 ++ []
theorem dksJ5_min_0 : cJ5_min.data.toList.drop 0 = dktJ5_min_0 := by decide +kernel
theorem dJ5_min_0 : decode cJ5_min 0 = .ok (.iload_n 0, 1) := dk_26 (dk_at dksJ5_min_0 0 rfl rfl)
theorem dJ5_min_1 : decode cJ5_min 1 = .ok (.iload_n 1, 1) := dk_27 (dk_at dksJ5_min_0 1 rfl rfl)
theorem dJ5_min_2 : decode cJ5_min 2 = .ok (.if_icmp .gt 7, 3) := dk_163 0 7 (dk_at dksJ5_min_0 2 rfl rfl)
theorem dJ5_min_5 : decode cJ5_min 5 = .ok (.iload_n 0, 1) := dk_26 (dk_at dksJ5_min_0 5 rfl rfl)
theorem dJ5_min_6 : decode cJ5_min 6 = .ok (.goto 4, 3) := dk_167 0 4 (dk_at dksJ5_min_0 6 rfl rfl)
theorem dJ5_min_9 : decode cJ5_min 9 = .ok (.iload_n 1, 1) := dk_27 (dk_at dksJ5_min_0 9 rfl rfl)
theorem dJ5_min_10 : decode cJ5_min 10 = .ok (.ireturn, 1) := dk_172 (dk_at dksJ5_min_0 10 rfl rfl)
abbrev cJ5_max : ByteArray := prog_13_method_65_code
def yJ5_max : MethodName := ⟨RJ5, "max", "(II)I"⟩
def dkwJ5_max_0 : List UInt8 := [26, 27, 161, 0, 7, 26, 167, 0, 4, 27, 172]
abbrev dktJ5_max_0 : List UInt8 := dkwJ5_max_0 ++ []
theorem dksJ5_max_0 : cJ5_max.data.toList.drop 0 = dktJ5_max_0 := by decide +kernel
theorem dJ5_max_0 : decode cJ5_max 0 = .ok (.iload_n 0, 1) := dk_26 (dk_at dksJ5_max_0 0 rfl rfl)
theorem dJ5_max_1 : decode cJ5_max 1 = .ok (.iload_n 1, 1) := dk_27 (dk_at dksJ5_max_0 1 rfl rfl)
theorem dJ5_max_2 : decode cJ5_max 2 = .ok (.if_icmp .lt 7, 3) := dk_161 0 7 (dk_at dksJ5_max_0 2 rfl rfl)
theorem dJ5_max_5 : decode cJ5_max 5 = .ok (.iload_n 0, 1) := dk_26 (dk_at dksJ5_max_0 5 rfl rfl)
theorem dJ5_max_6 : decode cJ5_max 6 = .ok (.goto 4, 3) := dk_167 0 4 (dk_at dksJ5_max_0 6 rfl rfl)
theorem dJ5_max_9 : decode cJ5_max 9 = .ok (.iload_n 1, 1) := dk_27 (dk_at dksJ5_max_0 9 rfl rfl)
theorem dJ5_max_10 : decode cJ5_max 10 = .ok (.ireturn, 1) := dk_172 (dk_at dksJ5_max_0 10 rfl rfl)
theorem q84 : (Jvm.Cond.initialized "java/lang/Math") ∈ lw_all := lw_g (lw_at lw_m1 13 rfl) rfl
theorem q532 : (Jvm.Cond.static ({ cls := "java/lang/Math", name := "min", desc := "(II)I" } : Jvm.MethodName)) ∈ lw_all := lw_g (lw_at lw_m2 221 rfl) rfl
theorem q533 : (Jvm.Cond.code ({ cls := "java/lang/Math", name := "min", desc := "(II)I" } : Jvm.MethodName) prog_13_method_69_code (2 : Nat) (Option.some Jvm.ClassFile.FieldType.int)) ∈ lw_all := lw_g (lw_at lw_m2 222 rfl) rfl
theorem q535 : (Jvm.Cond.static ({ cls := "java/lang/Math", name := "max", desc := "(II)I" } : Jvm.MethodName)) ∈ lw_all := lw_g (lw_at lw_m2 224 rfl) rfl
theorem q536 : (Jvm.Cond.code ({ cls := "java/lang/Math", name := "max", desc := "(II)I" } : Jvm.MethodName) prog_13_method_65_code (2 : Nat) (Option.some Jvm.ClassFile.FieldType.int)) ∈ lw_all := lw_g (lw_at lw_m2 225 rfl) rfl
/-! java/lang/Integer -/
set_option maxRecDepth 100000
def RJ6 : String := "java/lang/Integer"
abbrev cJ6_bitCount : ByteArray := prog_12_method_49_code
def yJ6_bitCount : MethodName := ⟨RJ6, "bitCount", "(I)I"⟩
def dkwJ6_bitCount_2 : List UInt8 := [26, 16, 63, 126, 172]
abbrev dktJ6_bitCount_2 : List UInt8 := dkwJ6_bitCount_2 ++ []
def dkwJ6_bitCount_1 : List UInt8 := [26, 26, 7, 124, 96, 19, 1, 11, 126, 59, 26, 26, 16, 8, 124, 96, 59, 26, 26, 16, 16, 124, 96, 59]
abbrev dktJ6_bitCount_1 : List UInt8 := dkwJ6_bitCount_1 ++ dktJ6_bitCount_2
def dkwJ6_bitCount_0 : List UInt8 := [26, 26, 4, 124, 19, 1, 9, 126, 100, 59, 26, 19, 1, 10, 126, 26, 5, 124, 19, 1, 10, 126, 96, 59]
abbrev dktJ6_bitCount_0 : List UInt8 := dkwJ6_bitCount_0 ++ dktJ6_bitCount_1
theorem dksJ6_bitCount_0 : cJ6_bitCount.data.toList.drop 0 = dktJ6_bitCount_0 := by decide +kernel
theorem dksJ6_bitCount_1 : cJ6_bitCount.data.toList.drop 24 = dktJ6_bitCount_1 := dk_seg dksJ6_bitCount_0 24 rfl rfl
theorem dksJ6_bitCount_2 : cJ6_bitCount.data.toList.drop 48 = dktJ6_bitCount_2 := dk_seg dksJ6_bitCount_1 24 rfl rfl
theorem dJ6_bitCount_0 : decode cJ6_bitCount 0 = .ok (.iload_n 0, 1) := dk_26 (dk_at dksJ6_bitCount_0 0 rfl rfl)
theorem dJ6_bitCount_1 : decode cJ6_bitCount 1 = .ok (.iload_n 0, 1) := dk_26 (dk_at dksJ6_bitCount_0 1 rfl rfl)
theorem dJ6_bitCount_2 : decode cJ6_bitCount 2 = .ok (.iconst 1, 1) := dk_4 (dk_at dksJ6_bitCount_0 2 rfl rfl)
theorem dJ6_bitCount_3 : decode cJ6_bitCount 3 = .ok (.iushr, 1) := dk_124 (dk_at dksJ6_bitCount_0 3 rfl rfl)
theorem dJ6_bitCount_4 : decode cJ6_bitCount 4 = .ok (.ldc_w 265, 3) := dk_19 1 9 (dk_at dksJ6_bitCount_0 4 rfl rfl)
theorem dJ6_bitCount_7 : decode cJ6_bitCount 7 = .ok (.iand, 1) := dk_126 (dk_at dksJ6_bitCount_0 7 rfl rfl)
theorem dJ6_bitCount_8 : decode cJ6_bitCount 8 = .ok (.isub, 1) := dk_100 (dk_at dksJ6_bitCount_0 8 rfl rfl)
theorem dJ6_bitCount_9 : decode cJ6_bitCount 9 = .ok (.istore_n 0, 1) := dk_59 (dk_at dksJ6_bitCount_0 9 rfl rfl)
theorem dJ6_bitCount_10 : decode cJ6_bitCount 10 = .ok (.iload_n 0, 1) := dk_26 (dk_at dksJ6_bitCount_0 10 rfl rfl)
theorem dJ6_bitCount_11 : decode cJ6_bitCount 11 = .ok (.ldc_w 266, 3) := dk_19 1 10 (dk_at dksJ6_bitCount_0 11 rfl rfl)
theorem dJ6_bitCount_14 : decode cJ6_bitCount 14 = .ok (.iand, 1) := dk_126 (dk_at dksJ6_bitCount_0 14 rfl rfl)
theorem dJ6_bitCount_15 : decode cJ6_bitCount 15 = .ok (.iload_n 0, 1) := dk_26 (dk_at dksJ6_bitCount_0 15 rfl rfl)
theorem dJ6_bitCount_16 : decode cJ6_bitCount 16 = .ok (.iconst 2, 1) := dk_5 (dk_at dksJ6_bitCount_0 16 rfl rfl)
theorem dJ6_bitCount_17 : decode cJ6_bitCount 17 = .ok (.iushr, 1) := dk_124 (dk_at dksJ6_bitCount_0 17 rfl rfl)
theorem dJ6_bitCount_18 : decode cJ6_bitCount 18 = .ok (.ldc_w 266, 3) := dk_19 1 10 (dk_at dksJ6_bitCount_0 18 rfl rfl)
theorem dJ6_bitCount_21 : decode cJ6_bitCount 21 = .ok (.iand, 1) := dk_126 (dk_at dksJ6_bitCount_0 21 rfl rfl)
theorem dJ6_bitCount_22 : decode cJ6_bitCount 22 = .ok (.iadd, 1) := dk_96 (dk_at dksJ6_bitCount_0 22 rfl rfl)
theorem dJ6_bitCount_23 : decode cJ6_bitCount 23 = .ok (.istore_n 0, 1) := dk_59 (dk_at dksJ6_bitCount_0 23 rfl rfl)
theorem dJ6_bitCount_24 : decode cJ6_bitCount 24 = .ok (.iload_n 0, 1) := dk_26 (dk_at dksJ6_bitCount_1 0 rfl rfl)
theorem dJ6_bitCount_25 : decode cJ6_bitCount 25 = .ok (.iload_n 0, 1) := dk_26 (dk_at dksJ6_bitCount_1 1 rfl rfl)
theorem dJ6_bitCount_26 : decode cJ6_bitCount 26 = .ok (.iconst 4, 1) := dk_7 (dk_at dksJ6_bitCount_1 2 rfl rfl)
theorem dJ6_bitCount_27 : decode cJ6_bitCount 27 = .ok (.iushr, 1) := dk_124 (dk_at dksJ6_bitCount_1 3 rfl rfl)
theorem dJ6_bitCount_28 : decode cJ6_bitCount 28 = .ok (.iadd, 1) := dk_96 (dk_at dksJ6_bitCount_1 4 rfl rfl)
theorem dJ6_bitCount_29 : decode cJ6_bitCount 29 = .ok (.ldc_w 267, 3) := dk_19 1 11 (dk_at dksJ6_bitCount_1 5 rfl rfl)
theorem dJ6_bitCount_32 : decode cJ6_bitCount 32 = .ok (.iand, 1) := dk_126 (dk_at dksJ6_bitCount_1 8 rfl rfl)
theorem dJ6_bitCount_33 : decode cJ6_bitCount 33 = .ok (.istore_n 0, 1) := dk_59 (dk_at dksJ6_bitCount_1 9 rfl rfl)
theorem dJ6_bitCount_34 : decode cJ6_bitCount 34 = .ok (.iload_n 0, 1) := dk_26 (dk_at dksJ6_bitCount_1 10 rfl rfl)
theorem dJ6_bitCount_35 : decode cJ6_bitCount 35 = .ok (.iload_n 0, 1) := dk_26 (dk_at dksJ6_bitCount_1 11 rfl rfl)
theorem dJ6_bitCount_36 : decode cJ6_bitCount 36 = .ok (.bipush 8, 2) := dk_16 8 (dk_at dksJ6_bitCount_1 12 rfl rfl)
theorem dJ6_bitCount_38 : decode cJ6_bitCount 38 = .ok (.iushr, 1) := dk_124 (dk_at dksJ6_bitCount_1 14 rfl rfl)
theorem dJ6_bitCount_39 : decode cJ6_bitCount 39 = .ok (.iadd, 1) := dk_96 (dk_at dksJ6_bitCount_1 15 rfl rfl)
theorem dJ6_bitCount_40 : decode cJ6_bitCount 40 = .ok (.istore_n 0, 1) := dk_59 (dk_at dksJ6_bitCount_1 16 rfl rfl)
theorem dJ6_bitCount_41 : decode cJ6_bitCount 41 = .ok (.iload_n 0, 1) := dk_26 (dk_at dksJ6_bitCount_1 17 rfl rfl)
theorem dJ6_bitCount_42 : decode cJ6_bitCount 42 = .ok (.iload_n 0, 1) := dk_26 (dk_at dksJ6_bitCount_1 18 rfl rfl)
theorem dJ6_bitCount_43 : decode cJ6_bitCount 43 = .ok (.bipush 16, 2) := dk_16 16 (dk_at dksJ6_bitCount_1 19 rfl rfl)
theorem dJ6_bitCount_45 : decode cJ6_bitCount 45 = .ok (.iushr, 1) := dk_124 (dk_at dksJ6_bitCount_1 21 rfl rfl)
theorem dJ6_bitCount_46 : decode cJ6_bitCount 46 = .ok (.iadd, 1) := dk_96 (dk_at dksJ6_bitCount_1 22 rfl rfl)
theorem dJ6_bitCount_47 : decode cJ6_bitCount 47 = .ok (.istore_n 0, 1) := dk_59 (dk_at dksJ6_bitCount_1 23 rfl rfl)
theorem dJ6_bitCount_48 : decode cJ6_bitCount 48 = .ok (.iload_n 0, 1) := dk_26 (dk_at dksJ6_bitCount_2 0 rfl rfl)
theorem dJ6_bitCount_49 : decode cJ6_bitCount 49 = .ok (.bipush 63, 2) := dk_16 63 (dk_at dksJ6_bitCount_2 1 rfl rfl)
theorem dJ6_bitCount_51 : decode cJ6_bitCount 51 = .ok (.iand, 1) := dk_126 (dk_at dksJ6_bitCount_2 3 rfl rfl)
theorem dJ6_bitCount_52 : decode cJ6_bitCount 52 = .ok (.ireturn, 1) := dk_172 (dk_at dksJ6_bitCount_2 4 rfl rfl)
theorem q85 : (Jvm.Cond.initialized "java/lang/Integer") ∈ lw_all := lw_g (lw_at lw_m1 14 rfl) rfl
theorem q566 : (Jvm.Cond.static ({ cls := "java/lang/Integer", name := "bitCount", desc := "(I)I" } : Jvm.MethodName)) ∈ lw_all := lw_g (lw_at lw_m3 15 rfl) rfl
theorem q567 : (Jvm.Cond.code ({ cls := "java/lang/Integer", name := "bitCount", desc := "(I)I" } : Jvm.MethodName) prog_12_method_49_code (1 : Nat) (Option.some Jvm.ClassFile.FieldType.int)) ∈ lw_all := lw_g (lw_at lw_m3 16 rfl) rfl
theorem q568 : (Jvm.Cond.constant "java/lang/Integer" (265 : Nat) (1431655765 : Int32)) ∈ lw_all := lw_g (lw_at lw_m3 17 rfl) rfl
theorem q569 : (Jvm.Cond.constant "java/lang/Integer" (266 : Nat) (858993459 : Int32)) ∈ lw_all := lw_g (lw_at lw_m3 18 rfl) rfl
theorem q570 : (Jvm.Cond.constant "java/lang/Integer" (267 : Nat) (252645135 : Int32)) ∈ lw_all := lw_g (lw_at lw_m3 19 rfl) rfl
/-! java/lang/Object -/
set_option maxRecDepth 100000
def RJ7 : String := "java/lang/Object"
abbrev cJ7_init : ByteArray := object_method_1_code
def yJ7_init : MethodName := ⟨RJ7, "<init>", "()V"⟩
theorem dJ7_init_0 : decode cJ7_init 0 = .ok (.return_, 1) := by decide +kernel
theorem q93 : (Jvm.Cond.instanceMethod ({ cls := "java/lang/Object", name := "<init>", desc := "()V" } : Jvm.MethodName)) ∈ lw_all := lw_g (lw_at lw_m1 22 rfl) rfl
theorem q94 : (Jvm.Cond.code ({ cls := "java/lang/Object", name := "<init>", desc := "()V" } : Jvm.MethodName) object_method_1_code (1 : Nat) (Option.none : Option Jvm.ClassFile.FieldType)) ∈ lw_all := lw_g (lw_at lw_m1 23 rfl) rfl
/-! BeatenInstead$Prince -/
set_option maxRecDepth 100000
def RX2 : String := "BeatenInstead$Prince"
def TX2 : u_T := fun k => match k with
  | 0 => ("BeatenInstead$Prince", "number", "I", false)
  | 1 => ("BeatenInstead$Prince", "wit", "I", false)
  | 2 => ("BeatenInstead$Prince", "boy", "I", false)
  | 3 => ("BeatenInstead$Prince", "learnt", "I", false)
  | 4 => ("BeatenInstead$Prince", "keptBoy", "I", false)
  | _ => ("BeatenInstead$Prince", "keptLearnt", "I", false)
def tyX2 : Nat → FieldType := fun k => match k with
  | 0 => .int
  | 1 => .int
  | 2 => .int
  | 3 => .int
  | 4 => .int
  | _ => .int
abbrev wsX20 : List Cond := u_ws RX2 TX2 6
theorem nmX2 : ∀ a, a < 6 → ∀ b, b < 6 → a ≠ b → (TX2 a).2.1 ≠ (TX2 b).2.1 := by decide +kernel
theorem tyX2_ok : ∀ k, k < 6 → parseFieldDescriptor (TX2 k).2.2.1 = some (tyX2 k) := by decide +kernel
abbrev cX2_init : ByteArray := prog_6_method_1_code
def yX2_init : MethodName := ⟨RX2, "<init>", "()V"⟩
theorem dX2_init_0 : decode cX2_init 0 = .ok (.aload_n 0, 1) := by decide +kernel
theorem dX2_init_1 : decode cX2_init 1 = .ok (.invokespecial 1, 3) := by decide +kernel
theorem dX2_init_4 : decode cX2_init 4 = .ok (.return_, 1) := by decide +kernel
abbrev cX2_kind : ByteArray := prog_6_method_2_code
def yX2_kind : MethodName := ⟨RX2, "kind", "()I"⟩
theorem dX2_kind_0 : decode cX2_kind 0 = .ok (.iconst 0, 1) := by decide +kernel
theorem dX2_kind_1 : decode cX2_kind 1 = .ok (.ireturn, 1) := by decide +kernel
abbrev cX2_feelsAll : ByteArray := prog_6_method_4_code
def yX2_feelsAll : MethodName := ⟨RX2, "feelsAll", "(I)I"⟩
def dkwX2_feelsAll_0 : List UInt8 := [42, 27, 182, 0, 7, 42, 182, 0, 13, 96, 172]
abbrev dktX2_feelsAll_0 : List UInt8 := dkwX2_feelsAll_0 ++ []
theorem dksX2_feelsAll_0 : cX2_feelsAll.data.toList.drop 0 = dktX2_feelsAll_0 := by decide +kernel
theorem dX2_feelsAll_0 : decode cX2_feelsAll 0 = .ok (.aload_n 0, 1) := dk_42 (dk_at dksX2_feelsAll_0 0 rfl rfl)
theorem dX2_feelsAll_1 : decode cX2_feelsAll 1 = .ok (.iload_n 1, 1) := dk_27 (dk_at dksX2_feelsAll_0 1 rfl rfl)
theorem dX2_feelsAll_2 : decode cX2_feelsAll 2 = .ok (.invokevirtual 7, 3) := dk_182 0 7 (dk_at dksX2_feelsAll_0 2 rfl rfl)
theorem dX2_feelsAll_5 : decode cX2_feelsAll 5 = .ok (.aload_n 0, 1) := dk_42 (dk_at dksX2_feelsAll_0 5 rfl rfl)
theorem dX2_feelsAll_6 : decode cX2_feelsAll 6 = .ok (.invokevirtual 13, 3) := dk_182 0 13 (dk_at dksX2_feelsAll_0 6 rfl rfl)
theorem dX2_feelsAll_9 : decode cX2_feelsAll 9 = .ok (.iadd, 1) := dk_96 (dk_at dksX2_feelsAll_0 9 rfl rfl)
theorem dX2_feelsAll_10 : decode cX2_feelsAll 10 = .ok (.ireturn, 1) := dk_172 (dk_at dksX2_feelsAll_0 10 rfl rfl)
abbrev cX2_feels : ByteArray := prog_6_method_3_code
def yX2_feels : MethodName := ⟨RX2, "feels", "(I)I"⟩
theorem dX2_feels_0 : decode cX2_feels 0 = .ok (.iload_n 1, 1) := by decide +kernel
theorem dX2_feels_1 : decode cX2_feels 1 = .ok (.ireturn, 1) := by decide +kernel
theorem q74 : (Jvm.Cond.initialized "BeatenInstead$Prince") ∈ lw_all := lw_g (lw_at lw_m1 3 rfl) rfl
theorem q278 : (Jvm.Cond.instantiable "BeatenInstead$Prince" (6 : Nat)) ∈ lw_all := lw_g (lw_at lw_m1 207 rfl) rfl
theorem q280 : (Jvm.Cond.instanceMethod ({ cls := "BeatenInstead$Prince", name := "<init>", desc := "()V" } : Jvm.MethodName)) ∈ lw_all := lw_g (lw_at lw_m1 209 rfl) rfl
theorem q281 : (Jvm.Cond.code ({ cls := "BeatenInstead$Prince", name := "<init>", desc := "()V" } : Jvm.MethodName) prog_6_method_1_code (1 : Nat) (Option.none : Option Jvm.ClassFile.FieldType)) ∈ lw_all := lw_g (lw_at lw_m1 210 rfl) rfl
theorem q282 : (Jvm.Cond.methodLink "BeatenInstead$Prince" (1 : Nat) ({ cls := "java/lang/Object", name := "<init>", desc := "()V" } : Jvm.MethodName)) ∈ lw_all := lw_g (lw_at lw_m1 211 rfl) rfl
theorem q297 : (Jvm.Cond.lays "BeatenInstead$Prince" "BeatenInstead$Prince" "number" "I") ∈ lw_all := lw_g (lw_at lw_m1 226 rfl) rfl
theorem q298 : (Jvm.Cond.soleField "BeatenInstead$Prince" "number") ∈ lw_all := lw_g (lw_at lw_m1 227 rfl) rfl
theorem q299 : (Jvm.Cond.lays "BeatenInstead$Prince" "BeatenInstead$Prince" "wit" "I") ∈ lw_all := lw_g (lw_at lw_m1 228 rfl) rfl
theorem q300 : (Jvm.Cond.soleField "BeatenInstead$Prince" "wit") ∈ lw_all := lw_g (lw_at lw_m1 229 rfl) rfl
theorem q301 : (Jvm.Cond.lays "BeatenInstead$Prince" "BeatenInstead$Prince" "boy" "I") ∈ lw_all := lw_g (lw_at lw_m1 230 rfl) rfl
theorem q302 : (Jvm.Cond.soleField "BeatenInstead$Prince" "boy") ∈ lw_all := lw_g (lw_at lw_m1 231 rfl) rfl
theorem q303 : (Jvm.Cond.lays "BeatenInstead$Prince" "BeatenInstead$Prince" "learnt" "I") ∈ lw_all := lw_g (lw_at lw_m1 232 rfl) rfl
theorem q304 : (Jvm.Cond.soleField "BeatenInstead$Prince" "learnt") ∈ lw_all := lw_g (lw_at lw_m1 233 rfl) rfl
theorem q305 : (Jvm.Cond.lays "BeatenInstead$Prince" "BeatenInstead$Prince" "keptBoy" "I") ∈ lw_all := lw_g (lw_at lw_m1 234 rfl) rfl
theorem q306 : (Jvm.Cond.soleField "BeatenInstead$Prince" "keptBoy") ∈ lw_all := lw_g (lw_at lw_m1 235 rfl) rfl
theorem q307 : (Jvm.Cond.lays "BeatenInstead$Prince" "BeatenInstead$Prince" "keptLearnt" "I") ∈ lw_all := lw_g (lw_at lw_m1 236 rfl) rfl
theorem q308 : (Jvm.Cond.soleField "BeatenInstead$Prince" "keptLearnt") ∈ lw_all := lw_g (lw_at lw_m1 237 rfl) rfl
theorem q309 : (Jvm.Cond.superclass "BeatenInstead$Prince" "java/lang/Object") ∈ lw_all := lw_g (lw_at lw_m1 238 rfl) rfl
theorem q377 : (Jvm.Cond.instanceMethod ({ cls := "BeatenInstead$Prince", name := "kind", desc := "()I" } : Jvm.MethodName)) ∈ lw_all := lw_g (lw_at lw_m2 66 rfl) rfl
theorem q378 : (Jvm.Cond.selects "BeatenInstead$Prince" ({ cls := "BeatenInstead$Prince", name := "kind", desc := "()I" } : Jvm.MethodName) ({ cls := "BeatenInstead$Prince", name := "kind", desc := "()I" } : Jvm.MethodName)) ∈ lw_all := lw_g (lw_at lw_m2 67 rfl) rfl
theorem q379 : (Jvm.Cond.sameMethod "BeatenInstead$Prince" "BeatenInstead$Prince" "kind" "()I") ∈ lw_all := lw_g (lw_at lw_m2 68 rfl) rfl
theorem q393 : (Jvm.Cond.code ({ cls := "BeatenInstead$Prince", name := "kind", desc := "()I" } : Jvm.MethodName) prog_6_method_2_code (1 : Nat) (Option.some Jvm.ClassFile.FieldType.int)) ∈ lw_all := lw_g (lw_at lw_m2 82 rfl) rfl
theorem q399 : (Jvm.Cond.instanceMethod ({ cls := "BeatenInstead$Prince", name := "feelsAll", desc := "(I)I" } : Jvm.MethodName)) ∈ lw_all := lw_g (lw_at lw_m2 88 rfl) rfl
theorem q400 : (Jvm.Cond.selects "BeatenInstead$Prince" ({ cls := "BeatenInstead$Prince", name := "feelsAll", desc := "(I)I" } : Jvm.MethodName) ({ cls := "BeatenInstead$Prince", name := "feelsAll", desc := "(I)I" } : Jvm.MethodName)) ∈ lw_all := lw_g (lw_at lw_m2 89 rfl) rfl
theorem q401 : (Jvm.Cond.sameMethod "BeatenInstead$Prince" "BeatenInstead$Prince" "feelsAll" "(I)I") ∈ lw_all := lw_g (lw_at lw_m2 90 rfl) rfl
theorem q406 : (Jvm.Cond.code ({ cls := "BeatenInstead$Prince", name := "feelsAll", desc := "(I)I" } : Jvm.MethodName) prog_6_method_4_code (2 : Nat) (Option.some Jvm.ClassFile.FieldType.int)) ∈ lw_all := lw_g (lw_at lw_m2 95 rfl) rfl
theorem q407 : (Jvm.Cond.methodLink "BeatenInstead$Prince" (7 : Nat) ({ cls := "BeatenInstead$Prince", name := "feels", desc := "(I)I" } : Jvm.MethodName)) ∈ lw_all := lw_g (lw_at lw_m2 96 rfl) rfl
theorem q408 : (Jvm.Cond.instanceMethod ({ cls := "BeatenInstead$Prince", name := "feels", desc := "(I)I" } : Jvm.MethodName)) ∈ lw_all := lw_g (lw_at lw_m2 97 rfl) rfl
theorem q409 : (Jvm.Cond.selects "BeatenInstead$Prince" ({ cls := "BeatenInstead$Prince", name := "feels", desc := "(I)I" } : Jvm.MethodName) ({ cls := "BeatenInstead$Prince", name := "feels", desc := "(I)I" } : Jvm.MethodName)) ∈ lw_all := lw_g (lw_at lw_m2 98 rfl) rfl
theorem q410 : (Jvm.Cond.sameMethod "BeatenInstead$Prince" "BeatenInstead$Prince" "feels" "(I)I") ∈ lw_all := lw_g (lw_at lw_m2 99 rfl) rfl
theorem q423 : (Jvm.Cond.code ({ cls := "BeatenInstead$Prince", name := "feels", desc := "(I)I" } : Jvm.MethodName) prog_6_method_3_code (2 : Nat) (Option.some Jvm.ClassFile.FieldType.int)) ∈ lw_all := lw_g (lw_at lw_m2 112 rfl) rfl
theorem q430 : (Jvm.Cond.unhidden "BeatenInstead$Prince" "more" "()I") ∈ lw_tbl := lw_at lw_m2 119 rfl
theorem in_X2 : ∀ w ∈ wsX20, w ∈ lw_all := lw_in wsX20 [297, 299, 301, 303, 305, 307] (by decide +kernel) (by decide +kernel)
/-! BeatenInstead$Proud -/
set_option maxRecDepth 100000
def RX3 : String := "BeatenInstead$Proud"
def TX3 : u_T := fun k => match k with
  | 0 => ("BeatenInstead$Prince", "number", "I", false)
  | 1 => ("BeatenInstead$Prince", "wit", "I", false)
  | 2 => ("BeatenInstead$Prince", "boy", "I", false)
  | 3 => ("BeatenInstead$Prince", "learnt", "I", false)
  | 4 => ("BeatenInstead$Prince", "keptBoy", "I", false)
  | _ => ("BeatenInstead$Prince", "keptLearnt", "I", false)
def tyX3 : Nat → FieldType := fun k => match k with
  | 0 => .int
  | 1 => .int
  | 2 => .int
  | 3 => .int
  | 4 => .int
  | _ => .int
abbrev wsX30 : List Cond := u_ws RX3 TX3 6
theorem nmX3 : ∀ a, a < 6 → ∀ b, b < 6 → a ≠ b → (TX3 a).2.1 ≠ (TX3 b).2.1 := by decide +kernel
theorem tyX3_ok : ∀ k, k < 6 → parseFieldDescriptor (TX3 k).2.2.1 = some (tyX3 k) := by decide +kernel
abbrev cX3_init : ByteArray := prog_7_method_1_code
def yX3_init : MethodName := ⟨RX3, "<init>", "()V"⟩
theorem dX3_init_0 : decode cX3_init 0 = .ok (.aload_n 0, 1) := by decide +kernel
theorem dX3_init_1 : decode cX3_init 1 = .ok (.invokespecial 3, 3) := by decide +kernel
theorem dX3_init_4 : decode cX3_init 4 = .ok (.return_, 1) := by decide +kernel
abbrev cX3_kind : ByteArray := prog_7_method_2_code
def yX3_kind : MethodName := ⟨RX3, "kind", "()I"⟩
theorem dX3_kind_0 : decode cX3_kind 0 = .ok (.iconst 1, 1) := by decide +kernel
theorem dX3_kind_1 : decode cX3_kind 1 = .ok (.ireturn, 1) := by decide +kernel
abbrev cX3_feels : ByteArray := prog_7_method_3_code
def yX3_feels : MethodName := ⟨RX3, "feels", "(I)I"⟩
def dkwX3_feels_0 : List UInt8 := [27, 8, 162, 0, 7, 3, 167, 0, 8, 42, 27, 183, 0, 9, 172]
abbrev dktX3_feels_0 : List UInt8 := dkwX3_feels_0 ++ []
theorem dksX3_feels_0 : cX3_feels.data.toList.drop 0 = dktX3_feels_0 := by decide +kernel
theorem dX3_feels_0 : decode cX3_feels 0 = .ok (.iload_n 1, 1) := dk_27 (dk_at dksX3_feels_0 0 rfl rfl)
theorem dX3_feels_1 : decode cX3_feels 1 = .ok (.iconst 5, 1) := dk_8 (dk_at dksX3_feels_0 1 rfl rfl)
theorem dX3_feels_2 : decode cX3_feels 2 = .ok (.if_icmp .ge 7, 3) := dk_162 0 7 (dk_at dksX3_feels_0 2 rfl rfl)
theorem dX3_feels_5 : decode cX3_feels 5 = .ok (.iconst 0, 1) := dk_3 (dk_at dksX3_feels_0 5 rfl rfl)
theorem dX3_feels_6 : decode cX3_feels 6 = .ok (.goto 8, 3) := dk_167 0 8 (dk_at dksX3_feels_0 6 rfl rfl)
theorem dX3_feels_9 : decode cX3_feels 9 = .ok (.aload_n 0, 1) := dk_42 (dk_at dksX3_feels_0 9 rfl rfl)
theorem dX3_feels_10 : decode cX3_feels 10 = .ok (.iload_n 1, 1) := dk_27 (dk_at dksX3_feels_0 10 rfl rfl)
theorem dX3_feels_11 : decode cX3_feels 11 = .ok (.invokespecial 9, 3) := dk_183 0 9 (dk_at dksX3_feels_0 11 rfl rfl)
theorem dX3_feels_14 : decode cX3_feels 14 = .ok (.ireturn, 1) := dk_172 (dk_at dksX3_feels_0 14 rfl rfl)
theorem q75 : (Jvm.Cond.initialized "BeatenInstead$Proud") ∈ lw_all := lw_g (lw_at lw_m1 4 rfl) rfl
theorem q285 : (Jvm.Cond.sameField "BeatenInstead$Proud" "BeatenInstead$Prince" "number" "I") ∈ lw_all := lw_g (lw_at lw_m1 214 rfl) rfl
theorem q311 : (Jvm.Cond.instantiable "BeatenInstead$Proud" (6 : Nat)) ∈ lw_all := lw_g (lw_at lw_m2 0 rfl) rfl
theorem q313 : (Jvm.Cond.instanceMethod ({ cls := "BeatenInstead$Proud", name := "<init>", desc := "()V" } : Jvm.MethodName)) ∈ lw_all := lw_g (lw_at lw_m2 2 rfl) rfl
theorem q314 : (Jvm.Cond.code ({ cls := "BeatenInstead$Proud", name := "<init>", desc := "()V" } : Jvm.MethodName) prog_7_method_1_code (1 : Nat) (Option.none : Option Jvm.ClassFile.FieldType)) ∈ lw_all := lw_g (lw_at lw_m2 3 rfl) rfl
theorem q315 : (Jvm.Cond.methodLinkNest "BeatenInstead$Proud" (3 : Nat) ({ cls := "BeatenInstead$Prince", name := "<init>", desc := "()V" } : Jvm.MethodName) "BeatenInstead") ∈ lw_tbl := lw_at lw_m2 4 rfl
theorem q316 : (Jvm.Cond.lays "BeatenInstead$Proud" "BeatenInstead$Prince" "number" "I") ∈ lw_all := lw_g (lw_at lw_m2 5 rfl) rfl
theorem q317 : (Jvm.Cond.lays "BeatenInstead$Proud" "BeatenInstead$Prince" "wit" "I") ∈ lw_all := lw_g (lw_at lw_m2 6 rfl) rfl
theorem q318 : (Jvm.Cond.lays "BeatenInstead$Proud" "BeatenInstead$Prince" "boy" "I") ∈ lw_all := lw_g (lw_at lw_m2 7 rfl) rfl
theorem q319 : (Jvm.Cond.lays "BeatenInstead$Proud" "BeatenInstead$Prince" "learnt" "I") ∈ lw_all := lw_g (lw_at lw_m2 8 rfl) rfl
theorem q320 : (Jvm.Cond.lays "BeatenInstead$Proud" "BeatenInstead$Prince" "keptBoy" "I") ∈ lw_all := lw_g (lw_at lw_m2 9 rfl) rfl
theorem q321 : (Jvm.Cond.lays "BeatenInstead$Proud" "BeatenInstead$Prince" "keptLearnt" "I") ∈ lw_all := lw_g (lw_at lw_m2 10 rfl) rfl
theorem q322 : (Jvm.Cond.superclass "BeatenInstead$Proud" "BeatenInstead$Prince") ∈ lw_all := lw_g (lw_at lw_m2 11 rfl) rfl
theorem q387 : (Jvm.Cond.instanceMethod ({ cls := "BeatenInstead$Proud", name := "kind", desc := "()I" } : Jvm.MethodName)) ∈ lw_all := lw_g (lw_at lw_m2 76 rfl) rfl
theorem q388 : (Jvm.Cond.code ({ cls := "BeatenInstead$Proud", name := "kind", desc := "()I" } : Jvm.MethodName) prog_7_method_2_code (1 : Nat) (Option.some Jvm.ClassFile.FieldType.int)) ∈ lw_all := lw_g (lw_at lw_m2 77 rfl) rfl
theorem q392 : (Jvm.Cond.selects "BeatenInstead$Proud" ({ cls := "BeatenInstead$Prince", name := "kind", desc := "()I" } : Jvm.MethodName) ({ cls := "BeatenInstead$Proud", name := "kind", desc := "()I" } : Jvm.MethodName)) ∈ lw_all := lw_g (lw_at lw_m2 81 rfl) rfl
theorem q405 : (Jvm.Cond.selects "BeatenInstead$Proud" ({ cls := "BeatenInstead$Prince", name := "feelsAll", desc := "(I)I" } : Jvm.MethodName) ({ cls := "BeatenInstead$Prince", name := "feelsAll", desc := "(I)I" } : Jvm.MethodName)) ∈ lw_all := lw_g (lw_at lw_m2 94 rfl) rfl
theorem q416 : (Jvm.Cond.instanceMethod ({ cls := "BeatenInstead$Proud", name := "feels", desc := "(I)I" } : Jvm.MethodName)) ∈ lw_all := lw_g (lw_at lw_m2 105 rfl) rfl
theorem q417 : (Jvm.Cond.code ({ cls := "BeatenInstead$Proud", name := "feels", desc := "(I)I" } : Jvm.MethodName) prog_7_method_3_code (2 : Nat) (Option.some Jvm.ClassFile.FieldType.int)) ∈ lw_all := lw_g (lw_at lw_m2 106 rfl) rfl
theorem q418 : (Jvm.Cond.methodLink "BeatenInstead$Proud" (9 : Nat) ({ cls := "BeatenInstead$Prince", name := "feels", desc := "(I)I" } : Jvm.MethodName)) ∈ lw_all := lw_g (lw_at lw_m2 107 rfl) rfl
theorem q422 : (Jvm.Cond.selects "BeatenInstead$Proud" ({ cls := "BeatenInstead$Prince", name := "feels", desc := "(I)I" } : Jvm.MethodName) ({ cls := "BeatenInstead$Proud", name := "feels", desc := "(I)I" } : Jvm.MethodName)) ∈ lw_all := lw_g (lw_at lw_m2 111 rfl) rfl
theorem q431 : (Jvm.Cond.unhidden "BeatenInstead$Proud" "more" "()I") ∈ lw_tbl := lw_at lw_m2 120 rfl
theorem q1101 : (Jvm.Cond.sameMethod "BeatenInstead$Proud" "BeatenInstead$Proud" "kind" "()I") ∈ lw_all := lw_g (lw_at lw_m5 70 rfl) rfl
theorem q1106 : (Jvm.Cond.castable "BeatenInstead$Proud" "BeatenInstead$Prince") ∈ lw_tbl := lw_at lw_m5 75 rfl
theorem in_X3 : ∀ w ∈ wsX30, w ∈ lw_all := lw_in wsX30 [316, 317, 318, 319, 320, 321] (by decide +kernel) (by decide +kernel)
/-! BeatenInstead$Cruel -/
set_option maxRecDepth 100000
def RX4 : String := "BeatenInstead$Cruel"
def TX4 : u_T := fun k => match k with
  | 0 => ("BeatenInstead$Prince", "number", "I", false)
  | 1 => ("BeatenInstead$Prince", "wit", "I", false)
  | 2 => ("BeatenInstead$Prince", "boy", "I", false)
  | 3 => ("BeatenInstead$Prince", "learnt", "I", false)
  | 4 => ("BeatenInstead$Prince", "keptBoy", "I", false)
  | _ => ("BeatenInstead$Prince", "keptLearnt", "I", false)
def tyX4 : Nat → FieldType := fun k => match k with
  | 0 => .int
  | 1 => .int
  | 2 => .int
  | 3 => .int
  | 4 => .int
  | _ => .int
abbrev wsX40 : List Cond := u_ws RX4 TX4 6
theorem nmX4 : ∀ a, a < 6 → ∀ b, b < 6 → a ≠ b → (TX4 a).2.1 ≠ (TX4 b).2.1 := by decide +kernel
theorem tyX4_ok : ∀ k, k < 6 → parseFieldDescriptor (TX4 k).2.2.1 = some (tyX4 k) := by decide +kernel
abbrev cX4_init : ByteArray := prog_2_method_1_code
def yX4_init : MethodName := ⟨RX4, "<init>", "()V"⟩
theorem dX4_init_0 : decode cX4_init 0 = .ok (.aload_n 0, 1) := by decide +kernel
theorem dX4_init_1 : decode cX4_init 1 = .ok (.invokespecial 3, 3) := by decide +kernel
theorem dX4_init_4 : decode cX4_init 4 = .ok (.return_, 1) := by decide +kernel
abbrev cX4_kind : ByteArray := prog_2_method_2_code
def yX4_kind : MethodName := ⟨RX4, "kind", "()I"⟩
theorem dX4_kind_0 : decode cX4_kind 0 = .ok (.iconst 2, 1) := by decide +kernel
theorem dX4_kind_1 : decode cX4_kind 1 = .ok (.ireturn, 1) := by decide +kernel
abbrev cX4_feels : ByteArray := prog_2_method_3_code
def yX4_feels : MethodName := ⟨RX4, "feels", "(I)I"⟩
def dkwX4_feels_0 : List UInt8 := [16, 9, 42, 27, 183, 0, 9, 100, 172]
abbrev dktX4_feels_0 : List UInt8 := dkwX4_feels_0 ++ []
theorem dksX4_feels_0 : cX4_feels.data.toList.drop 0 = dktX4_feels_0 := by decide +kernel
theorem dX4_feels_0 : decode cX4_feels 0 = .ok (.bipush 9, 2) := dk_16 9 (dk_at dksX4_feels_0 0 rfl rfl)
theorem dX4_feels_2 : decode cX4_feels 2 = .ok (.aload_n 0, 1) := dk_42 (dk_at dksX4_feels_0 2 rfl rfl)
theorem dX4_feels_3 : decode cX4_feels 3 = .ok (.iload_n 1, 1) := dk_27 (dk_at dksX4_feels_0 3 rfl rfl)
theorem dX4_feels_4 : decode cX4_feels 4 = .ok (.invokespecial 9, 3) := dk_183 0 9 (dk_at dksX4_feels_0 4 rfl rfl)
theorem dX4_feels_7 : decode cX4_feels 7 = .ok (.isub, 1) := dk_100 (dk_at dksX4_feels_0 7 rfl rfl)
theorem dX4_feels_8 : decode cX4_feels 8 = .ok (.ireturn, 1) := dk_172 (dk_at dksX4_feels_0 8 rfl rfl)
theorem q76 : (Jvm.Cond.initialized "BeatenInstead$Cruel") ∈ lw_all := lw_g (lw_at lw_m1 5 rfl) rfl
theorem q287 : (Jvm.Cond.sameField "BeatenInstead$Cruel" "BeatenInstead$Prince" "number" "I") ∈ lw_all := lw_g (lw_at lw_m1 216 rfl) rfl
theorem q324 : (Jvm.Cond.instantiable "BeatenInstead$Cruel" (6 : Nat)) ∈ lw_all := lw_g (lw_at lw_m2 13 rfl) rfl
theorem q326 : (Jvm.Cond.instanceMethod ({ cls := "BeatenInstead$Cruel", name := "<init>", desc := "()V" } : Jvm.MethodName)) ∈ lw_all := lw_g (lw_at lw_m2 15 rfl) rfl
theorem q327 : (Jvm.Cond.code ({ cls := "BeatenInstead$Cruel", name := "<init>", desc := "()V" } : Jvm.MethodName) prog_2_method_1_code (1 : Nat) (Option.none : Option Jvm.ClassFile.FieldType)) ∈ lw_all := lw_g (lw_at lw_m2 16 rfl) rfl
theorem q328 : (Jvm.Cond.methodLinkNest "BeatenInstead$Cruel" (3 : Nat) ({ cls := "BeatenInstead$Prince", name := "<init>", desc := "()V" } : Jvm.MethodName) "BeatenInstead") ∈ lw_tbl := lw_at lw_m2 17 rfl
theorem q329 : (Jvm.Cond.lays "BeatenInstead$Cruel" "BeatenInstead$Prince" "number" "I") ∈ lw_all := lw_g (lw_at lw_m2 18 rfl) rfl
theorem q330 : (Jvm.Cond.lays "BeatenInstead$Cruel" "BeatenInstead$Prince" "wit" "I") ∈ lw_all := lw_g (lw_at lw_m2 19 rfl) rfl
theorem q331 : (Jvm.Cond.lays "BeatenInstead$Cruel" "BeatenInstead$Prince" "boy" "I") ∈ lw_all := lw_g (lw_at lw_m2 20 rfl) rfl
theorem q332 : (Jvm.Cond.lays "BeatenInstead$Cruel" "BeatenInstead$Prince" "learnt" "I") ∈ lw_all := lw_g (lw_at lw_m2 21 rfl) rfl
theorem q333 : (Jvm.Cond.lays "BeatenInstead$Cruel" "BeatenInstead$Prince" "keptBoy" "I") ∈ lw_all := lw_g (lw_at lw_m2 22 rfl) rfl
theorem q334 : (Jvm.Cond.lays "BeatenInstead$Cruel" "BeatenInstead$Prince" "keptLearnt" "I") ∈ lw_all := lw_g (lw_at lw_m2 23 rfl) rfl
theorem q335 : (Jvm.Cond.superclass "BeatenInstead$Cruel" "BeatenInstead$Prince") ∈ lw_all := lw_g (lw_at lw_m2 24 rfl) rfl
theorem q380 : (Jvm.Cond.selects "BeatenInstead$Cruel" ({ cls := "BeatenInstead$Prince", name := "kind", desc := "()I" } : Jvm.MethodName) ({ cls := "BeatenInstead$Cruel", name := "kind", desc := "()I" } : Jvm.MethodName)) ∈ lw_all := lw_g (lw_at lw_m2 69 rfl) rfl
theorem q381 : (Jvm.Cond.instanceMethod ({ cls := "BeatenInstead$Cruel", name := "kind", desc := "()I" } : Jvm.MethodName)) ∈ lw_all := lw_g (lw_at lw_m2 70 rfl) rfl
theorem q382 : (Jvm.Cond.code ({ cls := "BeatenInstead$Cruel", name := "kind", desc := "()I" } : Jvm.MethodName) prog_2_method_2_code (1 : Nat) (Option.some Jvm.ClassFile.FieldType.int)) ∈ lw_all := lw_g (lw_at lw_m2 71 rfl) rfl
theorem q402 : (Jvm.Cond.selects "BeatenInstead$Cruel" ({ cls := "BeatenInstead$Prince", name := "feelsAll", desc := "(I)I" } : Jvm.MethodName) ({ cls := "BeatenInstead$Prince", name := "feelsAll", desc := "(I)I" } : Jvm.MethodName)) ∈ lw_all := lw_g (lw_at lw_m2 91 rfl) rfl
theorem q411 : (Jvm.Cond.selects "BeatenInstead$Cruel" ({ cls := "BeatenInstead$Prince", name := "feels", desc := "(I)I" } : Jvm.MethodName) ({ cls := "BeatenInstead$Cruel", name := "feels", desc := "(I)I" } : Jvm.MethodName)) ∈ lw_all := lw_g (lw_at lw_m2 100 rfl) rfl
theorem q412 : (Jvm.Cond.instanceMethod ({ cls := "BeatenInstead$Cruel", name := "feels", desc := "(I)I" } : Jvm.MethodName)) ∈ lw_all := lw_g (lw_at lw_m2 101 rfl) rfl
theorem q413 : (Jvm.Cond.code ({ cls := "BeatenInstead$Cruel", name := "feels", desc := "(I)I" } : Jvm.MethodName) prog_2_method_3_code (2 : Nat) (Option.some Jvm.ClassFile.FieldType.int)) ∈ lw_all := lw_g (lw_at lw_m2 102 rfl) rfl
theorem q414 : (Jvm.Cond.methodLink "BeatenInstead$Cruel" (9 : Nat) ({ cls := "BeatenInstead$Prince", name := "feels", desc := "(I)I" } : Jvm.MethodName)) ∈ lw_all := lw_g (lw_at lw_m2 103 rfl) rfl
theorem q425 : (Jvm.Cond.unhidden "BeatenInstead$Cruel" "more" "()I") ∈ lw_tbl := lw_at lw_m2 114 rfl
theorem q1103 : (Jvm.Cond.castable "BeatenInstead$Cruel" "BeatenInstead$Prince") ∈ lw_tbl := lw_at lw_m5 72 rfl
theorem in_X4 : ∀ w ∈ wsX40, w ∈ lw_all := lw_in wsX40 [329, 330, 331, 332, 333, 334] (by decide +kernel) (by decide +kernel)
/-! BeatenInstead$Lazy -/
set_option maxRecDepth 100000
def RX5 : String := "BeatenInstead$Lazy"
def TX5 : u_T := fun k => match k with
  | 0 => ("BeatenInstead$Prince", "number", "I", false)
  | 1 => ("BeatenInstead$Prince", "wit", "I", false)
  | 2 => ("BeatenInstead$Prince", "boy", "I", false)
  | 3 => ("BeatenInstead$Prince", "learnt", "I", false)
  | 4 => ("BeatenInstead$Prince", "keptBoy", "I", false)
  | _ => ("BeatenInstead$Prince", "keptLearnt", "I", false)
def tyX5 : Nat → FieldType := fun k => match k with
  | 0 => .int
  | 1 => .int
  | 2 => .int
  | 3 => .int
  | 4 => .int
  | _ => .int
abbrev wsX50 : List Cond := u_ws RX5 TX5 6
theorem nmX5 : ∀ a, a < 6 → ∀ b, b < 6 → a ≠ b → (TX5 a).2.1 ≠ (TX5 b).2.1 := by decide +kernel
theorem tyX5_ok : ∀ k, k < 6 → parseFieldDescriptor (TX5 k).2.2.1 = some (tyX5 k) := by decide +kernel
abbrev cX5_init : ByteArray := prog_5_method_1_code
def yX5_init : MethodName := ⟨RX5, "<init>", "()V"⟩
theorem dX5_init_0 : decode cX5_init 0 = .ok (.aload_n 0, 1) := by decide +kernel
theorem dX5_init_1 : decode cX5_init 1 = .ok (.invokespecial 1, 3) := by decide +kernel
theorem dX5_init_4 : decode cX5_init 4 = .ok (.return_, 1) := by decide +kernel
abbrev cX5_kind : ByteArray := prog_5_method_2_code
def yX5_kind : MethodName := ⟨RX5, "kind", "()I"⟩
theorem dX5_kind_0 : decode cX5_kind 0 = .ok (.iconst 3, 1) := by decide +kernel
theorem dX5_kind_1 : decode cX5_kind 1 = .ok (.ireturn, 1) := by decide +kernel
abbrev cX5_feels : ByteArray := prog_5_method_3_code
def yX5_feels : MethodName := ⟨RX5, "feels", "(I)I"⟩
def dkwX5_feels_0 : List UInt8 := [27, 5, 108, 172]
abbrev dktX5_feels_0 : List UInt8 := dkwX5_feels_0 ++ []
theorem dksX5_feels_0 : cX5_feels.data.toList.drop 0 = dktX5_feels_0 := by decide +kernel
theorem dX5_feels_0 : decode cX5_feels 0 = .ok (.iload_n 1, 1) := dk_27 (dk_at dksX5_feels_0 0 rfl rfl)
theorem dX5_feels_1 : decode cX5_feels 1 = .ok (.iconst 2, 1) := dk_5 (dk_at dksX5_feels_0 1 rfl rfl)
theorem dX5_feels_2 : decode cX5_feels 2 = .ok (.idiv, 1) := dk_108 (dk_at dksX5_feels_0 2 rfl rfl)
theorem dX5_feels_3 : decode cX5_feels 3 = .ok (.ireturn, 1) := dk_172 (dk_at dksX5_feels_0 3 rfl rfl)
theorem q77 : (Jvm.Cond.initialized "BeatenInstead$Lazy") ∈ lw_all := lw_g (lw_at lw_m1 6 rfl) rfl
theorem q289 : (Jvm.Cond.sameField "BeatenInstead$Lazy" "BeatenInstead$Prince" "number" "I") ∈ lw_all := lw_g (lw_at lw_m1 218 rfl) rfl
theorem q337 : (Jvm.Cond.instantiable "BeatenInstead$Lazy" (6 : Nat)) ∈ lw_all := lw_g (lw_at lw_m2 26 rfl) rfl
theorem q339 : (Jvm.Cond.instanceMethod ({ cls := "BeatenInstead$Lazy", name := "<init>", desc := "()V" } : Jvm.MethodName)) ∈ lw_all := lw_g (lw_at lw_m2 28 rfl) rfl
theorem q340 : (Jvm.Cond.code ({ cls := "BeatenInstead$Lazy", name := "<init>", desc := "()V" } : Jvm.MethodName) prog_5_method_1_code (1 : Nat) (Option.none : Option Jvm.ClassFile.FieldType)) ∈ lw_all := lw_g (lw_at lw_m2 29 rfl) rfl
theorem q341 : (Jvm.Cond.methodLinkNest "BeatenInstead$Lazy" (1 : Nat) ({ cls := "BeatenInstead$Prince", name := "<init>", desc := "()V" } : Jvm.MethodName) "BeatenInstead") ∈ lw_tbl := lw_at lw_m2 30 rfl
theorem q342 : (Jvm.Cond.lays "BeatenInstead$Lazy" "BeatenInstead$Prince" "number" "I") ∈ lw_all := lw_g (lw_at lw_m2 31 rfl) rfl
theorem q343 : (Jvm.Cond.lays "BeatenInstead$Lazy" "BeatenInstead$Prince" "wit" "I") ∈ lw_all := lw_g (lw_at lw_m2 32 rfl) rfl
theorem q344 : (Jvm.Cond.lays "BeatenInstead$Lazy" "BeatenInstead$Prince" "boy" "I") ∈ lw_all := lw_g (lw_at lw_m2 33 rfl) rfl
theorem q345 : (Jvm.Cond.lays "BeatenInstead$Lazy" "BeatenInstead$Prince" "learnt" "I") ∈ lw_all := lw_g (lw_at lw_m2 34 rfl) rfl
theorem q346 : (Jvm.Cond.lays "BeatenInstead$Lazy" "BeatenInstead$Prince" "keptBoy" "I") ∈ lw_all := lw_g (lw_at lw_m2 35 rfl) rfl
theorem q347 : (Jvm.Cond.lays "BeatenInstead$Lazy" "BeatenInstead$Prince" "keptLearnt" "I") ∈ lw_all := lw_g (lw_at lw_m2 36 rfl) rfl
theorem q348 : (Jvm.Cond.superclass "BeatenInstead$Lazy" "BeatenInstead$Prince") ∈ lw_all := lw_g (lw_at lw_m2 37 rfl) rfl
theorem q389 : (Jvm.Cond.selects "BeatenInstead$Lazy" ({ cls := "BeatenInstead$Prince", name := "kind", desc := "()I" } : Jvm.MethodName) ({ cls := "BeatenInstead$Lazy", name := "kind", desc := "()I" } : Jvm.MethodName)) ∈ lw_all := lw_g (lw_at lw_m2 78 rfl) rfl
theorem q390 : (Jvm.Cond.instanceMethod ({ cls := "BeatenInstead$Lazy", name := "kind", desc := "()I" } : Jvm.MethodName)) ∈ lw_all := lw_g (lw_at lw_m2 79 rfl) rfl
theorem q391 : (Jvm.Cond.code ({ cls := "BeatenInstead$Lazy", name := "kind", desc := "()I" } : Jvm.MethodName) prog_5_method_2_code (1 : Nat) (Option.some Jvm.ClassFile.FieldType.int)) ∈ lw_all := lw_g (lw_at lw_m2 80 rfl) rfl
theorem q404 : (Jvm.Cond.selects "BeatenInstead$Lazy" ({ cls := "BeatenInstead$Prince", name := "feelsAll", desc := "(I)I" } : Jvm.MethodName) ({ cls := "BeatenInstead$Prince", name := "feelsAll", desc := "(I)I" } : Jvm.MethodName)) ∈ lw_all := lw_g (lw_at lw_m2 93 rfl) rfl
theorem q419 : (Jvm.Cond.selects "BeatenInstead$Lazy" ({ cls := "BeatenInstead$Prince", name := "feels", desc := "(I)I" } : Jvm.MethodName) ({ cls := "BeatenInstead$Lazy", name := "feels", desc := "(I)I" } : Jvm.MethodName)) ∈ lw_all := lw_g (lw_at lw_m2 108 rfl) rfl
theorem q420 : (Jvm.Cond.instanceMethod ({ cls := "BeatenInstead$Lazy", name := "feels", desc := "(I)I" } : Jvm.MethodName)) ∈ lw_all := lw_g (lw_at lw_m2 109 rfl) rfl
theorem q421 : (Jvm.Cond.code ({ cls := "BeatenInstead$Lazy", name := "feels", desc := "(I)I" } : Jvm.MethodName) prog_5_method_3_code (2 : Nat) (Option.some Jvm.ClassFile.FieldType.int)) ∈ lw_all := lw_g (lw_at lw_m2 110 rfl) rfl
theorem q429 : (Jvm.Cond.unhidden "BeatenInstead$Lazy" "more" "()I") ∈ lw_tbl := lw_at lw_m2 118 rfl
theorem q1105 : (Jvm.Cond.castable "BeatenInstead$Lazy" "BeatenInstead$Prince") ∈ lw_tbl := lw_at lw_m5 74 rfl
theorem in_X5 : ∀ w ∈ wsX50, w ∈ lw_all := lw_in wsX50 [342, 343, 344, 345, 346, 347] (by decide +kernel) (by decide +kernel)
/-! BeatenInstead$High -/
set_option maxRecDepth 100000
def RX6 : String := "BeatenInstead$High"
def TX6 : u_T := fun k => match k with
  | 0 => ("BeatenInstead$Prince", "number", "I", false)
  | 1 => ("BeatenInstead$Prince", "wit", "I", false)
  | 2 => ("BeatenInstead$Prince", "boy", "I", false)
  | 3 => ("BeatenInstead$Prince", "learnt", "I", false)
  | 4 => ("BeatenInstead$Prince", "keptBoy", "I", false)
  | _ => ("BeatenInstead$Prince", "keptLearnt", "I", false)
def tyX6 : Nat → FieldType := fun k => match k with
  | 0 => .int
  | 1 => .int
  | 2 => .int
  | 3 => .int
  | 4 => .int
  | _ => .int
abbrev wsX60 : List Cond := u_ws RX6 TX6 6
theorem nmX6 : ∀ a, a < 6 → ∀ b, b < 6 → a ≠ b → (TX6 a).2.1 ≠ (TX6 b).2.1 := by decide +kernel
theorem tyX6_ok : ∀ k, k < 6 → parseFieldDescriptor (TX6 k).2.2.1 = some (tyX6 k) := by decide +kernel
abbrev cX6_init : ByteArray := prog_4_method_1_code
def yX6_init : MethodName := ⟨RX6, "<init>", "()V"⟩
theorem dX6_init_0 : decode cX6_init 0 = .ok (.aload_n 0, 1) := by decide +kernel
theorem dX6_init_1 : decode cX6_init 1 = .ok (.invokespecial 1, 3) := by decide +kernel
theorem dX6_init_4 : decode cX6_init 4 = .ok (.return_, 1) := by decide +kernel
abbrev cX6_kind : ByteArray := prog_4_method_2_code
def yX6_kind : MethodName := ⟨RX6, "kind", "()I"⟩
def dkwX6_kind_0 : List UInt8 := [6, 42, 183, 0, 7, 96, 172]
abbrev dktX6_kind_0 : List UInt8 := dkwX6_kind_0 ++ []
theorem dksX6_kind_0 : cX6_kind.data.toList.drop 0 = dktX6_kind_0 := by decide +kernel
theorem dX6_kind_0 : decode cX6_kind 0 = .ok (.iconst 3, 1) := dk_6 (dk_at dksX6_kind_0 0 rfl rfl)
theorem dX6_kind_1 : decode cX6_kind 1 = .ok (.aload_n 0, 1) := dk_42 (dk_at dksX6_kind_0 1 rfl rfl)
theorem dX6_kind_2 : decode cX6_kind 2 = .ok (.invokespecial 7, 3) := dk_183 0 7 (dk_at dksX6_kind_0 2 rfl rfl)
theorem dX6_kind_5 : decode cX6_kind 5 = .ok (.iadd, 1) := dk_96 (dk_at dksX6_kind_0 5 rfl rfl)
theorem dX6_kind_6 : decode cX6_kind 6 = .ok (.ireturn, 1) := dk_172 (dk_at dksX6_kind_0 6 rfl rfl)
abbrev cX6_more : ByteArray := prog_4_method_3_code
def yX6_more : MethodName := ⟨RX6, "more", "()I"⟩
theorem dX6_more_0 : decode cX6_more 0 = .ok (.iconst 2, 1) := by decide +kernel
theorem dX6_more_1 : decode cX6_more 1 = .ok (.ireturn, 1) := by decide +kernel
theorem q78 : (Jvm.Cond.initialized "BeatenInstead$High") ∈ lw_all := lw_g (lw_at lw_m1 7 rfl) rfl
theorem q291 : (Jvm.Cond.sameField "BeatenInstead$High" "BeatenInstead$Prince" "number" "I") ∈ lw_all := lw_g (lw_at lw_m1 220 rfl) rfl
theorem q350 : (Jvm.Cond.instantiable "BeatenInstead$High" (6 : Nat)) ∈ lw_all := lw_g (lw_at lw_m2 39 rfl) rfl
theorem q352 : (Jvm.Cond.instanceMethod ({ cls := "BeatenInstead$High", name := "<init>", desc := "()V" } : Jvm.MethodName)) ∈ lw_all := lw_g (lw_at lw_m2 41 rfl) rfl
theorem q353 : (Jvm.Cond.code ({ cls := "BeatenInstead$High", name := "<init>", desc := "()V" } : Jvm.MethodName) prog_4_method_1_code (1 : Nat) (Option.none : Option Jvm.ClassFile.FieldType)) ∈ lw_all := lw_g (lw_at lw_m2 42 rfl) rfl
theorem q354 : (Jvm.Cond.methodLinkNest "BeatenInstead$High" (1 : Nat) ({ cls := "BeatenInstead$Proud", name := "<init>", desc := "()V" } : Jvm.MethodName) "BeatenInstead") ∈ lw_tbl := lw_at lw_m2 43 rfl
theorem q355 : (Jvm.Cond.lays "BeatenInstead$High" "BeatenInstead$Prince" "number" "I") ∈ lw_all := lw_g (lw_at lw_m2 44 rfl) rfl
theorem q356 : (Jvm.Cond.lays "BeatenInstead$High" "BeatenInstead$Prince" "wit" "I") ∈ lw_all := lw_g (lw_at lw_m2 45 rfl) rfl
theorem q357 : (Jvm.Cond.lays "BeatenInstead$High" "BeatenInstead$Prince" "boy" "I") ∈ lw_all := lw_g (lw_at lw_m2 46 rfl) rfl
theorem q358 : (Jvm.Cond.lays "BeatenInstead$High" "BeatenInstead$Prince" "learnt" "I") ∈ lw_all := lw_g (lw_at lw_m2 47 rfl) rfl
theorem q359 : (Jvm.Cond.lays "BeatenInstead$High" "BeatenInstead$Prince" "keptBoy" "I") ∈ lw_all := lw_g (lw_at lw_m2 48 rfl) rfl
theorem q360 : (Jvm.Cond.lays "BeatenInstead$High" "BeatenInstead$Prince" "keptLearnt" "I") ∈ lw_all := lw_g (lw_at lw_m2 49 rfl) rfl
theorem q361 : (Jvm.Cond.superclass "BeatenInstead$High" "BeatenInstead$Proud") ∈ lw_all := lw_g (lw_at lw_m2 50 rfl) rfl
theorem q383 : (Jvm.Cond.selects "BeatenInstead$High" ({ cls := "BeatenInstead$Prince", name := "kind", desc := "()I" } : Jvm.MethodName) ({ cls := "BeatenInstead$High", name := "kind", desc := "()I" } : Jvm.MethodName)) ∈ lw_all := lw_g (lw_at lw_m2 72 rfl) rfl
theorem q384 : (Jvm.Cond.instanceMethod ({ cls := "BeatenInstead$High", name := "kind", desc := "()I" } : Jvm.MethodName)) ∈ lw_all := lw_g (lw_at lw_m2 73 rfl) rfl
theorem q385 : (Jvm.Cond.code ({ cls := "BeatenInstead$High", name := "kind", desc := "()I" } : Jvm.MethodName) prog_4_method_2_code (1 : Nat) (Option.some Jvm.ClassFile.FieldType.int)) ∈ lw_all := lw_g (lw_at lw_m2 74 rfl) rfl
theorem q386 : (Jvm.Cond.methodLink "BeatenInstead$High" (7 : Nat) ({ cls := "BeatenInstead$Proud", name := "kind", desc := "()I" } : Jvm.MethodName)) ∈ lw_all := lw_g (lw_at lw_m2 75 rfl) rfl
theorem q403 : (Jvm.Cond.selects "BeatenInstead$High" ({ cls := "BeatenInstead$Prince", name := "feelsAll", desc := "(I)I" } : Jvm.MethodName) ({ cls := "BeatenInstead$Prince", name := "feelsAll", desc := "(I)I" } : Jvm.MethodName)) ∈ lw_all := lw_g (lw_at lw_m2 92 rfl) rfl
theorem q415 : (Jvm.Cond.selects "BeatenInstead$High" ({ cls := "BeatenInstead$Prince", name := "feels", desc := "(I)I" } : Jvm.MethodName) ({ cls := "BeatenInstead$Proud", name := "feels", desc := "(I)I" } : Jvm.MethodName)) ∈ lw_all := lw_g (lw_at lw_m2 104 rfl) rfl
theorem q426 : (Jvm.Cond.selects "BeatenInstead$High" ({ cls := "BeatenInstead$Feels", name := "more", desc := "()I" } : Jvm.MethodName) ({ cls := "BeatenInstead$High", name := "more", desc := "()I" } : Jvm.MethodName)) ∈ lw_all := lw_g (lw_at lw_m2 115 rfl) rfl
theorem q427 : (Jvm.Cond.instanceMethod ({ cls := "BeatenInstead$High", name := "more", desc := "()I" } : Jvm.MethodName)) ∈ lw_all := lw_g (lw_at lw_m2 116 rfl) rfl
theorem q428 : (Jvm.Cond.code ({ cls := "BeatenInstead$High", name := "more", desc := "()I" } : Jvm.MethodName) prog_4_method_3_code (1 : Nat) (Option.some Jvm.ClassFile.FieldType.int)) ∈ lw_all := lw_g (lw_at lw_m2 117 rfl) rfl
theorem q1104 : (Jvm.Cond.castable "BeatenInstead$High" "BeatenInstead$Prince") ∈ lw_tbl := lw_at lw_m5 73 rfl
theorem q1107 : (Jvm.Cond.castable "BeatenInstead$High" "BeatenInstead$Proud") ∈ lw_tbl := lw_at lw_m5 76 rfl
theorem in_X6 : ∀ w ∈ wsX60, w ∈ lw_all := lw_in wsX60 [355, 356, 357, 358, 359, 360] (by decide +kernel) (by decide +kernel)
/-! BeatenInstead$Feels -/
set_option maxRecDepth 100000
def RX7 : String := "BeatenInstead$Feels"
abbrev cX7_more : ByteArray := prog_3_method_2_code
def yX7_more : MethodName := ⟨RX7, "more", "()I"⟩
theorem dX7_more_0 : decode cX7_more 0 = .ok (.iconst 0, 1) := by decide +kernel
theorem dX7_more_1 : decode cX7_more 1 = .ok (.ireturn, 1) := by decide +kernel
theorem q424 : (Jvm.Cond.declares ({ cls := "BeatenInstead$Feels", name := "more", desc := "()I" } : Jvm.MethodName)) ∈ lw_tbl := lw_at lw_m2 113 rfl
theorem q432 : (Jvm.Cond.instanceMethod ({ cls := "BeatenInstead$Feels", name := "more", desc := "()I" } : Jvm.MethodName)) ∈ lw_all := lw_g (lw_at lw_m2 121 rfl) rfl
theorem q433 : (Jvm.Cond.publicMethod ({ cls := "BeatenInstead$Feels", name := "more", desc := "()I" } : Jvm.MethodName)) ∈ lw_tbl := lw_at lw_m2 122 rfl
theorem q434 : (Jvm.Cond.code ({ cls := "BeatenInstead$Feels", name := "more", desc := "()I" } : Jvm.MethodName) prog_3_method_2_code (1 : Nat) (Option.some Jvm.ClassFile.FieldType.int)) ∈ lw_all := lw_g (lw_at lw_m2 123 rfl) rfl
