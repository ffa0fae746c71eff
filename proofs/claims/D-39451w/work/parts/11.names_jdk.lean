/-! java/util/AbstractCollection -/
set_option maxRecDepth 100000
def RJ0 : String := "java/util/AbstractCollection"
abbrev cJ0_init : ByteArray := prog_44_method_1_code
def yJ0_init : MethodName := ⟨RJ0, "<init>", "()V"⟩
theorem dJ0_init_0 : decode cJ0_init 0 = .ok (.aload_n 0, 1) := by decide +kernel
theorem dJ0_init_1 : decode cJ0_init 1 = .ok (.invokespecial 1, 3) := by decide +kernel
theorem dJ0_init_4 : decode cJ0_init 4 = .ok (.return_, 1) := by decide +kernel
abbrev cJ0_isEmpty : ByteArray := prog_44_method_4_code
def yJ0_isEmpty : MethodName := ⟨RJ0, "isEmpty", "()Z"⟩
def dkwJ0_isEmpty_0 : List UInt8 := [42, 182, 0, 7, 154, 0, 7, 4, 167, 0, 4, 3, 172]
abbrev dktJ0_isEmpty_0 : List UInt8 := dkwJ0_isEmpty_0 ++ []
theorem dksJ0_isEmpty_0 : cJ0_isEmpty.data.toList.drop 0 = dktJ0_isEmpty_0 := by decide +kernel
theorem dJ0_isEmpty_0 : decode cJ0_isEmpty 0 = .ok (.aload_n 0, 1) := dk_42 (dk_at dksJ0_isEmpty_0 0 rfl rfl)
theorem dJ0_isEmpty_1 : decode cJ0_isEmpty 1 = .ok (.invokevirtual 7, 3) := dk_182 0 7 (dk_at dksJ0_isEmpty_0 1 rfl rfl)
theorem dJ0_isEmpty_4 : decode cJ0_isEmpty 4 = .ok (.ifCond .ne 7, 3) := dk_154 0 7 (dk_at dksJ0_isEmpty_0 4 rfl rfl)
theorem dJ0_isEmpty_7 : decode cJ0_isEmpty 7 = .ok (.iconst 1, 1) := dk_4 (dk_at dksJ0_isEmpty_0 7 rfl rfl)
theorem dJ0_isEmpty_8 : decode cJ0_isEmpty 8 = .ok (.goto 4, 3) := dk_167 0 4 (dk_at dksJ0_isEmpty_0 8 rfl rfl)
theorem dJ0_isEmpty_11 : decode cJ0_isEmpty 11 = .ok (.iconst 0, 1) := dk_3 (dk_at dksJ0_isEmpty_0 11 rfl rfl)
theorem dJ0_isEmpty_12 : decode cJ0_isEmpty 12 = .ok (.ireturn, 1) := dk_172 (dk_at dksJ0_isEmpty_0 12 rfl rfl)
theorem q104 : (Jvm.Cond.initialized "java/util/AbstractCollection") ∈ lw_all := lw_g (lw_at lw_m1 3 rfl) rfl
theorem q184 : (Jvm.Cond.instanceMethod ({ cls := "java/util/AbstractCollection", name := "<init>", desc := "()V" } : Jvm.MethodName)) ∈ lw_all := lw_g (lw_at lw_m1 83 rfl) rfl
theorem q185 : (Jvm.Cond.code ({ cls := "java/util/AbstractCollection", name := "<init>", desc := "()V" } : Jvm.MethodName) prog_44_method_1_code (1 : Nat) (Option.none : Option Jvm.ClassFile.FieldType)) ∈ lw_all := lw_g (lw_at lw_m1 84 rfl) rfl
theorem q186 : (Jvm.Cond.methodLink "java/util/AbstractCollection" (1 : Nat) ({ cls := "java/lang/Object", name := "<init>", desc := "()V" } : Jvm.MethodName)) ∈ lw_all := lw_g (lw_at lw_m1 85 rfl) rfl
theorem q1672 : (Jvm.Cond.declares ({ cls := "java/util/AbstractCollection", name := "isEmpty", desc := "()Z" } : Jvm.MethodName)) ∈ lw_tbl := lw_at lw_m7 131 rfl
theorem q1674 : (Jvm.Cond.instanceMethod ({ cls := "java/util/AbstractCollection", name := "isEmpty", desc := "()Z" } : Jvm.MethodName)) ∈ lw_all := lw_g (lw_at lw_m7 133 rfl) rfl
theorem q1675 : (Jvm.Cond.code ({ cls := "java/util/AbstractCollection", name := "isEmpty", desc := "()Z" } : Jvm.MethodName) prog_44_method_4_code (1 : Nat) (Option.some Jvm.ClassFile.FieldType.boolean)) ∈ lw_all := lw_g (lw_at lw_m7 134 rfl) rfl
theorem q1676 : (Jvm.Cond.methodLink "java/util/AbstractCollection" (7 : Nat) ({ cls := "java/util/AbstractCollection", name := "size", desc := "()I" } : Jvm.MethodName)) ∈ lw_all := lw_g (lw_at lw_m7 135 rfl) rfl
theorem q1677 : (Jvm.Cond.declares ({ cls := "java/util/AbstractCollection", name := "size", desc := "()I" } : Jvm.MethodName)) ∈ lw_tbl := lw_at lw_m7 136 rfl
theorem q1678 : (Jvm.Cond.sameMethod "java/util/AbstractCollection" "java/util/AbstractCollection" "size" "()I") ∈ lw_all := lw_g (lw_at lw_m7 137 rfl) rfl
theorem q2258 : (Jvm.Cond.instanceMethod ({ cls := "java/util/AbstractCollection", name := "toArray", desc := "()[Ljava/lang/Object;" } : Jvm.MethodName)) ∈ lw_all := lw_g (lw_at lw_m9 237 rfl) rfl
theorem q2259 : (Jvm.Cond.publicMethod ({ cls := "java/util/AbstractCollection", name := "toArray", desc := "()[Ljava/lang/Object;" } : Jvm.MethodName)) ∈ lw_tbl := lw_at lw_m9 238 rfl
theorem q2260 : (Jvm.Cond.code ({ cls := "java/util/AbstractCollection", name := "toArray", desc := "()[Ljava/lang/Object;" } : Jvm.MethodName) prog_44_method_6_code (4 : Nat) (Option.some (Jvm.ClassFile.FieldType.array (Jvm.ClassFile.FieldType.object "java/lang/Object")))) ∈ lw_all := lw_g (lw_at lw_m9 239 rfl) rfl
theorem q2261 : (Jvm.Cond.classLink "java/util/AbstractCollection" (2 : Nat) "java/lang/Object") ∈ lw_all := lw_g (lw_at lw_m10 0 rfl) rfl
theorem q2262 : (Jvm.Cond.methodLink "java/util/AbstractCollection" (13 : Nat) ({ cls := "java/util/AbstractCollection", name := "iterator", desc := "()Ljava/util/Iterator;" } : Jvm.MethodName)) ∈ lw_all := lw_g (lw_at lw_m10 1 rfl) rfl
theorem q2263 : (Jvm.Cond.declares ({ cls := "java/util/AbstractCollection", name := "iterator", desc := "()Ljava/util/Iterator;" } : Jvm.MethodName)) ∈ lw_tbl := lw_at lw_m10 2 rfl
theorem q2264 : (Jvm.Cond.sameMethod "java/util/AbstractCollection" "java/util/AbstractCollection" "iterator" "()Ljava/util/Iterator;") ∈ lw_all := lw_g (lw_at lw_m10 3 rfl) rfl
theorem q2392 : (Jvm.Cond.interfaceEntry "java/util/AbstractCollection" (17 : Nat)) ∈ lw_tbl := lw_at lw_m10 131 rfl
theorem q2393 : (Jvm.Cond.methodLink "java/util/AbstractCollection" (17 : Nat) ({ cls := "java/util/Iterator", name := "hasNext", desc := "()Z" } : Jvm.MethodName)) ∈ lw_all := lw_g (lw_at lw_m10 132 rfl) rfl
theorem q2394 : (Jvm.Cond.methodLink "java/util/AbstractCollection" (31 : Nat) ({ cls := "java/util/Arrays", name := "copyOf", desc := "([Ljava/lang/Object;I)[Ljava/lang/Object;" } : Jvm.MethodName)) ∈ lw_all := lw_g (lw_at lw_m10 133 rfl) rfl
theorem q2395 : (Jvm.Cond.interfaceEntry "java/util/AbstractCollection" (23 : Nat)) ∈ lw_tbl := lw_at lw_m10 134 rfl
theorem q2396 : (Jvm.Cond.methodLink "java/util/AbstractCollection" (23 : Nat) ({ cls := "java/util/Iterator", name := "next", desc := "()Ljava/lang/Object;" } : Jvm.MethodName)) ∈ lw_all := lw_g (lw_at lw_m10 135 rfl) rfl
theorem q2397 : (Jvm.Cond.methodLink "java/util/AbstractCollection" (37 : Nat) ({ cls := "java/util/AbstractCollection", name := "finishToArray", desc := "([Ljava/lang/Object;Ljava/util/Iterator;)[Ljava/lang/Object;" } : Jvm.MethodName)) ∈ lw_all := lw_g (lw_at lw_m10 136 rfl) rfl
theorem q2398 : (Jvm.Cond.static ({ cls := "java/util/AbstractCollection", name := "finishToArray", desc := "([Ljava/lang/Object;Ljava/util/Iterator;)[Ljava/lang/Object;" } : Jvm.MethodName)) ∈ lw_all := lw_g (lw_at lw_m10 137 rfl) rfl
theorem q2399 : (Jvm.Cond.code ({ cls := "java/util/AbstractCollection", name := "finishToArray", desc := "([Ljava/lang/Object;Ljava/util/Iterator;)[Ljava/lang/Object;" } : Jvm.MethodName) prog_44_method_8_code (4 : Nat) (Option.some (Jvm.ClassFile.FieldType.array (Jvm.ClassFile.FieldType.object "java/lang/Object")))) ∈ lw_all := lw_g (lw_at lw_m10 138 rfl) rfl
theorem q2400 : (Jvm.Cond.methodLink "java/util/AbstractCollection" (64 : Nat) ({ cls := "jdk/internal/util/ArraysSupport", name := "newLength", desc := "(III)I" } : Jvm.MethodName)) ∈ lw_all := lw_g (lw_at lw_m10 139 rfl) rfl
/-! java/util/AbstractList -/
set_option maxRecDepth 100000
def RJ1 : String := "java/util/AbstractList"
abbrev cJ1_init : ByteArray := prog_45_method_1_code
def yJ1_init : MethodName := ⟨RJ1, "<init>", "()V"⟩
def dkwJ1_init_0 : List UInt8 := [42, 183, 0, 1, 42, 3, 181, 0, 7, 177]
abbrev dktJ1_init_0 : List UInt8 := dkwJ1_init_0 ++ []
theorem dksJ1_init_0 : cJ1_init.data.toList.drop 0 = dktJ1_init_0 := by decide +kernel
theorem dJ1_init_0 : decode cJ1_init 0 = .ok (.aload_n 0, 1) := dk_42 (dk_at dksJ1_init_0 0 rfl rfl)
theorem dJ1_init_1 : decode cJ1_init 1 = .ok (.invokespecial 1, 3) := dk_183 0 1 (dk_at dksJ1_init_0 1 rfl rfl)
theorem dJ1_init_4 : decode cJ1_init 4 = .ok (.aload_n 0, 1) := dk_42 (dk_at dksJ1_init_0 4 rfl rfl)
theorem dJ1_init_5 : decode cJ1_init 5 = .ok (.iconst 0, 1) := dk_3 (dk_at dksJ1_init_0 5 rfl rfl)
theorem dJ1_init_6 : decode cJ1_init 6 = .ok (.putfield 7, 3) := dk_181 0 7 (dk_at dksJ1_init_0 6 rfl rfl)
theorem dJ1_init_9 : decode cJ1_init 9 = .ok (.return_, 1) := dk_177 (dk_at dksJ1_init_0 9 rfl rfl)
theorem q105 : (Jvm.Cond.initialized "java/util/AbstractList") ∈ lw_all := lw_g (lw_at lw_m1 4 rfl) rfl
theorem q181 : (Jvm.Cond.instanceMethod ({ cls := "java/util/AbstractList", name := "<init>", desc := "()V" } : Jvm.MethodName)) ∈ lw_all := lw_g (lw_at lw_m1 80 rfl) rfl
theorem q182 : (Jvm.Cond.code ({ cls := "java/util/AbstractList", name := "<init>", desc := "()V" } : Jvm.MethodName) prog_45_method_1_code (1 : Nat) (Option.none : Option Jvm.ClassFile.FieldType)) ∈ lw_all := lw_g (lw_at lw_m1 81 rfl) rfl
theorem q183 : (Jvm.Cond.methodLink "java/util/AbstractList" (1 : Nat) ({ cls := "java/util/AbstractCollection", name := "<init>", desc := "()V" } : Jvm.MethodName)) ∈ lw_all := lw_g (lw_at lw_m1 82 rfl) rfl
theorem q193 : (Jvm.Cond.fieldLink "java/util/AbstractList" (7 : Nat) "java/util/AbstractList" "modCount" "I") ∈ lw_all := lw_g (lw_at lw_m1 92 rfl) rfl
theorem q202 : (Jvm.Cond.soleField "java/util/AbstractList" "modCount") ∈ lw_all := lw_g (lw_at lw_m1 101 rfl) rfl
/-! java/lang/Exception -/
set_option maxRecDepth 100000
def RJ10 : String := "java/lang/Exception"
abbrev cJ10_init_3 : ByteArray := prog_24_method_5_code
def yJ10_init_3 : MethodName := ⟨RJ10, "<init>", "(Ljava/lang/String;Ljava/lang/Throwable;ZZ)V"⟩
def dkwJ10_init_3_0 : List UInt8 := [42, 43, 44, 29, 21, 4, 183, 0, 16, 177]
abbrev dktJ10_init_3_0 : List UInt8 := dkwJ10_init_3_0 ++ []
theorem dksJ10_init_3_0 : cJ10_init_3.data.toList.drop 0 = dktJ10_init_3_0 := by decide +kernel
theorem dJ10_init_3_0 : decode cJ10_init_3 0 = .ok (.aload_n 0, 1) := dk_42 (dk_at dksJ10_init_3_0 0 rfl rfl)
theorem dJ10_init_3_1 : decode cJ10_init_3 1 = .ok (.aload_n 1, 1) := dk_43 (dk_at dksJ10_init_3_0 1 rfl rfl)
theorem dJ10_init_3_2 : decode cJ10_init_3 2 = .ok (.aload_n 2, 1) := dk_44 (dk_at dksJ10_init_3_0 2 rfl rfl)
theorem dJ10_init_3_3 : decode cJ10_init_3 3 = .ok (.iload_n 3, 1) := dk_29 (dk_at dksJ10_init_3_0 3 rfl rfl)
theorem dJ10_init_3_4 : decode cJ10_init_3 4 = .ok (.iload 4, 2) := dk_21 4 (dk_at dksJ10_init_3_0 4 rfl rfl)
theorem dJ10_init_3_6 : decode cJ10_init_3 6 = .ok (.invokespecial 16, 3) := dk_183 0 16 (dk_at dksJ10_init_3_0 6 rfl rfl)
theorem dJ10_init_3_9 : decode cJ10_init_3 9 = .ok (.return_, 1) := dk_177 (dk_at dksJ10_init_3_0 9 rfl rfl)
theorem q116 : (Jvm.Cond.initialized "java/lang/Exception") ∈ lw_all := lw_g (lw_at lw_m1 15 rfl) rfl
theorem q346 : (Jvm.Cond.declares ({ cls := "java/lang/Exception", name := "<init>", desc := "()V" } : Jvm.MethodName)) ∈ lw_tbl := lw_at lw_m2 5 rfl
theorem q347 : (Jvm.Cond.declares ({ cls := "java/lang/Exception", name := "<init>", desc := "(Ljava/lang/String;)V" } : Jvm.MethodName)) ∈ lw_tbl := lw_at lw_m2 6 rfl
theorem q606 : (Jvm.Cond.instanceMethod ({ cls := "java/lang/Exception", name := "<init>", desc := "(Ljava/lang/String;)V" } : Jvm.MethodName)) ∈ lw_all := lw_g (lw_at lw_m3 25 rfl) rfl
theorem q607 : (Jvm.Cond.code ({ cls := "java/lang/Exception", name := "<init>", desc := "(Ljava/lang/String;)V" } : Jvm.MethodName) prog_24_method_2_code (2 : Nat) (Option.none : Option Jvm.ClassFile.FieldType)) ∈ lw_all := lw_g (lw_at lw_m3 26 rfl) rfl
theorem q608 : (Jvm.Cond.methodLink "java/lang/Exception" (7 : Nat) ({ cls := "java/lang/Throwable", name := "<init>", desc := "(Ljava/lang/String;)V" } : Jvm.MethodName)) ∈ lw_all := lw_g (lw_at lw_m3 27 rfl) rfl
theorem q982 : (Jvm.Cond.instanceMethod ({ cls := "java/lang/Exception", name := "<init>", desc := "()V" } : Jvm.MethodName)) ∈ lw_all := lw_g (lw_at lw_m4 161 rfl) rfl
theorem q983 : (Jvm.Cond.code ({ cls := "java/lang/Exception", name := "<init>", desc := "()V" } : Jvm.MethodName) prog_24_method_1_code (1 : Nat) (Option.none : Option Jvm.ClassFile.FieldType)) ∈ lw_all := lw_g (lw_at lw_m4 162 rfl) rfl
theorem q984 : (Jvm.Cond.methodLink "java/lang/Exception" (1 : Nat) ({ cls := "java/lang/Throwable", name := "<init>", desc := "()V" } : Jvm.MethodName)) ∈ lw_all := lw_g (lw_at lw_m4 163 rfl) rfl
theorem q1918 : (Jvm.Cond.instanceMethod ({ cls := "java/lang/Exception", name := "<init>", desc := "(Ljava/lang/String;Ljava/lang/Throwable;ZZ)V" } : Jvm.MethodName)) ∈ lw_all := lw_g (lw_at lw_m8 137 rfl) rfl
theorem q1919 : (Jvm.Cond.code ({ cls := "java/lang/Exception", name := "<init>", desc := "(Ljava/lang/String;Ljava/lang/Throwable;ZZ)V" } : Jvm.MethodName) prog_24_method_5_code (5 : Nat) (Option.none : Option Jvm.ClassFile.FieldType)) ∈ lw_all := lw_g (lw_at lw_m8 138 rfl) rfl
theorem q1920 : (Jvm.Cond.methodLink "java/lang/Exception" (16 : Nat) ({ cls := "java/lang/Throwable", name := "<init>", desc := "(Ljava/lang/String;Ljava/lang/Throwable;ZZ)V" } : Jvm.MethodName)) ∈ lw_all := lw_g (lw_at lw_m8 139 rfl) rfl
/-! java/lang/RuntimeException -/
set_option maxRecDepth 100000
def RJ11 : String := "java/lang/RuntimeException"
theorem q117 : (Jvm.Cond.initialized "java/lang/RuntimeException") ∈ lw_all := lw_g (lw_at lw_m1 16 rfl) rfl
theorem q344 : (Jvm.Cond.declares ({ cls := "java/lang/RuntimeException", name := "<init>", desc := "()V" } : Jvm.MethodName)) ∈ lw_tbl := lw_at lw_m2 3 rfl
theorem q345 : (Jvm.Cond.declares ({ cls := "java/lang/RuntimeException", name := "<init>", desc := "(Ljava/lang/String;)V" } : Jvm.MethodName)) ∈ lw_tbl := lw_at lw_m2 4 rfl
theorem q603 : (Jvm.Cond.instanceMethod ({ cls := "java/lang/RuntimeException", name := "<init>", desc := "(Ljava/lang/String;)V" } : Jvm.MethodName)) ∈ lw_all := lw_g (lw_at lw_m3 22 rfl) rfl
theorem q604 : (Jvm.Cond.code ({ cls := "java/lang/RuntimeException", name := "<init>", desc := "(Ljava/lang/String;)V" } : Jvm.MethodName) prog_35_method_2_code (2 : Nat) (Option.none : Option Jvm.ClassFile.FieldType)) ∈ lw_all := lw_g (lw_at lw_m3 23 rfl) rfl
theorem q605 : (Jvm.Cond.methodLink "java/lang/RuntimeException" (7 : Nat) ({ cls := "java/lang/Exception", name := "<init>", desc := "(Ljava/lang/String;)V" } : Jvm.MethodName)) ∈ lw_all := lw_g (lw_at lw_m3 24 rfl) rfl
theorem q979 : (Jvm.Cond.instanceMethod ({ cls := "java/lang/RuntimeException", name := "<init>", desc := "()V" } : Jvm.MethodName)) ∈ lw_all := lw_g (lw_at lw_m4 158 rfl) rfl
theorem q980 : (Jvm.Cond.code ({ cls := "java/lang/RuntimeException", name := "<init>", desc := "()V" } : Jvm.MethodName) prog_35_method_1_code (1 : Nat) (Option.none : Option Jvm.ClassFile.FieldType)) ∈ lw_all := lw_g (lw_at lw_m4 159 rfl) rfl
theorem q981 : (Jvm.Cond.methodLink "java/lang/RuntimeException" (1 : Nat) ({ cls := "java/lang/Exception", name := "<init>", desc := "()V" } : Jvm.MethodName)) ∈ lw_all := lw_g (lw_at lw_m4 160 rfl) rfl
/-! java/lang/IndexOutOfBoundsException -/
set_option maxRecDepth 100000
def RJ12 : String := "java/lang/IndexOutOfBoundsException"
def TJ12 : u_T := fun k => match k with
  | 0 => ("java/lang/Throwable", "cause", "Ljava/lang/Throwable;", false)
  | 1 => ("java/lang/Throwable", "stackTrace", "[Ljava/lang/StackTraceElement;", false)
  | 2 => ("java/lang/Throwable", "suppressedExceptions", "Ljava/util/List;", false)
  | 3 => ("java/lang/Throwable", "detailMessage", "Ljava/lang/String;", false)
  | 4 => ("java/lang/Throwable", "backtrace", "Ljava/lang/Object;", false)
  | _ => ("java/lang/Throwable", "depth", "I", false)
def tyJ12 : Nat → FieldType := fun k => match k with
  | 0 => .object "java/lang/Throwable"
  | 1 => .array (.object "java/lang/StackTraceElement")
  | 2 => .object "java/util/List"
  | 3 => .object "java/lang/String"
  | 4 => .object "java/lang/Object"
  | _ => .int
abbrev wsJ120 : List Cond := u_ws RJ12 TJ12 6
theorem nmJ12 : ∀ a, a < 6 → ∀ b, b < 6 → a ≠ b → (TJ12 a).2.1 ≠ (TJ12 b).2.1 := by decide +kernel
theorem tyJ12_ok : ∀ k, k < 6 → parseFieldDescriptor (TJ12 k).2.2.1 = some (tyJ12 k) := by decide +kernel
theorem q118 : (Jvm.Cond.initialized "java/lang/IndexOutOfBoundsException") ∈ lw_all := lw_g (lw_at lw_m1 17 rfl) rfl
theorem q303 : (Jvm.Cond.selects "java/lang/IndexOutOfBoundsException" ({ cls := "java/lang/Object", name := "getClass", desc := "()Ljava/lang/Class;" } : Jvm.MethodName) ({ cls := "java/lang/Object", name := "getClass", desc := "()Ljava/lang/Class;" } : Jvm.MethodName)) ∈ lw_all := lw_g (lw_at lw_m1 202 rfl) rfl
theorem q342 : (Jvm.Cond.instantiable "java/lang/IndexOutOfBoundsException" (6 : Nat)) ∈ lw_all := lw_g (lw_at lw_m2 1 rfl) rfl
theorem q343 : (Jvm.Cond.castable "java/lang/IndexOutOfBoundsException" "java/lang/IndexOutOfBoundsException") ∈ lw_tbl := lw_at lw_m2 2 rfl
theorem q350 : (Jvm.Cond.selects "java/lang/IndexOutOfBoundsException" ({ cls := "java/lang/Throwable", name := "fillInStackTrace", desc := "(I)Ljava/lang/Throwable;" } : Jvm.MethodName) ({ cls := "java/lang/Throwable", name := "fillInStackTrace", desc := "(I)Ljava/lang/Throwable;" } : Jvm.MethodName)) ∈ lw_all := lw_g (lw_at lw_m2 9 rfl) rfl
theorem q351 : (Jvm.Cond.selects "java/lang/IndexOutOfBoundsException" ({ cls := "java/lang/Throwable", name := "fillInStackTrace", desc := "()Ljava/lang/Throwable;" } : Jvm.MethodName) ({ cls := "java/lang/Throwable", name := "fillInStackTrace", desc := "()Ljava/lang/Throwable;" } : Jvm.MethodName)) ∈ lw_all := lw_g (lw_at lw_m2 10 rfl) rfl
theorem q352 : (Jvm.Cond.lays "java/lang/IndexOutOfBoundsException" "java/lang/Throwable" "cause" "Ljava/lang/Throwable;") ∈ lw_all := lw_g (lw_at lw_m2 11 rfl) rfl
theorem q354 : (Jvm.Cond.lays "java/lang/IndexOutOfBoundsException" "java/lang/Throwable" "stackTrace" "[Ljava/lang/StackTraceElement;") ∈ lw_all := lw_g (lw_at lw_m2 13 rfl) rfl
theorem q356 : (Jvm.Cond.lays "java/lang/IndexOutOfBoundsException" "java/lang/Throwable" "suppressedExceptions" "Ljava/util/List;") ∈ lw_all := lw_g (lw_at lw_m2 15 rfl) rfl
theorem q358 : (Jvm.Cond.lays "java/lang/IndexOutOfBoundsException" "java/lang/Throwable" "detailMessage" "Ljava/lang/String;") ∈ lw_all := lw_g (lw_at lw_m2 17 rfl) rfl
theorem q360 : (Jvm.Cond.lays "java/lang/IndexOutOfBoundsException" "java/lang/Throwable" "backtrace" "Ljava/lang/Object;") ∈ lw_all := lw_g (lw_at lw_m2 19 rfl) rfl
theorem q649 : (Jvm.Cond.instanceMethod ({ cls := "java/lang/IndexOutOfBoundsException", name := "<init>", desc := "(Ljava/lang/String;)V" } : Jvm.MethodName)) ∈ lw_all := lw_g (lw_at lw_m3 68 rfl) rfl
theorem q650 : (Jvm.Cond.code ({ cls := "java/lang/IndexOutOfBoundsException", name := "<init>", desc := "(Ljava/lang/String;)V" } : Jvm.MethodName) prog_27_method_2_code (2 : Nat) (Option.none : Option Jvm.ClassFile.FieldType)) ∈ lw_all := lw_g (lw_at lw_m3 69 rfl) rfl
theorem q651 : (Jvm.Cond.methodLink "java/lang/IndexOutOfBoundsException" (7 : Nat) ({ cls := "java/lang/RuntimeException", name := "<init>", desc := "(Ljava/lang/String;)V" } : Jvm.MethodName)) ∈ lw_all := lw_g (lw_at lw_m3 70 rfl) rfl
theorem q652 : (Jvm.Cond.lays "java/lang/IndexOutOfBoundsException" "java/lang/Throwable" "depth" "I") ∈ lw_all := lw_g (lw_at lw_m3 71 rfl) rfl
theorem q653 : (Jvm.Cond.superclass "java/lang/IndexOutOfBoundsException" "java/lang/RuntimeException") ∈ lw_all := lw_g (lw_at lw_m3 72 rfl) rfl
theorem q866 : (Jvm.Cond.selects "java/lang/IndexOutOfBoundsException" ({ cls := "java/lang/Object", name := "equals", desc := "(Ljava/lang/Object;)Z" } : Jvm.MethodName) ({ cls := "java/lang/Object", name := "equals", desc := "(Ljava/lang/Object;)Z" } : Jvm.MethodName)) ∈ lw_all := lw_g (lw_at lw_m4 45 rfl) rfl
theorem q2076 : (Jvm.Cond.declares ({ cls := "java/lang/IndexOutOfBoundsException", name := "<init>", desc := "()V" } : Jvm.MethodName)) ∈ lw_tbl := lw_at lw_m9 55 rfl
theorem q2077 : (Jvm.Cond.declares ({ cls := "java/lang/IndexOutOfBoundsException", name := "<init>", desc := "(Ljava/lang/String;)V" } : Jvm.MethodName)) ∈ lw_tbl := lw_at lw_m9 56 rfl
theorem q2088 : (Jvm.Cond.instanceMethod ({ cls := "java/lang/IndexOutOfBoundsException", name := "<init>", desc := "()V" } : Jvm.MethodName)) ∈ lw_all := lw_g (lw_at lw_m9 67 rfl) rfl
theorem q2089 : (Jvm.Cond.code ({ cls := "java/lang/IndexOutOfBoundsException", name := "<init>", desc := "()V" } : Jvm.MethodName) prog_27_method_1_code (1 : Nat) (Option.none : Option Jvm.ClassFile.FieldType)) ∈ lw_all := lw_g (lw_at lw_m9 68 rfl) rfl
theorem q2090 : (Jvm.Cond.methodLink "java/lang/IndexOutOfBoundsException" (1 : Nat) ({ cls := "java/lang/RuntimeException", name := "<init>", desc := "()V" } : Jvm.MethodName)) ∈ lw_all := lw_g (lw_at lw_m9 69 rfl) rfl
theorem q3301 : (Jvm.Cond.castable "java/lang/IndexOutOfBoundsException" "java/lang/Object") ∈ lw_tbl := lw_at lw_m14 80 rfl
theorem in_J12 : ∀ w ∈ wsJ120, w ∈ lw_all := lw_in wsJ120 [352, 354, 356, 358, 360, 652] (by decide +kernel) (by decide +kernel)
/-! java/lang/AbstractStringBuilder -/
set_option maxRecDepth 100000
def RJ13 : String := "java/lang/AbstractStringBuilder"
theorem q119 : (Jvm.Cond.initialized "java/lang/AbstractStringBuilder") ∈ lw_all := lw_g (lw_at lw_m1 18 rfl) rfl
theorem q391 : (Jvm.Cond.instanceMethod ({ cls := "java/lang/AbstractStringBuilder", name := "<init>", desc := "(I)V" } : Jvm.MethodName)) ∈ lw_all := lw_g (lw_at lw_m2 50 rfl) rfl
theorem q392 : (Jvm.Cond.code ({ cls := "java/lang/AbstractStringBuilder", name := "<init>", desc := "(I)V" } : Jvm.MethodName) prog_17_method_2_code (2 : Nat) (Option.none : Option Jvm.ClassFile.FieldType)) ∈ lw_all := lw_g (lw_at lw_m2 51 rfl) rfl
theorem q393 : (Jvm.Cond.methodLink "java/lang/AbstractStringBuilder" (3 : Nat) ({ cls := "java/lang/Object", name := "<init>", desc := "()V" } : Jvm.MethodName)) ∈ lw_all := lw_g (lw_at lw_m2 52 rfl) rfl
theorem q394 : (Jvm.Cond.fieldLink "java/lang/AbstractStringBuilder" (18 : Nat) "java/lang/String" "COMPACT_STRINGS" "Z") ∈ lw_all := lw_g (lw_at lw_m2 53 rfl) rfl
theorem q396 : (Jvm.Cond.methodLink "java/lang/AbstractStringBuilder" (26 : Nat) ({ cls := "java/lang/StringUTF16", name := "newBytesFor", desc := "(I)[B" } : Jvm.MethodName)) ∈ lw_all := lw_g (lw_at lw_m2 55 rfl) rfl
theorem q403 : (Jvm.Cond.fieldLink "java/lang/AbstractStringBuilder" (15 : Nat) "java/lang/AbstractStringBuilder" "value" "[B") ∈ lw_all := lw_g (lw_at lw_m2 62 rfl) rfl
theorem q404 : (Jvm.Cond.fieldLink "java/lang/AbstractStringBuilder" (22 : Nat) "java/lang/AbstractStringBuilder" "coder" "B") ∈ lw_all := lw_g (lw_at lw_m2 63 rfl) rfl
theorem q406 : (Jvm.Cond.fieldLink "java/lang/AbstractStringBuilder" (79 : Nat) "java/lang/AbstractStringBuilder" "count" "I") ∈ lw_all := lw_g (lw_at lw_m2 65 rfl) rfl
theorem q408 : (Jvm.Cond.soleField "java/lang/AbstractStringBuilder" "value") ∈ lw_all := lw_g (lw_at lw_m2 67 rfl) rfl
theorem q410 : (Jvm.Cond.soleField "java/lang/AbstractStringBuilder" "coder") ∈ lw_all := lw_g (lw_at lw_m2 69 rfl) rfl
theorem q412 : (Jvm.Cond.soleField "java/lang/AbstractStringBuilder" "maybeLatin1") ∈ lw_all := lw_g (lw_at lw_m2 71 rfl) rfl
theorem q414 : (Jvm.Cond.soleField "java/lang/AbstractStringBuilder" "count") ∈ lw_all := lw_g (lw_at lw_m2 73 rfl) rfl
theorem q423 : (Jvm.Cond.instanceMethod ({ cls := "java/lang/AbstractStringBuilder", name := "append", desc := "(Ljava/lang/String;)Ljava/lang/AbstractStringBuilder;" } : Jvm.MethodName)) ∈ lw_all := lw_g (lw_at lw_m2 82 rfl) rfl
theorem q424 : (Jvm.Cond.code ({ cls := "java/lang/AbstractStringBuilder", name := "append", desc := "(Ljava/lang/String;)Ljava/lang/AbstractStringBuilder;" } : Jvm.MethodName) prog_17_method_22_code (3 : Nat) (Option.some (Jvm.ClassFile.FieldType.object "java/lang/AbstractStringBuilder"))) ∈ lw_all := lw_g (lw_at lw_m2 83 rfl) rfl
theorem q425 : (Jvm.Cond.methodLink "java/lang/AbstractStringBuilder" (204 : Nat) ({ cls := "java/lang/AbstractStringBuilder", name := "appendNull", desc := "()Ljava/lang/AbstractStringBuilder;" } : Jvm.MethodName)) ∈ lw_all := lw_g (lw_at lw_m2 84 rfl) rfl
theorem q426 : (Jvm.Cond.privateMethod ({ cls := "java/lang/AbstractStringBuilder", name := "appendNull", desc := "()Ljava/lang/AbstractStringBuilder;" } : Jvm.MethodName)) ∈ lw_tbl := lw_at lw_m2 85 rfl
theorem q427 : (Jvm.Cond.instanceMethod ({ cls := "java/lang/AbstractStringBuilder", name := "appendNull", desc := "()Ljava/lang/AbstractStringBuilder;" } : Jvm.MethodName)) ∈ lw_all := lw_g (lw_at lw_m2 86 rfl) rfl
theorem q428 : (Jvm.Cond.code ({ cls := "java/lang/AbstractStringBuilder", name := "appendNull", desc := "()Ljava/lang/AbstractStringBuilder;" } : Jvm.MethodName) prog_17_method_26_code (3 : Nat) (Option.some (Jvm.ClassFile.FieldType.object "java/lang/AbstractStringBuilder"))) ∈ lw_all := lw_g (lw_at lw_m2 87 rfl) rfl
theorem q429 : (Jvm.Cond.methodLink "java/lang/AbstractStringBuilder" (100 : Nat) ({ cls := "java/lang/AbstractStringBuilder", name := "ensureCapacityInternal", desc := "(I)V" } : Jvm.MethodName)) ∈ lw_all := lw_g (lw_at lw_m2 88 rfl) rfl
theorem q430 : (Jvm.Cond.privateMethod ({ cls := "java/lang/AbstractStringBuilder", name := "ensureCapacityInternal", desc := "(I)V" } : Jvm.MethodName)) ∈ lw_tbl := lw_at lw_m2 89 rfl
theorem q431 : (Jvm.Cond.instanceMethod ({ cls := "java/lang/AbstractStringBuilder", name := "ensureCapacityInternal", desc := "(I)V" } : Jvm.MethodName)) ∈ lw_all := lw_g (lw_at lw_m2 90 rfl) rfl
theorem q432 : (Jvm.Cond.code ({ cls := "java/lang/AbstractStringBuilder", name := "ensureCapacityInternal", desc := "(I)V" } : Jvm.MethodName) prog_17_method_9_code (3 : Nat) (Option.none : Option Jvm.ClassFile.FieldType)) ∈ lw_all := lw_g (lw_at lw_m2 91 rfl) rfl
theorem q433 : (Jvm.Cond.methodLink "java/lang/AbstractStringBuilder" (104 : Nat) ({ cls := "java/lang/AbstractStringBuilder", name := "newCapacity", desc := "(I)I" } : Jvm.MethodName)) ∈ lw_all := lw_g (lw_at lw_m2 92 rfl) rfl
theorem q434 : (Jvm.Cond.privateMethod ({ cls := "java/lang/AbstractStringBuilder", name := "newCapacity", desc := "(I)I" } : Jvm.MethodName)) ∈ lw_tbl := lw_at lw_m2 93 rfl
theorem q435 : (Jvm.Cond.instanceMethod ({ cls := "java/lang/AbstractStringBuilder", name := "newCapacity", desc := "(I)I" } : Jvm.MethodName)) ∈ lw_all := lw_g (lw_at lw_m2 94 rfl) rfl
theorem q436 : (Jvm.Cond.code ({ cls := "java/lang/AbstractStringBuilder", name := "newCapacity", desc := "(I)I" } : Jvm.MethodName) prog_17_method_10_code (6 : Nat) (Option.some Jvm.ClassFile.FieldType.int)) ∈ lw_all := lw_g (lw_at lw_m2 95 rfl) rfl
theorem q437 : (Jvm.Cond.methodLink "java/lang/AbstractStringBuilder" (114 : Nat) ({ cls := "jdk/internal/util/ArraysSupport", name := "newLength", desc := "(III)I" } : Jvm.MethodName)) ∈ lw_all := lw_g (lw_at lw_m2 96 rfl) rfl
theorem q438 : (Jvm.Cond.constant "java/lang/AbstractStringBuilder" (39 : Nat) (2147483647 : Int32)) ∈ lw_all := lw_g (lw_at lw_m2 97 rfl) rfl
theorem q439 : (Jvm.Cond.methodLink "java/lang/AbstractStringBuilder" (108 : Nat) ({ cls := "java/util/Arrays", name := "copyOf", desc := "([BI)[B" } : Jvm.MethodName)) ∈ lw_all := lw_g (lw_at lw_m2 98 rfl) rfl
theorem q449 : (Jvm.Cond.methodLink "java/lang/AbstractStringBuilder" (83 : Nat) ({ cls := "java/lang/AbstractStringBuilder", name := "isLatin1", desc := "()Z" } : Jvm.MethodName)) ∈ lw_all := lw_g (lw_at lw_m2 108 rfl) rfl
theorem q450 : (Jvm.Cond.instanceMethod ({ cls := "java/lang/AbstractStringBuilder", name := "isLatin1", desc := "()Z" } : Jvm.MethodName)) ∈ lw_all := lw_g (lw_at lw_m2 109 rfl) rfl
theorem q451 : (Jvm.Cond.sameMethod "java/lang/AbstractStringBuilder" "java/lang/AbstractStringBuilder" "isLatin1" "()Z") ∈ lw_all := lw_g (lw_at lw_m2 110 rfl) rfl
theorem q453 : (Jvm.Cond.code ({ cls := "java/lang/AbstractStringBuilder", name := "isLatin1", desc := "()Z" } : Jvm.MethodName) prog_17_method_68_code (1 : Nat) (Option.some Jvm.ClassFile.FieldType.boolean)) ∈ lw_all := lw_g (lw_at lw_m2 112 rfl) rfl
theorem q454 : (Jvm.Cond.methodLink "java/lang/AbstractStringBuilder" (226 : Nat) ({ cls := "java/lang/StringUTF16", name := "putCharsAt", desc := "([BICCCC)I" } : Jvm.MethodName)) ∈ lw_all := lw_g (lw_at lw_m2 113 rfl) rfl
theorem q480 : (Jvm.Cond.methodLink "java/lang/AbstractStringBuilder" (32 : Nat) ({ cls := "java/lang/String", name := "length", desc := "()I" } : Jvm.MethodName)) ∈ lw_all := lw_g (lw_at lw_m2 139 rfl) rfl
theorem q489 : (Jvm.Cond.methodLink "java/lang/AbstractStringBuilder" (208 : Nat) ({ cls := "java/lang/AbstractStringBuilder", name := "putStringAt", desc := "(ILjava/lang/String;)V" } : Jvm.MethodName)) ∈ lw_all := lw_g (lw_at lw_m2 148 rfl) rfl
theorem q490 : (Jvm.Cond.privateMethod ({ cls := "java/lang/AbstractStringBuilder", name := "putStringAt", desc := "(ILjava/lang/String;)V" } : Jvm.MethodName)) ∈ lw_tbl := lw_at lw_m2 149 rfl
theorem q491 : (Jvm.Cond.instanceMethod ({ cls := "java/lang/AbstractStringBuilder", name := "putStringAt", desc := "(ILjava/lang/String;)V" } : Jvm.MethodName)) ∈ lw_all := lw_g (lw_at lw_m2 150 rfl) rfl
theorem q492 : (Jvm.Cond.code ({ cls := "java/lang/AbstractStringBuilder", name := "putStringAt", desc := "(ILjava/lang/String;)V" } : Jvm.MethodName) prog_17_method_73_code (3 : Nat) (Option.none : Option Jvm.ClassFile.FieldType)) ∈ lw_all := lw_g (lw_at lw_m2 151 rfl) rfl
theorem q493 : (Jvm.Cond.methodLink "java/lang/AbstractStringBuilder" (397 : Nat) ({ cls := "java/lang/AbstractStringBuilder", name := "inflateIfNeededFor", desc := "(Ljava/lang/String;)V" } : Jvm.MethodName)) ∈ lw_all := lw_g (lw_at lw_m2 152 rfl) rfl
theorem q494 : (Jvm.Cond.privateMethod ({ cls := "java/lang/AbstractStringBuilder", name := "inflateIfNeededFor", desc := "(Ljava/lang/String;)V" } : Jvm.MethodName)) ∈ lw_tbl := lw_at lw_m2 153 rfl
theorem q495 : (Jvm.Cond.instanceMethod ({ cls := "java/lang/AbstractStringBuilder", name := "inflateIfNeededFor", desc := "(Ljava/lang/String;)V" } : Jvm.MethodName)) ∈ lw_all := lw_g (lw_at lw_m2 154 rfl) rfl
theorem q496 : (Jvm.Cond.code ({ cls := "java/lang/AbstractStringBuilder", name := "inflateIfNeededFor", desc := "(Ljava/lang/String;)V" } : Jvm.MethodName) prog_17_method_71_code (2 : Nat) (Option.none : Option Jvm.ClassFile.FieldType)) ∈ lw_all := lw_g (lw_at lw_m2 155 rfl) rfl
theorem q497 : (Jvm.Cond.methodLink "java/lang/AbstractStringBuilder" (40 : Nat) ({ cls := "java/lang/String", name := "coder", desc := "()B" } : Jvm.MethodName)) ∈ lw_all := lw_g (lw_at lw_m2 156 rfl) rfl
theorem q498 : (Jvm.Cond.methodLink "java/lang/AbstractStringBuilder" (195 : Nat) ({ cls := "java/lang/AbstractStringBuilder", name := "inflate", desc := "()V" } : Jvm.MethodName)) ∈ lw_all := lw_g (lw_at lw_m2 157 rfl) rfl
theorem q499 : (Jvm.Cond.privateMethod ({ cls := "java/lang/AbstractStringBuilder", name := "inflate", desc := "()V" } : Jvm.MethodName)) ∈ lw_tbl := lw_at lw_m2 158 rfl
theorem q500 : (Jvm.Cond.instanceMethod ({ cls := "java/lang/AbstractStringBuilder", name := "inflate", desc := "()V" } : Jvm.MethodName)) ∈ lw_all := lw_g (lw_at lw_m2 159 rfl) rfl
theorem q501 : (Jvm.Cond.code ({ cls := "java/lang/AbstractStringBuilder", name := "inflate", desc := "()V" } : Jvm.MethodName) prog_17_method_11_code (2 : Nat) (Option.none : Option Jvm.ClassFile.FieldType)) ∈ lw_all := lw_g (lw_at lw_m2 160 rfl) rfl
theorem q502 : (Jvm.Cond.methodLink "java/lang/AbstractStringBuilder" (125 : Nat) ({ cls := "java/lang/StringLatin1", name := "inflate", desc := "([BI[BII)V" } : Jvm.MethodName)) ∈ lw_all := lw_g (lw_at lw_m2 161 rfl) rfl
theorem q517 : (Jvm.Cond.methodLink "java/lang/AbstractStringBuilder" (399 : Nat) ({ cls := "java/lang/String", name := "getBytes", desc := "([BIB)V" } : Jvm.MethodName)) ∈ lw_all := lw_g (lw_at lw_m2 176 rfl) rfl
theorem q528 : (Jvm.Cond.instanceMethod ({ cls := "java/lang/AbstractStringBuilder", name := "append", desc := "(I)Ljava/lang/AbstractStringBuilder;" } : Jvm.MethodName)) ∈ lw_all := lw_g (lw_at lw_m2 187 rfl) rfl
theorem q529 : (Jvm.Cond.code ({ cls := "java/lang/AbstractStringBuilder", name := "append", desc := "(I)Ljava/lang/AbstractStringBuilder;" } : Jvm.MethodName) prog_17_method_32_code (4 : Nat) (Option.some (Jvm.ClassFile.FieldType.object "java/lang/AbstractStringBuilder"))) ∈ lw_all := lw_g (lw_at lw_m2 188 rfl) rfl
theorem q530 : (Jvm.Cond.methodLink "java/lang/AbstractStringBuilder" (245 : Nat) ({ cls := "java/lang/Integer", name := "stringSize", desc := "(I)I" } : Jvm.MethodName)) ∈ lw_all := lw_g (lw_at lw_m2 189 rfl) rfl
theorem q533 : (Jvm.Cond.methodLink "java/lang/AbstractStringBuilder" (248 : Nat) ({ cls := "java/lang/Integer", name := "getChars", desc := "(II[B)I" } : Jvm.MethodName)) ∈ lw_all := lw_g (lw_at lw_m2 192 rfl) rfl
theorem q540 : (Jvm.Cond.methodLink "java/lang/AbstractStringBuilder" (251 : Nat) ({ cls := "java/lang/StringUTF16", name := "getChars", desc := "(III[B)I" } : Jvm.MethodName)) ∈ lw_all := lw_g (lw_at lw_m2 199 rfl) rfl
theorem q562 : (Jvm.Cond.instanceMethod ({ cls := "java/lang/AbstractStringBuilder", name := "getValue", desc := "()[B" } : Jvm.MethodName)) ∈ lw_all := lw_g (lw_at lw_m2 221 rfl) rfl
theorem q563 : (Jvm.Cond.sameMethod "java/lang/AbstractStringBuilder" "java/lang/AbstractStringBuilder" "getValue" "()[B") ∈ lw_all := lw_g (lw_at lw_m2 222 rfl) rfl
theorem q565 : (Jvm.Cond.code ({ cls := "java/lang/AbstractStringBuilder", name := "getValue", desc := "()[B" } : Jvm.MethodName) prog_17_method_64_code (1 : Nat) (Option.some (Jvm.ClassFile.FieldType.array Jvm.ClassFile.FieldType.byte))) ∈ lw_all := lw_g (lw_at lw_m2 224 rfl) rfl
theorem q567 : (Jvm.Cond.instanceMethod ({ cls := "java/lang/AbstractStringBuilder", name := "length", desc := "()I" } : Jvm.MethodName)) ∈ lw_all := lw_g (lw_at lw_m2 226 rfl) rfl
theorem q568 : (Jvm.Cond.sameMethod "java/lang/AbstractStringBuilder" "java/lang/AbstractStringBuilder" "length" "()I") ∈ lw_all := lw_g (lw_at lw_m2 227 rfl) rfl
theorem q573 : (Jvm.Cond.code ({ cls := "java/lang/AbstractStringBuilder", name := "length", desc := "()I" } : Jvm.MethodName) prog_17_method_6_code (1 : Nat) (Option.some Jvm.ClassFile.FieldType.int)) ∈ lw_all := lw_g (lw_at lw_m2 232 rfl) rfl
theorem q1650 : (Jvm.Cond.instanceMethod ({ cls := "java/lang/AbstractStringBuilder", name := "compareTo", desc := "(Ljava/lang/AbstractStringBuilder;)I" } : Jvm.MethodName)) ∈ lw_all := lw_g (lw_at lw_m7 109 rfl) rfl
theorem q1651 : (Jvm.Cond.code ({ cls := "java/lang/AbstractStringBuilder", name := "compareTo", desc := "(Ljava/lang/AbstractStringBuilder;)I" } : Jvm.MethodName) prog_17_method_5_code (6 : Nat) (Option.some Jvm.ClassFile.FieldType.int)) ∈ lw_all := lw_g (lw_at lw_m7 110 rfl) rfl
theorem q1652 : (Jvm.Cond.methodLink "java/lang/AbstractStringBuilder" (87 : Nat) ({ cls := "java/lang/StringLatin1", name := "compareTo", desc := "([B[BII)I" } : Jvm.MethodName)) ∈ lw_all := lw_g (lw_at lw_m7 111 rfl) rfl
theorem q1653 : (Jvm.Cond.methodLink "java/lang/AbstractStringBuilder" (93 : Nat) ({ cls := "java/lang/StringUTF16", name := "compareTo", desc := "([B[BII)I" } : Jvm.MethodName)) ∈ lw_all := lw_g (lw_at lw_m7 112 rfl) rfl
theorem q1662 : (Jvm.Cond.methodLink "java/lang/AbstractStringBuilder" (94 : Nat) ({ cls := "java/lang/StringLatin1", name := "compareToUTF16", desc := "([B[BII)I" } : Jvm.MethodName)) ∈ lw_all := lw_g (lw_at lw_m7 121 rfl) rfl
theorem q1666 : (Jvm.Cond.methodLink "java/lang/AbstractStringBuilder" (97 : Nat) ({ cls := "java/lang/StringUTF16", name := "compareToLatin1", desc := "([B[BII)I" } : Jvm.MethodName)) ∈ lw_all := lw_g (lw_at lw_m7 125 rfl) rfl
theorem q3281 : (Jvm.Cond.sameMethod "java/lang/AbstractStringBuilder" "java/lang/AbstractStringBuilder" "append" "(Ljava/lang/String;)Ljava/lang/AbstractStringBuilder;") ∈ lw_all := lw_g (lw_at lw_m14 60 rfl) rfl
theorem q3282 : (Jvm.Cond.sameMethod "java/lang/AbstractStringBuilder" "java/lang/AbstractStringBuilder" "appendNull" "()Ljava/lang/AbstractStringBuilder;") ∈ lw_all := lw_g (lw_at lw_m14 61 rfl) rfl
theorem q3283 : (Jvm.Cond.sameMethod "java/lang/AbstractStringBuilder" "java/lang/AbstractStringBuilder" "ensureCapacityInternal" "(I)V") ∈ lw_all := lw_g (lw_at lw_m14 62 rfl) rfl
theorem q3284 : (Jvm.Cond.sameMethod "java/lang/AbstractStringBuilder" "java/lang/AbstractStringBuilder" "newCapacity" "(I)I") ∈ lw_all := lw_g (lw_at lw_m14 63 rfl) rfl
theorem q3285 : (Jvm.Cond.sameMethod "java/lang/AbstractStringBuilder" "java/lang/AbstractStringBuilder" "putStringAt" "(ILjava/lang/String;)V") ∈ lw_all := lw_g (lw_at lw_m14 64 rfl) rfl
theorem q3286 : (Jvm.Cond.sameMethod "java/lang/AbstractStringBuilder" "java/lang/AbstractStringBuilder" "inflateIfNeededFor" "(Ljava/lang/String;)V") ∈ lw_all := lw_g (lw_at lw_m14 65 rfl) rfl
theorem q3287 : (Jvm.Cond.sameMethod "java/lang/AbstractStringBuilder" "java/lang/AbstractStringBuilder" "inflate" "()V") ∈ lw_all := lw_g (lw_at lw_m14 66 rfl) rfl
theorem q3288 : (Jvm.Cond.sameMethod "java/lang/AbstractStringBuilder" "java/lang/AbstractStringBuilder" "append" "(I)Ljava/lang/AbstractStringBuilder;") ∈ lw_all := lw_g (lw_at lw_m14 67 rfl) rfl
theorem q3290 : (Jvm.Cond.sameMethod "java/lang/AbstractStringBuilder" "java/lang/AbstractStringBuilder" "compareTo" "(Ljava/lang/AbstractStringBuilder;)I") ∈ lw_all := lw_g (lw_at lw_m14 69 rfl) rfl
/-! java/lang/StringBuilder -/
set_option maxRecDepth 100000
def RJ14 : String := "java/lang/StringBuilder"
def TJ14 : u_T := fun k => match k with
  | 0 => ("java/lang/AbstractStringBuilder", "value", "[B", false)
  | 1 => ("java/lang/AbstractStringBuilder", "coder", "B", false)
  | 2 => ("java/lang/AbstractStringBuilder", "maybeLatin1", "Z", false)
  | _ => ("java/lang/AbstractStringBuilder", "count", "I", false)
def tyJ14 : Nat → FieldType := fun k => match k with
  | 0 => .array .byte
  | 1 => .byte
  | 2 => .boolean
  | _ => .int
abbrev wsJ140 : List Cond := u_ws RJ14 TJ14 4
theorem nmJ14 : ∀ a, a < 4 → ∀ b, b < 4 → a ≠ b → (TJ14 a).2.1 ≠ (TJ14 b).2.1 := by decide +kernel
theorem tyJ14_ok : ∀ k, k < 4 → parseFieldDescriptor (TJ14 k).2.2.1 = some (tyJ14 k) := by decide +kernel
theorem q120 : (Jvm.Cond.initialized "java/lang/StringBuilder") ∈ lw_all := lw_g (lw_at lw_m1 19 rfl) rfl
theorem q307 : (Jvm.Cond.selects "java/lang/StringBuilder" ({ cls := "java/lang/Object", name := "getClass", desc := "()Ljava/lang/Class;" } : Jvm.MethodName) ({ cls := "java/lang/Object", name := "getClass", desc := "()Ljava/lang/Class;" } : Jvm.MethodName)) ∈ lw_all := lw_g (lw_at lw_m1 206 rfl) rfl
theorem q386 : (Jvm.Cond.instantiable "java/lang/StringBuilder" (4 : Nat)) ∈ lw_all := lw_g (lw_at lw_m2 45 rfl) rfl
theorem q388 : (Jvm.Cond.instanceMethod ({ cls := "java/lang/StringBuilder", name := "<init>", desc := "()V" } : Jvm.MethodName)) ∈ lw_all := lw_g (lw_at lw_m2 47 rfl) rfl
theorem q389 : (Jvm.Cond.code ({ cls := "java/lang/StringBuilder", name := "<init>", desc := "()V" } : Jvm.MethodName) prog_37_method_1_code (1 : Nat) (Option.none : Option Jvm.ClassFile.FieldType)) ∈ lw_all := lw_g (lw_at lw_m2 48 rfl) rfl
theorem q390 : (Jvm.Cond.methodLink "java/lang/StringBuilder" (1 : Nat) ({ cls := "java/lang/AbstractStringBuilder", name := "<init>", desc := "(I)V" } : Jvm.MethodName)) ∈ lw_all := lw_g (lw_at lw_m2 49 rfl) rfl
theorem q407 : (Jvm.Cond.lays "java/lang/StringBuilder" "java/lang/AbstractStringBuilder" "value" "[B") ∈ lw_all := lw_g (lw_at lw_m2 66 rfl) rfl
theorem q409 : (Jvm.Cond.lays "java/lang/StringBuilder" "java/lang/AbstractStringBuilder" "coder" "B") ∈ lw_all := lw_g (lw_at lw_m2 68 rfl) rfl
theorem q411 : (Jvm.Cond.lays "java/lang/StringBuilder" "java/lang/AbstractStringBuilder" "maybeLatin1" "Z") ∈ lw_all := lw_g (lw_at lw_m2 70 rfl) rfl
theorem q413 : (Jvm.Cond.lays "java/lang/StringBuilder" "java/lang/AbstractStringBuilder" "count" "I") ∈ lw_all := lw_g (lw_at lw_m2 72 rfl) rfl
theorem q415 : (Jvm.Cond.superclass "java/lang/StringBuilder" "java/lang/AbstractStringBuilder") ∈ lw_all := lw_g (lw_at lw_m2 74 rfl) rfl
theorem q419 : (Jvm.Cond.instanceMethod ({ cls := "java/lang/StringBuilder", name := "append", desc := "(Ljava/lang/String;)Ljava/lang/StringBuilder;" } : Jvm.MethodName)) ∈ lw_all := lw_g (lw_at lw_m2 78 rfl) rfl
theorem q420 : (Jvm.Cond.selects "java/lang/StringBuilder" ({ cls := "java/lang/StringBuilder", name := "append", desc := "(Ljava/lang/String;)Ljava/lang/StringBuilder;" } : Jvm.MethodName) ({ cls := "java/lang/StringBuilder", name := "append", desc := "(Ljava/lang/String;)Ljava/lang/StringBuilder;" } : Jvm.MethodName)) ∈ lw_all := lw_g (lw_at lw_m2 79 rfl) rfl
theorem q421 : (Jvm.Cond.code ({ cls := "java/lang/StringBuilder", name := "append", desc := "(Ljava/lang/String;)Ljava/lang/StringBuilder;" } : Jvm.MethodName) prog_37_method_7_code (2 : Nat) (Option.some (Jvm.ClassFile.FieldType.object "java/lang/StringBuilder"))) ∈ lw_all := lw_g (lw_at lw_m2 80 rfl) rfl
theorem q422 : (Jvm.Cond.methodLink "java/lang/StringBuilder" (29 : Nat) ({ cls := "java/lang/AbstractStringBuilder", name := "append", desc := "(Ljava/lang/String;)Ljava/lang/AbstractStringBuilder;" } : Jvm.MethodName)) ∈ lw_all := lw_g (lw_at lw_m2 81 rfl) rfl
theorem q452 : (Jvm.Cond.selects "java/lang/StringBuilder" ({ cls := "java/lang/AbstractStringBuilder", name := "isLatin1", desc := "()Z" } : Jvm.MethodName) ({ cls := "java/lang/AbstractStringBuilder", name := "isLatin1", desc := "()Z" } : Jvm.MethodName)) ∈ lw_all := lw_g (lw_at lw_m2 111 rfl) rfl
theorem q524 : (Jvm.Cond.instanceMethod ({ cls := "java/lang/StringBuilder", name := "append", desc := "(I)Ljava/lang/StringBuilder;" } : Jvm.MethodName)) ∈ lw_all := lw_g (lw_at lw_m2 183 rfl) rfl
theorem q525 : (Jvm.Cond.selects "java/lang/StringBuilder" ({ cls := "java/lang/StringBuilder", name := "append", desc := "(I)Ljava/lang/StringBuilder;" } : Jvm.MethodName) ({ cls := "java/lang/StringBuilder", name := "append", desc := "(I)Ljava/lang/StringBuilder;" } : Jvm.MethodName)) ∈ lw_all := lw_g (lw_at lw_m2 184 rfl) rfl
theorem q526 : (Jvm.Cond.code ({ cls := "java/lang/StringBuilder", name := "append", desc := "(I)Ljava/lang/StringBuilder;" } : Jvm.MethodName) prog_37_method_15_code (2 : Nat) (Option.some (Jvm.ClassFile.FieldType.object "java/lang/StringBuilder"))) ∈ lw_all := lw_g (lw_at lw_m2 185 rfl) rfl
theorem q527 : (Jvm.Cond.methodLink "java/lang/StringBuilder" (53 : Nat) ({ cls := "java/lang/AbstractStringBuilder", name := "append", desc := "(I)Ljava/lang/AbstractStringBuilder;" } : Jvm.MethodName)) ∈ lw_all := lw_g (lw_at lw_m2 186 rfl) rfl
theorem q549 : (Jvm.Cond.instanceMethod ({ cls := "java/lang/StringBuilder", name := "toString", desc := "()Ljava/lang/String;" } : Jvm.MethodName)) ∈ lw_all := lw_g (lw_at lw_m2 208 rfl) rfl
theorem q550 : (Jvm.Cond.selects "java/lang/StringBuilder" ({ cls := "java/lang/StringBuilder", name := "toString", desc := "()Ljava/lang/String;" } : Jvm.MethodName) ({ cls := "java/lang/StringBuilder", name := "toString", desc := "()Ljava/lang/String;" } : Jvm.MethodName)) ∈ lw_all := lw_g (lw_at lw_m2 209 rfl) rfl
theorem q551 : (Jvm.Cond.code ({ cls := "java/lang/StringBuilder", name := "toString", desc := "()Ljava/lang/String;" } : Jvm.MethodName) prog_37_method_42_code (1 : Nat) (Option.some (Jvm.ClassFile.FieldType.object "java/lang/String"))) ∈ lw_all := lw_g (lw_at lw_m2 210 rfl) rfl
theorem q552 : (Jvm.Cond.classLink "java/lang/StringBuilder" (18 : Nat) "java/lang/String") ∈ lw_all := lw_g (lw_at lw_m2 211 rfl) rfl
theorem q554 : (Jvm.Cond.methodLink "java/lang/StringBuilder" (137 : Nat) ({ cls := "java/lang/String", name := "<init>", desc := "(Ljava/lang/StringBuilder;)V" } : Jvm.MethodName)) ∈ lw_all := lw_g (lw_at lw_m2 213 rfl) rfl
theorem q564 : (Jvm.Cond.selects "java/lang/StringBuilder" ({ cls := "java/lang/AbstractStringBuilder", name := "getValue", desc := "()[B" } : Jvm.MethodName) ({ cls := "java/lang/AbstractStringBuilder", name := "getValue", desc := "()[B" } : Jvm.MethodName)) ∈ lw_all := lw_g (lw_at lw_m2 223 rfl) rfl
theorem q569 : (Jvm.Cond.selects "java/lang/StringBuilder" ({ cls := "java/lang/AbstractStringBuilder", name := "length", desc := "()I" } : Jvm.MethodName) ({ cls := "java/lang/StringBuilder", name := "length", desc := "()I" } : Jvm.MethodName)) ∈ lw_all := lw_g (lw_at lw_m2 228 rfl) rfl
theorem q570 : (Jvm.Cond.instanceMethod ({ cls := "java/lang/StringBuilder", name := "length", desc := "()I" } : Jvm.MethodName)) ∈ lw_all := lw_g (lw_at lw_m2 229 rfl) rfl
theorem q571 : (Jvm.Cond.code ({ cls := "java/lang/StringBuilder", name := "length", desc := "()I" } : Jvm.MethodName) prog_37_method_93_code (1 : Nat) (Option.some Jvm.ClassFile.FieldType.int)) ∈ lw_all := lw_g (lw_at lw_m2 230 rfl) rfl
theorem q572 : (Jvm.Cond.methodLink "java/lang/StringBuilder" (343 : Nat) ({ cls := "java/lang/AbstractStringBuilder", name := "length", desc := "()I" } : Jvm.MethodName)) ∈ lw_all := lw_g (lw_at lw_m2 231 rfl) rfl
theorem q886 : (Jvm.Cond.selects "java/lang/StringBuilder" ({ cls := "java/lang/Object", name := "equals", desc := "(Ljava/lang/Object;)Z" } : Jvm.MethodName) ({ cls := "java/lang/Object", name := "equals", desc := "(Ljava/lang/Object;)Z" } : Jvm.MethodName)) ∈ lw_all := lw_g (lw_at lw_m4 65 rfl) rfl
theorem q1638 : (Jvm.Cond.castable "java/lang/StringBuilder" "java/lang/Comparable") ∈ lw_tbl := lw_at lw_m7 97 rfl
theorem q1639 : (Jvm.Cond.selects "java/lang/StringBuilder" ({ cls := "java/lang/Comparable", name := "compareTo", desc := "(Ljava/lang/Object;)I" } : Jvm.MethodName) ({ cls := "java/lang/StringBuilder", name := "compareTo", desc := "(Ljava/lang/Object;)I" } : Jvm.MethodName)) ∈ lw_all := lw_g (lw_at lw_m7 98 rfl) rfl
theorem q1640 : (Jvm.Cond.unhidden "java/lang/StringBuilder" "compareTo" "(Ljava/lang/Object;)I") ∈ lw_tbl := lw_at lw_m7 99 rfl
theorem q1641 : (Jvm.Cond.instanceMethod ({ cls := "java/lang/StringBuilder", name := "compareTo", desc := "(Ljava/lang/Object;)I" } : Jvm.MethodName)) ∈ lw_all := lw_g (lw_at lw_m7 100 rfl) rfl
theorem q1642 : (Jvm.Cond.publicMethod ({ cls := "java/lang/StringBuilder", name := "compareTo", desc := "(Ljava/lang/Object;)I" } : Jvm.MethodName)) ∈ lw_tbl := lw_at lw_m7 101 rfl
theorem q1643 : (Jvm.Cond.code ({ cls := "java/lang/StringBuilder", name := "compareTo", desc := "(Ljava/lang/Object;)I" } : Jvm.MethodName) prog_37_method_97_code (2 : Nat) (Option.some Jvm.ClassFile.FieldType.int)) ∈ lw_all := lw_g (lw_at lw_m7 102 rfl) rfl
theorem q1644 : (Jvm.Cond.classLink "java/lang/StringBuilder" (24 : Nat) "java/lang/StringBuilder") ∈ lw_all := lw_g (lw_at lw_m7 103 rfl) rfl
theorem q1645 : (Jvm.Cond.methodLink "java/lang/StringBuilder" (346 : Nat) ({ cls := "java/lang/StringBuilder", name := "compareTo", desc := "(Ljava/lang/StringBuilder;)I" } : Jvm.MethodName)) ∈ lw_all := lw_g (lw_at lw_m7 104 rfl) rfl
theorem q1646 : (Jvm.Cond.instanceMethod ({ cls := "java/lang/StringBuilder", name := "compareTo", desc := "(Ljava/lang/StringBuilder;)I" } : Jvm.MethodName)) ∈ lw_all := lw_g (lw_at lw_m7 105 rfl) rfl
theorem q1647 : (Jvm.Cond.selects "java/lang/StringBuilder" ({ cls := "java/lang/StringBuilder", name := "compareTo", desc := "(Ljava/lang/StringBuilder;)I" } : Jvm.MethodName) ({ cls := "java/lang/StringBuilder", name := "compareTo", desc := "(Ljava/lang/StringBuilder;)I" } : Jvm.MethodName)) ∈ lw_all := lw_g (lw_at lw_m7 106 rfl) rfl
theorem q1648 : (Jvm.Cond.code ({ cls := "java/lang/StringBuilder", name := "compareTo", desc := "(Ljava/lang/StringBuilder;)I" } : Jvm.MethodName) prog_37_method_5_code (2 : Nat) (Option.some Jvm.ClassFile.FieldType.int)) ∈ lw_all := lw_g (lw_at lw_m7 107 rfl) rfl
theorem q1649 : (Jvm.Cond.methodLink "java/lang/StringBuilder" (13 : Nat) ({ cls := "java/lang/AbstractStringBuilder", name := "compareTo", desc := "(Ljava/lang/AbstractStringBuilder;)I" } : Jvm.MethodName)) ∈ lw_all := lw_g (lw_at lw_m7 108 rfl) rfl
theorem q3302 : (Jvm.Cond.castable "java/lang/StringBuilder" "java/lang/Object") ∈ lw_tbl := lw_at lw_m14 81 rfl
theorem in_J14 : ∀ w ∈ wsJ140, w ∈ lw_all := lw_in wsJ140 [407, 409, 411, 413] (by decide +kernel) (by decide +kernel)
/-! java/lang/String -/
set_option maxRecDepth 100000
def RJ15 : String := "java/lang/String"
def TJ15 : u_T := fun k => match k with
  | 0 => ("java/lang/String", "value", "[B", true)
  | 1 => ("java/lang/String", "coder", "B", true)
  | 2 => ("java/lang/String", "hash", "I", false)
  | _ => ("java/lang/String", "hashIsZero", "Z", false)
def tyJ15 : Nat → FieldType := fun k => match k with
  | 0 => .array .byte
  | 1 => .byte
  | 2 => .int
  | _ => .boolean
abbrev wsJ150 : List Cond := u_ws RJ15 TJ15 4
theorem nmJ15 : ∀ a, a < 4 → ∀ b, b < 4 → a ≠ b → (TJ15 a).2.1 ≠ (TJ15 b).2.1 := by decide +kernel
theorem tyJ15_ok : ∀ k, k < 4 → parseFieldDescriptor (TJ15 k).2.2.1 = some (tyJ15 k) := by decide +kernel
abbrev cJ15_length : ByteArray := prog_36_method_54_code
def yJ15_length : MethodName := ⟨RJ15, "length", "()I"⟩
def dkwJ15_length_0 : List UInt8 := [42, 180, 0, 9, 190, 42, 182, 1, 79, 122, 172]
abbrev dktJ15_length_0 : List UInt8 := dkwJ15_length_0 ++ []
theorem dksJ15_length_0 : cJ15_length.data.toList.drop 0 = dktJ15_length_0 := by decide +kernel
theorem dJ15_length_0 : decode cJ15_length 0 = .ok (.aload_n 0, 1) := dk_42 (dk_at dksJ15_length_0 0 rfl rfl)
theorem dJ15_length_1 : decode cJ15_length 1 = .ok (.getfield 9, 3) := dk_180 0 9 (dk_at dksJ15_length_0 1 rfl rfl)
theorem dJ15_length_4 : decode cJ15_length 4 = .ok (.arraylength, 1) := dk_190 (dk_at dksJ15_length_0 4 rfl rfl)
theorem dJ15_length_5 : decode cJ15_length 5 = .ok (.aload_n 0, 1) := dk_42 (dk_at dksJ15_length_0 5 rfl rfl)
theorem dJ15_length_6 : decode cJ15_length 6 = .ok (.invokevirtual 335, 3) := dk_182 1 79 (dk_at dksJ15_length_0 6 rfl rfl)
theorem dJ15_length_9 : decode cJ15_length 9 = .ok (.ishr, 1) := dk_122 (dk_at dksJ15_length_0 9 rfl rfl)
theorem dJ15_length_10 : decode cJ15_length 10 = .ok (.ireturn, 1) := dk_172 (dk_at dksJ15_length_0 10 rfl rfl)
abbrev cJ15_coder : ByteArray := prog_36_method_152_code
def yJ15_coder : MethodName := ⟨RJ15, "coder", "()B"⟩
def dkwJ15_coder_0 : List UInt8 := [178, 0, 38, 153, 0, 10, 42, 180, 0, 15, 167, 0, 4, 4, 172]
abbrev dktJ15_coder_0 : List UInt8 := dkwJ15_coder_0 ++ []
theorem dksJ15_coder_0 : cJ15_coder.data.toList.drop 0 = dktJ15_coder_0 := by decide +kernel
theorem dJ15_coder_0 : decode cJ15_coder 0 = .ok (.getstatic 38, 3) := dk_178 0 38 (dk_at dksJ15_coder_0 0 rfl rfl)
theorem dJ15_coder_3 : decode cJ15_coder 3 = .ok (.ifCond .eq 10, 3) := dk_153 0 10 (dk_at dksJ15_coder_0 3 rfl rfl)
theorem dJ15_coder_6 : decode cJ15_coder 6 = .ok (.aload_n 0, 1) := dk_42 (dk_at dksJ15_coder_0 6 rfl rfl)
theorem dJ15_coder_7 : decode cJ15_coder 7 = .ok (.getfield 15, 3) := dk_180 0 15 (dk_at dksJ15_coder_0 7 rfl rfl)
theorem dJ15_coder_10 : decode cJ15_coder 10 = .ok (.goto 4, 3) := dk_167 0 4 (dk_at dksJ15_coder_0 10 rfl rfl)
theorem dJ15_coder_13 : decode cJ15_coder 13 = .ok (.iconst 1, 1) := dk_4 (dk_at dksJ15_coder_0 13 rfl rfl)
theorem dJ15_coder_14 : decode cJ15_coder 14 = .ok (.ireturn, 1) := dk_172 (dk_at dksJ15_coder_0 14 rfl rfl)
abbrev cJ15_indexOf : ByteArray := prog_36_method_79_code
def yJ15_indexOf : MethodName := ⟨RJ15, "indexOf", "(I)I"⟩
def dkwJ15_indexOf_0 : List UInt8 := [42, 27, 3, 182, 2, 121, 172]
abbrev dktJ15_indexOf_0 : List UInt8 := dkwJ15_indexOf_0 ++ []
theorem dksJ15_indexOf_0 : cJ15_indexOf.data.toList.drop 0 = dktJ15_indexOf_0 := by decide +kernel
theorem dJ15_indexOf_0 : decode cJ15_indexOf 0 = .ok (.aload_n 0, 1) := dk_42 (dk_at dksJ15_indexOf_0 0 rfl rfl)
theorem dJ15_indexOf_1 : decode cJ15_indexOf 1 = .ok (.iload_n 1, 1) := dk_27 (dk_at dksJ15_indexOf_0 1 rfl rfl)
theorem dJ15_indexOf_2 : decode cJ15_indexOf 2 = .ok (.iconst 0, 1) := dk_3 (dk_at dksJ15_indexOf_0 2 rfl rfl)
theorem dJ15_indexOf_3 : decode cJ15_indexOf 3 = .ok (.invokevirtual 633, 3) := dk_182 2 121 (dk_at dksJ15_indexOf_0 3 rfl rfl)
theorem dJ15_indexOf_6 : decode cJ15_indexOf 6 = .ok (.ireturn, 1) := dk_172 (dk_at dksJ15_indexOf_0 6 rfl rfl)
abbrev cJ15_indexOf_2 : ByteArray := prog_36_method_80_code
def yJ15_indexOf_2 : MethodName := ⟨RJ15, "indexOf", "(II)I"⟩
def dkwJ15_indexOf_2_1 : List UInt8 := [180, 0, 9, 27, 28, 42, 182, 1, 249, 184, 2, 128, 172]
abbrev dktJ15_indexOf_2_1 : List UInt8 := dkwJ15_indexOf_2_1 ++ []
def dkwJ15_indexOf_2_0 : List UInt8 := [42, 182, 1, 236, 153, 0, 19, 42, 180, 0, 9, 27, 28, 42, 182, 1, 249, 184, 2, 125, 167, 0, 16, 42]
abbrev dktJ15_indexOf_2_0 : List UInt8 := dkwJ15_indexOf_2_0 ++ dktJ15_indexOf_2_1
theorem dksJ15_indexOf_2_0 : cJ15_indexOf_2.data.toList.drop 0 = dktJ15_indexOf_2_0 := by decide +kernel
theorem dksJ15_indexOf_2_1 : cJ15_indexOf_2.data.toList.drop 24 = dktJ15_indexOf_2_1 := dk_seg dksJ15_indexOf_2_0 24 rfl rfl
theorem dJ15_indexOf_2_0 : decode cJ15_indexOf_2 0 = .ok (.aload_n 0, 1) := dk_42 (dk_at dksJ15_indexOf_2_0 0 rfl rfl)
theorem dJ15_indexOf_2_1 : decode cJ15_indexOf_2 1 = .ok (.invokevirtual 492, 3) := dk_182 1 236 (dk_at dksJ15_indexOf_2_0 1 rfl rfl)
theorem dJ15_indexOf_2_4 : decode cJ15_indexOf_2 4 = .ok (.ifCond .eq 19, 3) := dk_153 0 19 (dk_at dksJ15_indexOf_2_0 4 rfl rfl)
theorem dJ15_indexOf_2_7 : decode cJ15_indexOf_2 7 = .ok (.aload_n 0, 1) := dk_42 (dk_at dksJ15_indexOf_2_0 7 rfl rfl)
theorem dJ15_indexOf_2_8 : decode cJ15_indexOf_2 8 = .ok (.getfield 9, 3) := dk_180 0 9 (dk_at dksJ15_indexOf_2_0 8 rfl rfl)
theorem dJ15_indexOf_2_11 : decode cJ15_indexOf_2 11 = .ok (.iload_n 1, 1) := dk_27 (dk_at dksJ15_indexOf_2_0 11 rfl rfl)
theorem dJ15_indexOf_2_12 : decode cJ15_indexOf_2 12 = .ok (.iload_n 2, 1) := dk_28 (dk_at dksJ15_indexOf_2_0 12 rfl rfl)
theorem dJ15_indexOf_2_13 : decode cJ15_indexOf_2 13 = .ok (.aload_n 0, 1) := dk_42 (dk_at dksJ15_indexOf_2_0 13 rfl rfl)
theorem dJ15_indexOf_2_14 : decode cJ15_indexOf_2 14 = .ok (.invokevirtual 505, 3) := dk_182 1 249 (dk_at dksJ15_indexOf_2_0 14 rfl rfl)
theorem dJ15_indexOf_2_17 : decode cJ15_indexOf_2 17 = .ok (.invokestatic 637, 3) := dk_184 2 125 (dk_at dksJ15_indexOf_2_0 17 rfl rfl)
theorem dJ15_indexOf_2_20 : decode cJ15_indexOf_2 20 = .ok (.goto 16, 3) := dk_167 0 16 (dk_at dksJ15_indexOf_2_0 20 rfl rfl)
theorem dJ15_indexOf_2_23 : decode cJ15_indexOf_2 23 = .ok (.aload_n 0, 1) := dk_42 (dk_at dksJ15_indexOf_2_0 23 rfl rfl)
theorem dJ15_indexOf_2_24 : decode cJ15_indexOf_2 24 = .ok (.getfield 9, 3) := dk_180 0 9 (dk_at dksJ15_indexOf_2_1 0 rfl rfl)
theorem dJ15_indexOf_2_27 : decode cJ15_indexOf_2 27 = .ok (.iload_n 1, 1) := dk_27 (dk_at dksJ15_indexOf_2_1 3 rfl rfl)
theorem dJ15_indexOf_2_28 : decode cJ15_indexOf_2 28 = .ok (.iload_n 2, 1) := dk_28 (dk_at dksJ15_indexOf_2_1 4 rfl rfl)
theorem dJ15_indexOf_2_29 : decode cJ15_indexOf_2 29 = .ok (.aload_n 0, 1) := dk_42 (dk_at dksJ15_indexOf_2_1 5 rfl rfl)
theorem dJ15_indexOf_2_30 : decode cJ15_indexOf_2 30 = .ok (.invokevirtual 505, 3) := dk_182 1 249 (dk_at dksJ15_indexOf_2_1 6 rfl rfl)
theorem dJ15_indexOf_2_33 : decode cJ15_indexOf_2 33 = .ok (.invokestatic 640, 3) := dk_184 2 128 (dk_at dksJ15_indexOf_2_1 9 rfl rfl)
theorem dJ15_indexOf_2_36 : decode cJ15_indexOf_2 36 = .ok (.ireturn, 1) := dk_172 (dk_at dksJ15_indexOf_2_1 12 rfl rfl)
abbrev cJ15_isLatin1 : ByteArray := prog_36_method_154_code
def yJ15_isLatin1 : MethodName := ⟨RJ15, "isLatin1", "()Z"⟩
def dkwJ15_isLatin1_0 : List UInt8 := [178, 0, 38, 153, 0, 14, 42, 180, 0, 15, 154, 0, 7, 4, 167, 0, 4, 3, 172]
abbrev dktJ15_isLatin1_0 : List UInt8 := dkwJ15_isLatin1_0 ++ []
theorem dksJ15_isLatin1_0 : cJ15_isLatin1.data.toList.drop 0 = dktJ15_isLatin1_0 := by decide +kernel
theorem dJ15_isLatin1_0 : decode cJ15_isLatin1 0 = .ok (.getstatic 38, 3) := dk_178 0 38 (dk_at dksJ15_isLatin1_0 0 rfl rfl)
theorem dJ15_isLatin1_3 : decode cJ15_isLatin1 3 = .ok (.ifCond .eq 14, 3) := dk_153 0 14 (dk_at dksJ15_isLatin1_0 3 rfl rfl)
theorem dJ15_isLatin1_6 : decode cJ15_isLatin1 6 = .ok (.aload_n 0, 1) := dk_42 (dk_at dksJ15_isLatin1_0 6 rfl rfl)
theorem dJ15_isLatin1_7 : decode cJ15_isLatin1 7 = .ok (.getfield 15, 3) := dk_180 0 15 (dk_at dksJ15_isLatin1_0 7 rfl rfl)
theorem dJ15_isLatin1_10 : decode cJ15_isLatin1 10 = .ok (.ifCond .ne 7, 3) := dk_154 0 7 (dk_at dksJ15_isLatin1_0 10 rfl rfl)
theorem dJ15_isLatin1_13 : decode cJ15_isLatin1 13 = .ok (.iconst 1, 1) := dk_4 (dk_at dksJ15_isLatin1_0 13 rfl rfl)
theorem dJ15_isLatin1_14 : decode cJ15_isLatin1 14 = .ok (.goto 4, 3) := dk_167 0 4 (dk_at dksJ15_isLatin1_0 14 rfl rfl)
theorem dJ15_isLatin1_17 : decode cJ15_isLatin1 17 = .ok (.iconst 0, 1) := dk_3 (dk_at dksJ15_isLatin1_0 17 rfl rfl)
theorem dJ15_isLatin1_18 : decode cJ15_isLatin1 18 = .ok (.ireturn, 1) := dk_172 (dk_at dksJ15_isLatin1_0 18 rfl rfl)
theorem q121 : (Jvm.Cond.initialized "java/lang/String") ∈ lw_all := lw_g (lw_at lw_m1 20 rfl) rfl
theorem q306 : (Jvm.Cond.selects "java/lang/String" ({ cls := "java/lang/Object", name := "getClass", desc := "()Ljava/lang/Class;" } : Jvm.MethodName) ({ cls := "java/lang/Object", name := "getClass", desc := "()Ljava/lang/Class;" } : Jvm.MethodName)) ∈ lw_all := lw_g (lw_at lw_m1 205 rfl) rfl
theorem q395 : (Jvm.Cond.laysStatic "java/lang/String" "COMPACT_STRINGS" "Z") ∈ lw_tbl := lw_at lw_m2 54 rfl
theorem q405 : (Jvm.Cond.fieldLink "java/lang/String" (1048 : Nat) "java/lang/AbstractStringBuilder" "maybeLatin1" "Z") ∈ lw_all := lw_g (lw_at lw_m2 64 rfl) rfl
theorem q464 : (Jvm.Cond.static ({ cls := "java/lang/String", name := "checkBoundsBeginEnd", desc := "(III)V" } : Jvm.MethodName)) ∈ lw_all := lw_g (lw_at lw_m2 123 rfl) rfl
theorem q465 : (Jvm.Cond.code ({ cls := "java/lang/String", name := "checkBoundsBeginEnd", desc := "(III)V" } : Jvm.MethodName) prog_36_method_158_code (3 : Nat) (Option.none : Option Jvm.ClassFile.FieldType)) ∈ lw_all := lw_g (lw_at lw_m2 124 rfl) rfl
theorem q466 : (Jvm.Cond.fieldLink "java/lang/String" (1053 : Nat) "jdk/internal/util/Preconditions" "SIOOBE_FORMATTER" "Ljava/util/function/BiFunction;") ∈ lw_all := lw_g (lw_at lw_m2 125 rfl) rfl
theorem q468 : (Jvm.Cond.methodLink "java/lang/String" (1062 : Nat) ({ cls := "jdk/internal/util/Preconditions", name := "checkFromToIndex", desc := "(IIILjava/util/function/BiFunction;)I" } : Jvm.MethodName)) ∈ lw_all := lw_g (lw_at lw_m2 127 rfl) rfl
theorem q481 : (Jvm.Cond.instanceMethod ({ cls := "java/lang/String", name := "length", desc := "()I" } : Jvm.MethodName)) ∈ lw_all := lw_g (lw_at lw_m2 140 rfl) rfl
theorem q482 : (Jvm.Cond.selects "java/lang/String" ({ cls := "java/lang/String", name := "length", desc := "()I" } : Jvm.MethodName) ({ cls := "java/lang/String", name := "length", desc := "()I" } : Jvm.MethodName)) ∈ lw_all := lw_g (lw_at lw_m2 141 rfl) rfl
theorem q483 : (Jvm.Cond.code ({ cls := "java/lang/String", name := "length", desc := "()I" } : Jvm.MethodName) prog_36_method_54_code (1 : Nat) (Option.some Jvm.ClassFile.FieldType.int)) ∈ lw_all := lw_g (lw_at lw_m2 142 rfl) rfl
theorem q484 : (Jvm.Cond.methodLink "java/lang/String" (335 : Nat) ({ cls := "java/lang/String", name := "coder", desc := "()B" } : Jvm.MethodName)) ∈ lw_all := lw_g (lw_at lw_m2 143 rfl) rfl
theorem q485 : (Jvm.Cond.instanceMethod ({ cls := "java/lang/String", name := "coder", desc := "()B" } : Jvm.MethodName)) ∈ lw_all := lw_g (lw_at lw_m2 144 rfl) rfl
theorem q486 : (Jvm.Cond.selects "java/lang/String" ({ cls := "java/lang/String", name := "coder", desc := "()B" } : Jvm.MethodName) ({ cls := "java/lang/String", name := "coder", desc := "()B" } : Jvm.MethodName)) ∈ lw_all := lw_g (lw_at lw_m2 145 rfl) rfl
theorem q487 : (Jvm.Cond.code ({ cls := "java/lang/String", name := "coder", desc := "()B" } : Jvm.MethodName) prog_36_method_152_code (1 : Nat) (Option.some Jvm.ClassFile.FieldType.byte)) ∈ lw_all := lw_g (lw_at lw_m2 146 rfl) rfl
theorem q488 : (Jvm.Cond.fieldLink "java/lang/String" (38 : Nat) "java/lang/String" "COMPACT_STRINGS" "Z") ∈ lw_all := lw_g (lw_at lw_m2 147 rfl) rfl
theorem q512 : (Jvm.Cond.static ({ cls := "java/lang/String", name := "checkBoundsOffCount", desc := "(III)I" } : Jvm.MethodName)) ∈ lw_all := lw_g (lw_at lw_m2 171 rfl) rfl
theorem q513 : (Jvm.Cond.code ({ cls := "java/lang/String", name := "checkBoundsOffCount", desc := "(III)I" } : Jvm.MethodName) prog_36_method_157_code (3 : Nat) (Option.some Jvm.ClassFile.FieldType.int)) ∈ lw_all := lw_g (lw_at lw_m2 172 rfl) rfl
theorem q514 : (Jvm.Cond.methodLink "java/lang/String" (1065 : Nat) ({ cls := "jdk/internal/util/Preconditions", name := "checkFromIndexSize", desc := "(IIILjava/util/function/BiFunction;)I" } : Jvm.MethodName)) ∈ lw_all := lw_g (lw_at lw_m2 173 rfl) rfl
theorem q518 : (Jvm.Cond.instanceMethod ({ cls := "java/lang/String", name := "getBytes", desc := "([BIB)V" } : Jvm.MethodName)) ∈ lw_all := lw_g (lw_at lw_m2 177 rfl) rfl
theorem q519 : (Jvm.Cond.selects "java/lang/String" ({ cls := "java/lang/String", name := "getBytes", desc := "([BIB)V" } : Jvm.MethodName) ({ cls := "java/lang/String", name := "getBytes", desc := "([BIB)V" } : Jvm.MethodName)) ∈ lw_all := lw_g (lw_at lw_m2 178 rfl) rfl
theorem q520 : (Jvm.Cond.code ({ cls := "java/lang/String", name := "getBytes", desc := "([BIB)V" } : Jvm.MethodName) prog_36_method_147_code (4 : Nat) (Option.none : Option Jvm.ClassFile.FieldType)) ∈ lw_all := lw_g (lw_at lw_m2 179 rfl) rfl
theorem q521 : (Jvm.Cond.methodLink "java/lang/String" (212 : Nat) ({ cls := "java/lang/System", name := "arraycopy", desc := "(Ljava/lang/Object;ILjava/lang/Object;II)V" } : Jvm.MethodName)) ∈ lw_all := lw_g (lw_at lw_m2 180 rfl) rfl
theorem q522 : (Jvm.Cond.methodLink "java/lang/String" (106 : Nat) ({ cls := "java/lang/StringLatin1", name := "inflate", desc := "([BI[BII)V" } : Jvm.MethodName)) ∈ lw_all := lw_g (lw_at lw_m2 181 rfl) rfl
theorem q553 : (Jvm.Cond.instantiable "java/lang/String" (4 : Nat)) ∈ lw_all := lw_g (lw_at lw_m2 212 rfl) rfl
theorem q555 : (Jvm.Cond.instanceMethod ({ cls := "java/lang/String", name := "<init>", desc := "(Ljava/lang/StringBuilder;)V" } : Jvm.MethodName)) ∈ lw_all := lw_g (lw_at lw_m2 214 rfl) rfl
theorem q556 : (Jvm.Cond.code ({ cls := "java/lang/String", name := "<init>", desc := "(Ljava/lang/StringBuilder;)V" } : Jvm.MethodName) prog_36_method_53_code (2 : Nat) (Option.none : Option Jvm.ClassFile.FieldType)) ∈ lw_all := lw_g (lw_at lw_m2 215 rfl) rfl
theorem q557 : (Jvm.Cond.methodLink "java/lang/String" (489 : Nat) ({ cls := "java/lang/String", name := "<init>", desc := "(Ljava/lang/AbstractStringBuilder;Ljava/lang/Void;)V" } : Jvm.MethodName)) ∈ lw_all := lw_g (lw_at lw_m2 216 rfl) rfl
theorem q558 : (Jvm.Cond.instanceMethod ({ cls := "java/lang/String", name := "<init>", desc := "(Ljava/lang/AbstractStringBuilder;Ljava/lang/Void;)V" } : Jvm.MethodName)) ∈ lw_all := lw_g (lw_at lw_m2 217 rfl) rfl
theorem q559 : (Jvm.Cond.code ({ cls := "java/lang/String", name := "<init>", desc := "(Ljava/lang/AbstractStringBuilder;Ljava/lang/Void;)V" } : Jvm.MethodName) prog_36_method_150_code (5 : Nat) (Option.none : Option Jvm.ClassFile.FieldType)) ∈ lw_all := lw_g (lw_at lw_m2 218 rfl) rfl
theorem q560 : (Jvm.Cond.methodLink "java/lang/String" (1 : Nat) ({ cls := "java/lang/Object", name := "<init>", desc := "()V" } : Jvm.MethodName)) ∈ lw_all := lw_g (lw_at lw_m2 219 rfl) rfl
theorem q561 : (Jvm.Cond.methodLink "java/lang/String" (552 : Nat) ({ cls := "java/lang/AbstractStringBuilder", name := "getValue", desc := "()[B" } : Jvm.MethodName)) ∈ lw_all := lw_g (lw_at lw_m2 220 rfl) rfl
theorem q566 : (Jvm.Cond.methodLink "java/lang/String" (549 : Nat) ({ cls := "java/lang/AbstractStringBuilder", name := "length", desc := "()I" } : Jvm.MethodName)) ∈ lw_all := lw_g (lw_at lw_m2 225 rfl) rfl
theorem q574 : (Jvm.Cond.methodLink "java/lang/String" (1047 : Nat) ({ cls := "java/lang/AbstractStringBuilder", name := "isLatin1", desc := "()Z" } : Jvm.MethodName)) ∈ lw_all := lw_g (lw_at lw_m2 233 rfl) rfl
theorem q575 : (Jvm.Cond.methodLink "java/lang/String" (54 : Nat) ({ cls := "java/util/Arrays", name := "copyOfRange", desc := "([BII)[B" } : Jvm.MethodName)) ∈ lw_all := lw_g (lw_at lw_m2 234 rfl) rfl
theorem q624 : (Jvm.Cond.methodLink "java/lang/String" (1051 : Nat) ({ cls := "java/lang/StringUTF16", name := "compress", desc := "([BII)[B" } : Jvm.MethodName)) ∈ lw_all := lw_g (lw_at lw_m3 43 rfl) rfl
theorem q634 : (Jvm.Cond.methodLink "java/lang/String" (47 : Nat) ({ cls := "java/lang/StringUTF16", name := "coderFromArrayLen", desc := "([BI)B" } : Jvm.MethodName)) ∈ lw_all := lw_g (lw_at lw_m3 53 rfl) rfl
theorem q637 : (Jvm.Cond.fieldLink "java/lang/String" (9 : Nat) "java/lang/String" "value" "[B") ∈ lw_all := lw_g (lw_at lw_m3 56 rfl) rfl
theorem q638 : (Jvm.Cond.fieldLink "java/lang/String" (15 : Nat) "java/lang/String" "coder" "B") ∈ lw_all := lw_g (lw_at lw_m3 57 rfl) rfl
theorem q639 : (Jvm.Cond.laysFinal "java/lang/String" "java/lang/String" "value" "[B") ∈ lw_all := lw_g (lw_at lw_m3 58 rfl) rfl
theorem q640 : (Jvm.Cond.soleField "java/lang/String" "value") ∈ lw_all := lw_g (lw_at lw_m3 59 rfl) rfl
theorem q641 : (Jvm.Cond.laysFinal "java/lang/String" "java/lang/String" "coder" "B") ∈ lw_all := lw_g (lw_at lw_m3 60 rfl) rfl
theorem q642 : (Jvm.Cond.soleField "java/lang/String" "coder") ∈ lw_all := lw_g (lw_at lw_m3 61 rfl) rfl
theorem q643 : (Jvm.Cond.lays "java/lang/String" "java/lang/String" "hash" "I") ∈ lw_all := lw_g (lw_at lw_m3 62 rfl) rfl
theorem q644 : (Jvm.Cond.soleField "java/lang/String" "hash") ∈ lw_all := lw_g (lw_at lw_m3 63 rfl) rfl
theorem q645 : (Jvm.Cond.lays "java/lang/String" "java/lang/String" "hashIsZero" "Z") ∈ lw_all := lw_g (lw_at lw_m3 64 rfl) rfl
theorem q646 : (Jvm.Cond.soleField "java/lang/String" "hashIsZero") ∈ lw_all := lw_g (lw_at lw_m3 65 rfl) rfl
theorem q647 : (Jvm.Cond.superclass "java/lang/String" "java/lang/Object") ∈ lw_all := lw_g (lw_at lw_m3 66 rfl) rfl
theorem q879 : (Jvm.Cond.selects "java/lang/String" ({ cls := "java/lang/Object", name := "equals", desc := "(Ljava/lang/Object;)Z" } : Jvm.MethodName) ({ cls := "java/lang/String", name := "equals", desc := "(Ljava/lang/Object;)Z" } : Jvm.MethodName)) ∈ lw_all := lw_g (lw_at lw_m4 58 rfl) rfl
theorem q880 : (Jvm.Cond.instanceMethod ({ cls := "java/lang/String", name := "equals", desc := "(Ljava/lang/Object;)Z" } : Jvm.MethodName)) ∈ lw_all := lw_g (lw_at lw_m4 59 rfl) rfl
theorem q881 : (Jvm.Cond.code ({ cls := "java/lang/String", name := "equals", desc := "(Ljava/lang/Object;)Z" } : Jvm.MethodName) prog_36_method_66_code (3 : Nat) (Option.some Jvm.ClassFile.FieldType.boolean)) ∈ lw_all := lw_g (lw_at lw_m4 60 rfl) rfl
theorem q882 : (Jvm.Cond.classLink "java/lang/String" (10 : Nat) "java/lang/String") ∈ lw_all := lw_g (lw_at lw_m4 61 rfl) rfl
theorem q883 : (Jvm.Cond.methodLink "java/lang/String" (541 : Nat) ({ cls := "java/lang/StringLatin1", name := "equals", desc := "([B[B)Z" } : Jvm.MethodName)) ∈ lw_all := lw_g (lw_at lw_m4 62 rfl) rfl
theorem q1589 : (Jvm.Cond.castable "java/lang/String" "java/lang/Comparable") ∈ lw_tbl := lw_at lw_m7 48 rfl
theorem q1590 : (Jvm.Cond.selects "java/lang/String" ({ cls := "java/lang/Comparable", name := "compareTo", desc := "(Ljava/lang/Object;)I" } : Jvm.MethodName) ({ cls := "java/lang/String", name := "compareTo", desc := "(Ljava/lang/Object;)I" } : Jvm.MethodName)) ∈ lw_all := lw_g (lw_at lw_m7 49 rfl) rfl
theorem q1591 : (Jvm.Cond.unhidden "java/lang/String" "compareTo" "(Ljava/lang/Object;)I") ∈ lw_tbl := lw_at lw_m7 50 rfl
theorem q1592 : (Jvm.Cond.instanceMethod ({ cls := "java/lang/String", name := "compareTo", desc := "(Ljava/lang/Object;)I" } : Jvm.MethodName)) ∈ lw_all := lw_g (lw_at lw_m7 51 rfl) rfl
theorem q1593 : (Jvm.Cond.publicMethod ({ cls := "java/lang/String", name := "compareTo", desc := "(Ljava/lang/Object;)I" } : Jvm.MethodName)) ∈ lw_tbl := lw_at lw_m7 52 rfl
theorem q1594 : (Jvm.Cond.code ({ cls := "java/lang/String", name := "compareTo", desc := "(Ljava/lang/Object;)I" } : Jvm.MethodName) prog_36_method_162_code (2 : Nat) (Option.some Jvm.ClassFile.FieldType.int)) ∈ lw_all := lw_g (lw_at lw_m7 53 rfl) rfl
theorem q1595 : (Jvm.Cond.methodLink "java/lang/String" (1084 : Nat) ({ cls := "java/lang/String", name := "compareTo", desc := "(Ljava/lang/String;)I" } : Jvm.MethodName)) ∈ lw_all := lw_g (lw_at lw_m7 54 rfl) rfl
theorem q1596 : (Jvm.Cond.instanceMethod ({ cls := "java/lang/String", name := "compareTo", desc := "(Ljava/lang/String;)I" } : Jvm.MethodName)) ∈ lw_all := lw_g (lw_at lw_m7 55 rfl) rfl
theorem q1597 : (Jvm.Cond.selects "java/lang/String" ({ cls := "java/lang/String", name := "compareTo", desc := "(Ljava/lang/String;)I" } : Jvm.MethodName) ({ cls := "java/lang/String", name := "compareTo", desc := "(Ljava/lang/String;)I" } : Jvm.MethodName)) ∈ lw_all := lw_g (lw_at lw_m7 56 rfl) rfl
theorem q1598 : (Jvm.Cond.code ({ cls := "java/lang/String", name := "compareTo", desc := "(Ljava/lang/String;)I" } : Jvm.MethodName) prog_36_method_71_code (5 : Nat) (Option.some Jvm.ClassFile.FieldType.int)) ∈ lw_all := lw_g (lw_at lw_m7 57 rfl) rfl
theorem q1599 : (Jvm.Cond.methodLink "java/lang/String" (586 : Nat) ({ cls := "java/lang/StringLatin1", name := "compareTo", desc := "([B[B)I" } : Jvm.MethodName)) ∈ lw_all := lw_g (lw_at lw_m7 58 rfl) rfl
theorem q1616 : (Jvm.Cond.methodLink "java/lang/String" (590 : Nat) ({ cls := "java/lang/StringUTF16", name := "compareTo", desc := "([B[B)I" } : Jvm.MethodName)) ∈ lw_all := lw_g (lw_at lw_m7 75 rfl) rfl
theorem q1623 : (Jvm.Cond.methodLink "java/lang/String" (591 : Nat) ({ cls := "java/lang/StringLatin1", name := "compareToUTF16", desc := "([B[B)I" } : Jvm.MethodName)) ∈ lw_all := lw_g (lw_at lw_m7 82 rfl) rfl
theorem q1634 : (Jvm.Cond.methodLink "java/lang/String" (594 : Nat) ({ cls := "java/lang/StringUTF16", name := "compareToLatin1", desc := "([B[B)I" } : Jvm.MethodName)) ∈ lw_all := lw_g (lw_at lw_m7 93 rfl) rfl
theorem q1660 : (Jvm.Cond.static ({ cls := "java/lang/String", name := "checkOffset", desc := "(II)V" } : Jvm.MethodName)) ∈ lw_all := lw_g (lw_at lw_m7 119 rfl) rfl
theorem q1661 : (Jvm.Cond.code ({ cls := "java/lang/String", name := "checkOffset", desc := "(II)V" } : Jvm.MethodName) prog_36_method_156_code (2 : Nat) (Option.none : Option Jvm.ClassFile.FieldType)) ∈ lw_all := lw_g (lw_at lw_m7 120 rfl) rfl
theorem q2169 : (Jvm.Cond.instanceMethod ({ cls := "java/lang/String", name := "indexOf", desc := "(I)I" } : Jvm.MethodName)) ∈ lw_all := lw_g (lw_at lw_m9 148 rfl) rfl
theorem q2170 : (Jvm.Cond.selects "java/lang/String" ({ cls := "java/lang/String", name := "indexOf", desc := "(I)I" } : Jvm.MethodName) ({ cls := "java/lang/String", name := "indexOf", desc := "(I)I" } : Jvm.MethodName)) ∈ lw_all := lw_g (lw_at lw_m9 149 rfl) rfl
theorem q2171 : (Jvm.Cond.code ({ cls := "java/lang/String", name := "indexOf", desc := "(I)I" } : Jvm.MethodName) prog_36_method_79_code (2 : Nat) (Option.some Jvm.ClassFile.FieldType.int)) ∈ lw_all := lw_g (lw_at lw_m9 150 rfl) rfl
theorem q2172 : (Jvm.Cond.methodLink "java/lang/String" (633 : Nat) ({ cls := "java/lang/String", name := "indexOf", desc := "(II)I" } : Jvm.MethodName)) ∈ lw_all := lw_g (lw_at lw_m9 151 rfl) rfl
theorem q2173 : (Jvm.Cond.instanceMethod ({ cls := "java/lang/String", name := "indexOf", desc := "(II)I" } : Jvm.MethodName)) ∈ lw_all := lw_g (lw_at lw_m9 152 rfl) rfl
theorem q2174 : (Jvm.Cond.selects "java/lang/String" ({ cls := "java/lang/String", name := "indexOf", desc := "(II)I" } : Jvm.MethodName) ({ cls := "java/lang/String", name := "indexOf", desc := "(II)I" } : Jvm.MethodName)) ∈ lw_all := lw_g (lw_at lw_m9 153 rfl) rfl
theorem q2175 : (Jvm.Cond.code ({ cls := "java/lang/String", name := "indexOf", desc := "(II)I" } : Jvm.MethodName) prog_36_method_80_code (3 : Nat) (Option.some Jvm.ClassFile.FieldType.int)) ∈ lw_all := lw_g (lw_at lw_m9 154 rfl) rfl
theorem q2176 : (Jvm.Cond.methodLink "java/lang/String" (492 : Nat) ({ cls := "java/lang/String", name := "isLatin1", desc := "()Z" } : Jvm.MethodName)) ∈ lw_all := lw_g (lw_at lw_m9 155 rfl) rfl
theorem q2177 : (Jvm.Cond.instanceMethod ({ cls := "java/lang/String", name := "isLatin1", desc := "()Z" } : Jvm.MethodName)) ∈ lw_all := lw_g (lw_at lw_m9 156 rfl) rfl
theorem q2178 : (Jvm.Cond.selects "java/lang/String" ({ cls := "java/lang/String", name := "isLatin1", desc := "()Z" } : Jvm.MethodName) ({ cls := "java/lang/String", name := "isLatin1", desc := "()Z" } : Jvm.MethodName)) ∈ lw_all := lw_g (lw_at lw_m9 157 rfl) rfl
theorem q2179 : (Jvm.Cond.code ({ cls := "java/lang/String", name := "isLatin1", desc := "()Z" } : Jvm.MethodName) prog_36_method_154_code (1 : Nat) (Option.some Jvm.ClassFile.FieldType.boolean)) ∈ lw_all := lw_g (lw_at lw_m9 158 rfl) rfl
theorem q2180 : (Jvm.Cond.methodLink "java/lang/String" (505 : Nat) ({ cls := "java/lang/String", name := "length", desc := "()I" } : Jvm.MethodName)) ∈ lw_all := lw_g (lw_at lw_m9 159 rfl) rfl
theorem q2181 : (Jvm.Cond.methodLink "java/lang/String" (637 : Nat) ({ cls := "java/lang/StringLatin1", name := "indexOf", desc := "([BIII)I" } : Jvm.MethodName)) ∈ lw_all := lw_g (lw_at lw_m9 160 rfl) rfl
theorem q2191 : (Jvm.Cond.methodLink "java/lang/String" (640 : Nat) ({ cls := "java/lang/StringUTF16", name := "indexOf", desc := "([BIII)I" } : Jvm.MethodName)) ∈ lw_all := lw_g (lw_at lw_m9 170 rfl) rfl
theorem q3303 : (Jvm.Cond.castable "java/lang/String" "java/lang/Object") ∈ lw_tbl := lw_at lw_m14 82 rfl
theorem in_J15 : ∀ w ∈ wsJ150, w ∈ lw_all := lw_in wsJ150 [639, 641, 643, 645] (by decide +kernel) (by decide +kernel)
/-! java/lang/StringUTF16 -/
set_option maxRecDepth 100000
def RJ16 : String := "java/lang/StringUTF16"
theorem q122 : (Jvm.Cond.initialized "java/lang/StringUTF16") ∈ lw_all := lw_g (lw_at lw_m1 21 rfl) rfl
theorem q397 : (Jvm.Cond.static ({ cls := "java/lang/StringUTF16", name := "newBytesFor", desc := "(I)[B" } : Jvm.MethodName)) ∈ lw_all := lw_g (lw_at lw_m2 56 rfl) rfl
theorem q398 : (Jvm.Cond.code ({ cls := "java/lang/StringUTF16", name := "newBytesFor", desc := "(I)[B" } : Jvm.MethodName) prog_39_method_2_code (1 : Nat) (Option.some (Jvm.ClassFile.FieldType.array Jvm.ClassFile.FieldType.byte))) ∈ lw_all := lw_g (lw_at lw_m2 57 rfl) rfl
theorem q399 : (Jvm.Cond.methodLink "java/lang/StringUTF16" (11 : Nat) ({ cls := "java/lang/StringUTF16", name := "newBytesLength", desc := "(I)I" } : Jvm.MethodName)) ∈ lw_all := lw_g (lw_at lw_m2 58 rfl) rfl
theorem q400 : (Jvm.Cond.static ({ cls := "java/lang/StringUTF16", name := "newBytesLength", desc := "(I)I" } : Jvm.MethodName)) ∈ lw_all := lw_g (lw_at lw_m2 59 rfl) rfl
theorem q401 : (Jvm.Cond.code ({ cls := "java/lang/StringUTF16", name := "newBytesLength", desc := "(I)I" } : Jvm.MethodName) prog_39_method_3_code (1 : Nat) (Option.some Jvm.ClassFile.FieldType.int)) ∈ lw_all := lw_g (lw_at lw_m2 60 rfl) rfl
theorem q402 : (Jvm.Cond.constant "java/lang/StringUTF16" (20 : Nat) (1073741823 : Int32)) ∈ lw_all := lw_g (lw_at lw_m2 61 rfl) rfl
theorem q455 : (Jvm.Cond.static ({ cls := "java/lang/StringUTF16", name := "putCharsAt", desc := "([BICCCC)I" } : Jvm.MethodName)) ∈ lw_all := lw_g (lw_at lw_m2 114 rfl) rfl
theorem q456 : (Jvm.Cond.code ({ cls := "java/lang/StringUTF16", name := "putCharsAt", desc := "([BICCCC)I" } : Jvm.MethodName) prog_39_method_81_code (7 : Nat) (Option.some Jvm.ClassFile.FieldType.int)) ∈ lw_all := lw_g (lw_at lw_m2 115 rfl) rfl
theorem q457 : (Jvm.Cond.methodLink "java/lang/StringUTF16" (96 : Nat) ({ cls := "java/lang/StringUTF16", name := "checkBoundsBeginEnd", desc := "(II[B)V" } : Jvm.MethodName)) ∈ lw_all := lw_g (lw_at lw_m2 116 rfl) rfl
theorem q458 : (Jvm.Cond.static ({ cls := "java/lang/StringUTF16", name := "checkBoundsBeginEnd", desc := "(II[B)V" } : Jvm.MethodName)) ∈ lw_all := lw_g (lw_at lw_m2 117 rfl) rfl
theorem q459 : (Jvm.Cond.code ({ cls := "java/lang/StringUTF16", name := "checkBoundsBeginEnd", desc := "(II[B)V" } : Jvm.MethodName) prog_39_method_93_code (3 : Nat) (Option.none : Option Jvm.ClassFile.FieldType)) ∈ lw_all := lw_g (lw_at lw_m2 118 rfl) rfl
theorem q460 : (Jvm.Cond.methodLink "java/lang/StringUTF16" (48 : Nat) ({ cls := "java/lang/StringUTF16", name := "length", desc := "([B)I" } : Jvm.MethodName)) ∈ lw_all := lw_g (lw_at lw_m2 119 rfl) rfl
theorem q461 : (Jvm.Cond.static ({ cls := "java/lang/StringUTF16", name := "length", desc := "([B)I" } : Jvm.MethodName)) ∈ lw_all := lw_g (lw_at lw_m2 120 rfl) rfl
theorem q462 : (Jvm.Cond.code ({ cls := "java/lang/StringUTF16", name := "length", desc := "([B)I" } : Jvm.MethodName) prog_39_method_6_code (1 : Nat) (Option.some Jvm.ClassFile.FieldType.int)) ∈ lw_all := lw_g (lw_at lw_m2 121 rfl) rfl
theorem q463 : (Jvm.Cond.methodLink "java/lang/StringUTF16" (241 : Nat) ({ cls := "java/lang/String", name := "checkBoundsBeginEnd", desc := "(III)V" } : Jvm.MethodName)) ∈ lw_all := lw_g (lw_at lw_m2 122 rfl) rfl
theorem q471 : (Jvm.Cond.methodLink "java/lang/StringUTF16" (111 : Nat) ({ cls := "java/lang/StringUTF16", name := "putChar", desc := "([BII)V" } : Jvm.MethodName)) ∈ lw_all := lw_g (lw_at lw_m2 130 rfl) rfl
theorem q472 : (Jvm.Cond.static ({ cls := "java/lang/StringUTF16", name := "putChar", desc := "([BII)V" } : Jvm.MethodName)) ∈ lw_all := lw_g (lw_at lw_m2 131 rfl) rfl
theorem q473 : (Jvm.Cond.code ({ cls := "java/lang/StringUTF16", name := "putChar", desc := "([BII)V" } : Jvm.MethodName) prog_39_method_4_code (3 : Nat) (Option.none : Option Jvm.ClassFile.FieldType)) ∈ lw_all := lw_g (lw_at lw_m2 132 rfl) rfl
theorem q474 : (Jvm.Cond.fieldLink "java/lang/StringUTF16" (44 : Nat) "java/lang/StringUTF16" "$assertionsDisabled" "Z") ∈ lw_all := lw_g (lw_at lw_m2 133 rfl) rfl
theorem q475 : (Jvm.Cond.laysStatic "java/lang/StringUTF16" "$assertionsDisabled" "Z") ∈ lw_tbl := lw_at lw_m2 134 rfl
theorem q476 : (Jvm.Cond.fieldLink "java/lang/StringUTF16" (59 : Nat) "java/lang/StringUTF16" "HI_BYTE_SHIFT" "I") ∈ lw_all := lw_g (lw_at lw_m2 135 rfl) rfl
theorem q477 : (Jvm.Cond.laysStatic "java/lang/StringUTF16" "HI_BYTE_SHIFT" "I") ∈ lw_tbl := lw_at lw_m2 136 rfl
theorem q478 : (Jvm.Cond.fieldLink "java/lang/StringUTF16" (63 : Nat) "java/lang/StringUTF16" "LO_BYTE_SHIFT" "I") ∈ lw_all := lw_g (lw_at lw_m2 137 rfl) rfl
theorem q479 : (Jvm.Cond.laysStatic "java/lang/StringUTF16" "LO_BYTE_SHIFT" "I") ∈ lw_tbl := lw_at lw_m2 138 rfl
theorem q506 : (Jvm.Cond.static ({ cls := "java/lang/StringUTF16", name := "inflate", desc := "([BI[BII)V" } : Jvm.MethodName)) ∈ lw_all := lw_g (lw_at lw_m2 165 rfl) rfl
theorem q507 : (Jvm.Cond.code ({ cls := "java/lang/StringUTF16", name := "inflate", desc := "([BI[BII)V" } : Jvm.MethodName) prog_39_method_86_code (6 : Nat) (Option.none : Option Jvm.ClassFile.FieldType)) ∈ lw_all := lw_g (lw_at lw_m2 166 rfl) rfl
theorem q508 : (Jvm.Cond.methodLink "java/lang/StringUTF16" (173 : Nat) ({ cls := "java/lang/StringUTF16", name := "checkBoundsOffCount", desc := "(II[B)V" } : Jvm.MethodName)) ∈ lw_all := lw_g (lw_at lw_m2 167 rfl) rfl
theorem q509 : (Jvm.Cond.static ({ cls := "java/lang/StringUTF16", name := "checkBoundsOffCount", desc := "(II[B)V" } : Jvm.MethodName)) ∈ lw_all := lw_g (lw_at lw_m2 168 rfl) rfl
theorem q510 : (Jvm.Cond.code ({ cls := "java/lang/StringUTF16", name := "checkBoundsOffCount", desc := "(II[B)V" } : Jvm.MethodName) prog_39_method_94_code (3 : Nat) (Option.none : Option Jvm.ClassFile.FieldType)) ∈ lw_all := lw_g (lw_at lw_m2 169 rfl) rfl
theorem q511 : (Jvm.Cond.methodLink "java/lang/StringUTF16" (419 : Nat) ({ cls := "java/lang/String", name := "checkBoundsOffCount", desc := "(III)I" } : Jvm.MethodName)) ∈ lw_all := lw_g (lw_at lw_m2 170 rfl) rfl
theorem q541 : (Jvm.Cond.static ({ cls := "java/lang/StringUTF16", name := "getChars", desc := "(III[B)I" } : Jvm.MethodName)) ∈ lw_all := lw_g (lw_at lw_m2 200 rfl) rfl
theorem q542 : (Jvm.Cond.code ({ cls := "java/lang/StringUTF16", name := "getChars", desc := "(III[B)I" } : Jvm.MethodName) prog_39_method_77_code (5 : Nat) (Option.some Jvm.ClassFile.FieldType.int)) ∈ lw_all := lw_g (lw_at lw_m2 201 rfl) rfl
theorem q543 : (Jvm.Cond.methodLink "java/lang/StringUTF16" (393 : Nat) ({ cls := "java/lang/StringUTF16", name := "getChars", desc := "(II[B)I" } : Jvm.MethodName)) ∈ lw_all := lw_g (lw_at lw_m2 202 rfl) rfl
theorem q544 : (Jvm.Cond.static ({ cls := "java/lang/StringUTF16", name := "getChars", desc := "(II[B)I" } : Jvm.MethodName)) ∈ lw_all := lw_g (lw_at lw_m2 203 rfl) rfl
theorem q545 : (Jvm.Cond.code ({ cls := "java/lang/StringUTF16", name := "getChars", desc := "(II[B)I" } : Jvm.MethodName) prog_39_method_89_code (7 : Nat) (Option.some Jvm.ClassFile.FieldType.int)) ∈ lw_all := lw_g (lw_at lw_m2 204 rfl) rfl
theorem q546 : (Jvm.Cond.fieldLink "java/lang/StringUTF16" (403 : Nat) "java/lang/Integer" "DigitOnes" "[B") ∈ lw_all := lw_g (lw_at lw_m2 205 rfl) rfl
theorem q547 : (Jvm.Cond.fieldLink "java/lang/StringUTF16" (407 : Nat) "java/lang/Integer" "DigitTens" "[B") ∈ lw_all := lw_g (lw_at lw_m2 206 rfl) rfl
theorem q625 : (Jvm.Cond.static ({ cls := "java/lang/StringUTF16", name := "compress", desc := "([BII)[B" } : Jvm.MethodName)) ∈ lw_all := lw_g (lw_at lw_m3 44 rfl) rfl
theorem q626 : (Jvm.Cond.code ({ cls := "java/lang/StringUTF16", name := "compress", desc := "([BII)[B" } : Jvm.MethodName) prog_39_method_17_code (6 : Nat) (Option.some (Jvm.ClassFile.FieldType.array Jvm.ClassFile.FieldType.byte))) ∈ lw_all := lw_g (lw_at lw_m3 45 rfl) rfl
theorem q627 : (Jvm.Cond.methodLink "java/lang/StringUTF16" (123 : Nat) ({ cls := "java/lang/StringUTF16", name := "compress", desc := "([BI[BII)I" } : Jvm.MethodName)) ∈ lw_all := lw_g (lw_at lw_m3 46 rfl) rfl
theorem q628 : (Jvm.Cond.static ({ cls := "java/lang/StringUTF16", name := "compress", desc := "([BI[BII)I" } : Jvm.MethodName)) ∈ lw_all := lw_g (lw_at lw_m3 47 rfl) rfl
theorem q629 : (Jvm.Cond.code ({ cls := "java/lang/StringUTF16", name := "compress", desc := "([BI[BII)I" } : Jvm.MethodName) prog_39_method_22_code (7 : Nat) (Option.some Jvm.ClassFile.FieldType.int)) ∈ lw_all := lw_g (lw_at lw_m3 48 rfl) rfl
theorem q630 : (Jvm.Cond.methodLink "java/lang/StringUTF16" (71 : Nat) ({ cls := "java/lang/StringUTF16", name := "getChar", desc := "([BI)C" } : Jvm.MethodName)) ∈ lw_all := lw_g (lw_at lw_m3 49 rfl) rfl
theorem q631 : (Jvm.Cond.static ({ cls := "java/lang/StringUTF16", name := "getChar", desc := "([BI)C" } : Jvm.MethodName)) ∈ lw_all := lw_g (lw_at lw_m3 50 rfl) rfl
theorem q632 : (Jvm.Cond.code ({ cls := "java/lang/StringUTF16", name := "getChar", desc := "([BI)C" } : Jvm.MethodName) prog_39_method_5_code (2 : Nat) (Option.some Jvm.ClassFile.FieldType.char)) ∈ lw_all := lw_g (lw_at lw_m3 51 rfl) rfl
theorem q633 : (Jvm.Cond.methodLink "java/lang/StringUTF16" (126 : Nat) ({ cls := "java/util/Arrays", name := "copyOfRange", desc := "([BII)[B" } : Jvm.MethodName)) ∈ lw_all := lw_g (lw_at lw_m3 52 rfl) rfl
theorem q635 : (Jvm.Cond.static ({ cls := "java/lang/StringUTF16", name := "coderFromArrayLen", desc := "([BI)B" } : Jvm.MethodName)) ∈ lw_all := lw_g (lw_at lw_m3 54 rfl) rfl
theorem q636 : (Jvm.Cond.code ({ cls := "java/lang/StringUTF16", name := "coderFromArrayLen", desc := "([BI)B" } : Jvm.MethodName) prog_39_method_15_code (2 : Nat) (Option.some Jvm.ClassFile.FieldType.byte)) ∈ lw_all := lw_g (lw_at lw_m3 55 rfl) rfl
theorem q1617 : (Jvm.Cond.static ({ cls := "java/lang/StringUTF16", name := "compareTo", desc := "([B[B)I" } : Jvm.MethodName)) ∈ lw_all := lw_g (lw_at lw_m7 76 rfl) rfl
theorem q1618 : (Jvm.Cond.code ({ cls := "java/lang/StringUTF16", name := "compareTo", desc := "([B[B)I" } : Jvm.MethodName) prog_39_method_29_code (4 : Nat) (Option.some Jvm.ClassFile.FieldType.int)) ∈ lw_all := lw_g (lw_at lw_m7 77 rfl) rfl
theorem q1619 : (Jvm.Cond.methodLink "java/lang/StringUTF16" (176 : Nat) ({ cls := "java/lang/StringUTF16", name := "compareValues", desc := "([B[BII)I" } : Jvm.MethodName)) ∈ lw_all := lw_g (lw_at lw_m7 78 rfl) rfl
theorem q1620 : (Jvm.Cond.static ({ cls := "java/lang/StringUTF16", name := "compareValues", desc := "([B[BII)I" } : Jvm.MethodName)) ∈ lw_all := lw_g (lw_at lw_m7 79 rfl) rfl
theorem q1621 : (Jvm.Cond.code ({ cls := "java/lang/StringUTF16", name := "compareValues", desc := "([B[BII)I" } : Jvm.MethodName) prog_39_method_31_code (8 : Nat) (Option.some Jvm.ClassFile.FieldType.int)) ∈ lw_all := lw_g (lw_at lw_m7 80 rfl) rfl
theorem q1622 : (Jvm.Cond.methodLink "java/lang/StringUTF16" (183 : Nat) ({ cls := "java/lang/Math", name := "min", desc := "(II)I" } : Jvm.MethodName)) ∈ lw_all := lw_g (lw_at lw_m7 81 rfl) rfl
theorem q1635 : (Jvm.Cond.static ({ cls := "java/lang/StringUTF16", name := "compareToLatin1", desc := "([B[B)I" } : Jvm.MethodName)) ∈ lw_all := lw_g (lw_at lw_m7 94 rfl) rfl
theorem q1636 : (Jvm.Cond.code ({ cls := "java/lang/StringUTF16", name := "compareToLatin1", desc := "([B[B)I" } : Jvm.MethodName) prog_39_method_32_code (2 : Nat) (Option.some Jvm.ClassFile.FieldType.int)) ∈ lw_all := lw_g (lw_at lw_m7 95 rfl) rfl
theorem q1637 : (Jvm.Cond.methodLink "java/lang/StringUTF16" (189 : Nat) ({ cls := "java/lang/StringLatin1", name := "compareToUTF16", desc := "([B[B)I" } : Jvm.MethodName)) ∈ lw_all := lw_g (lw_at lw_m7 96 rfl) rfl
theorem q1654 : (Jvm.Cond.static ({ cls := "java/lang/StringUTF16", name := "compareTo", desc := "([B[BII)I" } : Jvm.MethodName)) ∈ lw_all := lw_g (lw_at lw_m7 113 rfl) rfl
theorem q1655 : (Jvm.Cond.code ({ cls := "java/lang/StringUTF16", name := "compareTo", desc := "([B[BII)I" } : Jvm.MethodName) prog_39_method_30_code (4 : Nat) (Option.some Jvm.ClassFile.FieldType.int)) ∈ lw_all := lw_g (lw_at lw_m7 114 rfl) rfl
theorem q1656 : (Jvm.Cond.methodLink "java/lang/StringUTF16" (180 : Nat) ({ cls := "java/lang/StringUTF16", name := "checkOffset", desc := "(I[B)V" } : Jvm.MethodName)) ∈ lw_all := lw_g (lw_at lw_m7 115 rfl) rfl
theorem q1657 : (Jvm.Cond.static ({ cls := "java/lang/StringUTF16", name := "checkOffset", desc := "(I[B)V" } : Jvm.MethodName)) ∈ lw_all := lw_g (lw_at lw_m7 116 rfl) rfl
theorem q1658 : (Jvm.Cond.code ({ cls := "java/lang/StringUTF16", name := "checkOffset", desc := "(I[B)V" } : Jvm.MethodName) prog_39_method_92_code (2 : Nat) (Option.none : Option Jvm.ClassFile.FieldType)) ∈ lw_all := lw_g (lw_at lw_m7 117 rfl) rfl
theorem q1659 : (Jvm.Cond.methodLink "java/lang/StringUTF16" (417 : Nat) ({ cls := "java/lang/String", name := "checkOffset", desc := "(II)V" } : Jvm.MethodName)) ∈ lw_all := lw_g (lw_at lw_m7 118 rfl) rfl
theorem q1667 : (Jvm.Cond.static ({ cls := "java/lang/StringUTF16", name := "compareToLatin1", desc := "([B[BII)I" } : Jvm.MethodName)) ∈ lw_all := lw_g (lw_at lw_m7 126 rfl) rfl
theorem q1668 : (Jvm.Cond.code ({ cls := "java/lang/StringUTF16", name := "compareToLatin1", desc := "([B[BII)I" } : Jvm.MethodName) prog_39_method_33_code (4 : Nat) (Option.some Jvm.ClassFile.FieldType.int)) ∈ lw_all := lw_g (lw_at lw_m7 127 rfl) rfl
theorem q1669 : (Jvm.Cond.methodLink "java/lang/StringUTF16" (193 : Nat) ({ cls := "java/lang/StringLatin1", name := "compareToUTF16", desc := "([B[BII)I" } : Jvm.MethodName)) ∈ lw_all := lw_g (lw_at lw_m7 128 rfl) rfl
theorem q2192 : (Jvm.Cond.static ({ cls := "java/lang/StringUTF16", name := "indexOf", desc := "([BIII)I" } : Jvm.MethodName)) ∈ lw_all := lw_g (lw_at lw_m9 171 rfl) rfl
theorem q2193 : (Jvm.Cond.code ({ cls := "java/lang/StringUTF16", name := "indexOf", desc := "([BIII)I" } : Jvm.MethodName) prog_39_method_40_code (4 : Nat) (Option.some Jvm.ClassFile.FieldType.int)) ∈ lw_all := lw_g (lw_at lw_m9 172 rfl) rfl
theorem q2194 : (Jvm.Cond.methodLink "java/lang/StringUTF16" (224 : Nat) ({ cls := "java/lang/Math", name := "max", desc := "(II)I" } : Jvm.MethodName)) ∈ lw_all := lw_g (lw_at lw_m9 173 rfl) rfl
theorem q2195 : (Jvm.Cond.constant "java/lang/StringUTF16" (227 : Nat) (65536 : Int32)) ∈ lw_all := lw_g (lw_at lw_m9 174 rfl) rfl
theorem q2196 : (Jvm.Cond.methodLink "java/lang/StringUTF16" (228 : Nat) ({ cls := "java/lang/StringUTF16", name := "indexOfChar", desc := "([BIII)I" } : Jvm.MethodName)) ∈ lw_all := lw_g (lw_at lw_m9 175 rfl) rfl
theorem q2197 : (Jvm.Cond.static ({ cls := "java/lang/StringUTF16", name := "indexOfChar", desc := "([BIII)I" } : Jvm.MethodName)) ∈ lw_all := lw_g (lw_at lw_m9 176 rfl) rfl
theorem q2198 : (Jvm.Cond.code ({ cls := "java/lang/StringUTF16", name := "indexOfChar", desc := "([BIII)I" } : Jvm.MethodName) prog_39_method_47_code (4 : Nat) (Option.some Jvm.ClassFile.FieldType.int)) ∈ lw_all := lw_g (lw_at lw_m9 177 rfl) rfl
theorem q2199 : (Jvm.Cond.methodLink "java/lang/StringUTF16" (244 : Nat) ({ cls := "java/lang/StringUTF16", name := "indexOfCharUnsafe", desc := "([BIII)I" } : Jvm.MethodName)) ∈ lw_all := lw_g (lw_at lw_m9 178 rfl) rfl
theorem q2200 : (Jvm.Cond.static ({ cls := "java/lang/StringUTF16", name := "indexOfCharUnsafe", desc := "([BIII)I" } : Jvm.MethodName)) ∈ lw_all := lw_g (lw_at lw_m9 179 rfl) rfl
theorem q2201 : (Jvm.Cond.code ({ cls := "java/lang/StringUTF16", name := "indexOfCharUnsafe", desc := "([BIII)I" } : Jvm.MethodName) prog_39_method_48_code (5 : Nat) (Option.some Jvm.ClassFile.FieldType.int)) ∈ lw_all := lw_g (lw_at lw_m9 180 rfl) rfl
theorem q2202 : (Jvm.Cond.methodLink "java/lang/StringUTF16" (232 : Nat) ({ cls := "java/lang/StringUTF16", name := "indexOfSupplementary", desc := "([BIII)I" } : Jvm.MethodName)) ∈ lw_all := lw_g (lw_at lw_m9 181 rfl) rfl
theorem q2203 : (Jvm.Cond.static ({ cls := "java/lang/StringUTF16", name := "indexOfSupplementary", desc := "([BIII)I" } : Jvm.MethodName)) ∈ lw_all := lw_g (lw_at lw_m9 182 rfl) rfl
theorem q2204 : (Jvm.Cond.code ({ cls := "java/lang/StringUTF16", name := "indexOfSupplementary", desc := "([BIII)I" } : Jvm.MethodName) prog_39_method_49_code (7 : Nat) (Option.some Jvm.ClassFile.FieldType.int)) ∈ lw_all := lw_g (lw_at lw_m9 183 rfl) rfl
theorem q2205 : (Jvm.Cond.methodLink "java/lang/StringUTF16" (164 : Nat) ({ cls := "java/lang/Character", name := "isValidCodePoint", desc := "(I)Z" } : Jvm.MethodName)) ∈ lw_all := lw_g (lw_at lw_m9 184 rfl) rfl
theorem q2208 : (Jvm.Cond.methodLink "java/lang/StringUTF16" (157 : Nat) ({ cls := "java/lang/Character", name := "highSurrogate", desc := "(I)C" } : Jvm.MethodName)) ∈ lw_all := lw_g (lw_at lw_m9 187 rfl) rfl
theorem q2212 : (Jvm.Cond.methodLink "java/lang/StringUTF16" (161 : Nat) ({ cls := "java/lang/Character", name := "lowSurrogate", desc := "(I)C" } : Jvm.MethodName)) ∈ lw_all := lw_g (lw_at lw_m9 191 rfl) rfl
/-! jdk/internal/util/Preconditions -/
set_option maxRecDepth 100000
def RJ17 : String := "jdk/internal/util/Preconditions"
abbrev cJ17_checkIndex : ByteArray := prog_86_method_11_code
def yJ17_checkIndex : MethodName := ⟨RJ17, "checkIndex", "(IILjava/util/function/BiFunction;)I"⟩
def dkwJ17_checkIndex_0 : List UInt8 := [26, 155, 0, 8, 26, 27, 161, 0, 10, 44, 26, 27, 184, 0, 95, 191, 26, 172]
abbrev dktJ17_checkIndex_0 : List UInt8 := dkwJ17_checkIndex_0 ++ []
theorem dksJ17_checkIndex_0 : cJ17_checkIndex.data.toList.drop 0 = dktJ17_checkIndex_0 := by decide +kernel
theorem dJ17_checkIndex_0 : decode cJ17_checkIndex 0 = .ok (.iload_n 0, 1) := dk_26 (dk_at dksJ17_checkIndex_0 0 rfl rfl)
theorem dJ17_checkIndex_1 : decode cJ17_checkIndex 1 = .ok (.ifCond .lt 8, 3) := dk_155 0 8 (dk_at dksJ17_checkIndex_0 1 rfl rfl)
theorem dJ17_checkIndex_4 : decode cJ17_checkIndex 4 = .ok (.iload_n 0, 1) := dk_26 (dk_at dksJ17_checkIndex_0 4 rfl rfl)
theorem dJ17_checkIndex_5 : decode cJ17_checkIndex 5 = .ok (.iload_n 1, 1) := dk_27 (dk_at dksJ17_checkIndex_0 5 rfl rfl)
theorem dJ17_checkIndex_6 : decode cJ17_checkIndex 6 = .ok (.if_icmp .lt 10, 3) := dk_161 0 10 (dk_at dksJ17_checkIndex_0 6 rfl rfl)
theorem dJ17_checkIndex_9 : decode cJ17_checkIndex 9 = .ok (.aload_n 2, 1) := dk_44 (dk_at dksJ17_checkIndex_0 9 rfl rfl)
theorem dJ17_checkIndex_10 : decode cJ17_checkIndex 10 = .ok (.iload_n 0, 1) := dk_26 (dk_at dksJ17_checkIndex_0 10 rfl rfl)
theorem dJ17_checkIndex_11 : decode cJ17_checkIndex 11 = .ok (.iload_n 1, 1) := dk_27 (dk_at dksJ17_checkIndex_0 11 rfl rfl)
theorem dJ17_checkIndex_12 : decode cJ17_checkIndex 12 = .ok (.invokestatic 95, 3) := dk_184 0 95 (dk_at dksJ17_checkIndex_0 12 rfl rfl)
theorem dJ17_checkIndex_15 : decode cJ17_checkIndex 15 = .ok (.athrow, 1) := dk_191 (dk_at dksJ17_checkIndex_0 15 rfl rfl)
theorem dJ17_checkIndex_16 : decode cJ17_checkIndex 16 = .ok (.iload_n 0, 1) := dk_26 (dk_at dksJ17_checkIndex_0 16 rfl rfl)
theorem dJ17_checkIndex_17 : decode cJ17_checkIndex 17 = .ok (.ireturn, 1) := dk_172 (dk_at dksJ17_checkIndex_0 17 rfl rfl)
theorem q123 : (Jvm.Cond.initialized "jdk/internal/util/Preconditions") ∈ lw_all := lw_g (lw_at lw_m1 22 rfl) rfl
theorem q467 : (Jvm.Cond.laysStatic "jdk/internal/util/Preconditions" "SIOOBE_FORMATTER" "Ljava/util/function/BiFunction;") ∈ lw_tbl := lw_at lw_m2 126 rfl
theorem q469 : (Jvm.Cond.static ({ cls := "jdk/internal/util/Preconditions", name := "checkFromToIndex", desc := "(IIILjava/util/function/BiFunction;)I" } : Jvm.MethodName)) ∈ lw_all := lw_g (lw_at lw_m2 128 rfl) rfl
theorem q470 : (Jvm.Cond.code ({ cls := "jdk/internal/util/Preconditions", name := "checkFromToIndex", desc := "(IIILjava/util/function/BiFunction;)I" } : Jvm.MethodName) prog_86_method_12_code (4 : Nat) (Option.some Jvm.ClassFile.FieldType.int)) ∈ lw_all := lw_g (lw_at lw_m2 129 rfl) rfl
theorem q515 : (Jvm.Cond.static ({ cls := "jdk/internal/util/Preconditions", name := "checkFromIndexSize", desc := "(IIILjava/util/function/BiFunction;)I" } : Jvm.MethodName)) ∈ lw_all := lw_g (lw_at lw_m2 174 rfl) rfl
theorem q516 : (Jvm.Cond.code ({ cls := "jdk/internal/util/Preconditions", name := "checkFromIndexSize", desc := "(IIILjava/util/function/BiFunction;)I" } : Jvm.MethodName) prog_86_method_13_code (4 : Nat) (Option.some Jvm.ClassFile.FieldType.int)) ∈ lw_all := lw_g (lw_at lw_m2 175 rfl) rfl
theorem q705 : (Jvm.Cond.static ({ cls := "jdk/internal/util/Preconditions", name := "checkIndex", desc := "(IILjava/util/function/BiFunction;)I" } : Jvm.MethodName)) ∈ lw_all := lw_g (lw_at lw_m3 124 rfl) rfl
theorem q706 : (Jvm.Cond.code ({ cls := "jdk/internal/util/Preconditions", name := "checkIndex", desc := "(IILjava/util/function/BiFunction;)I" } : Jvm.MethodName) prog_86_method_11_code (3 : Nat) (Option.some Jvm.ClassFile.FieldType.int)) ∈ lw_all := lw_g (lw_at lw_m3 125 rfl) rfl
/-! java/lang/StringLatin1 -/
set_option maxRecDepth 100000
def RJ18 : String := "java/lang/StringLatin1"
abbrev cJ18_indexOf : ByteArray := prog_38_method_22_code
def yJ18_indexOf : MethodName := ⟨RJ18, "indexOf", "([BIII)I"⟩
def dkwJ18_indexOf_1 : List UInt8 := [161, 0, 5, 2, 172, 42, 27, 28, 29, 184, 0, 95, 172]
abbrev dktJ18_indexOf_1 : List UInt8 := dkwJ18_indexOf_1 ++ []
def dkwJ18_indexOf_0 : List UInt8 := [27, 184, 0, 88, 154, 0, 5, 2, 172, 28, 3, 184, 0, 92, 61, 29, 42, 190, 184, 0, 38, 62, 28, 29]
abbrev dktJ18_indexOf_0 : List UInt8 := dkwJ18_indexOf_0 ++ dktJ18_indexOf_1
theorem dksJ18_indexOf_0 : cJ18_indexOf.data.toList.drop 0 = dktJ18_indexOf_0 := by decide +kernel
theorem dksJ18_indexOf_1 : cJ18_indexOf.data.toList.drop 24 = dktJ18_indexOf_1 := dk_seg dksJ18_indexOf_0 24 rfl rfl
theorem dJ18_indexOf_0 : decode cJ18_indexOf 0 = .ok (.iload_n 1, 1) := dk_27 (dk_at dksJ18_indexOf_0 0 rfl rfl)
theorem dJ18_indexOf_1 : decode cJ18_indexOf 1 = .ok (.invokestatic 88, 3) := dk_184 0 88 (dk_at dksJ18_indexOf_0 1 rfl rfl)
theorem dJ18_indexOf_4 : decode cJ18_indexOf 4 = .ok (.ifCond .ne 5, 3) := dk_154 0 5 (dk_at dksJ18_indexOf_0 4 rfl rfl)
theorem dJ18_indexOf_7 : decode cJ18_indexOf 7 = .ok (.iconst (-1), 1) := dk_2 (dk_at dksJ18_indexOf_0 7 rfl rfl)
theorem dJ18_indexOf_8 : decode cJ18_indexOf 8 = .ok (.ireturn, 1) := dk_172 (dk_at dksJ18_indexOf_0 8 rfl rfl)
theorem dJ18_indexOf_9 : decode cJ18_indexOf 9 = .ok (.iload_n 2, 1) := dk_28 (dk_at dksJ18_indexOf_0 9 rfl rfl)
theorem dJ18_indexOf_10 : decode cJ18_indexOf 10 = .ok (.iconst 0, 1) := dk_3 (dk_at dksJ18_indexOf_0 10 rfl rfl)
theorem dJ18_indexOf_11 : decode cJ18_indexOf 11 = .ok (.invokestatic 92, 3) := dk_184 0 92 (dk_at dksJ18_indexOf_0 11 rfl rfl)
theorem dJ18_indexOf_14 : decode cJ18_indexOf 14 = .ok (.istore_n 2, 1) := dk_61 (dk_at dksJ18_indexOf_0 14 rfl rfl)
theorem dJ18_indexOf_15 : decode cJ18_indexOf 15 = .ok (.iload_n 3, 1) := dk_29 (dk_at dksJ18_indexOf_0 15 rfl rfl)
theorem dJ18_indexOf_16 : decode cJ18_indexOf 16 = .ok (.aload_n 0, 1) := dk_42 (dk_at dksJ18_indexOf_0 16 rfl rfl)
theorem dJ18_indexOf_17 : decode cJ18_indexOf 17 = .ok (.arraylength, 1) := dk_190 (dk_at dksJ18_indexOf_0 17 rfl rfl)
theorem dJ18_indexOf_18 : decode cJ18_indexOf 18 = .ok (.invokestatic 38, 3) := dk_184 0 38 (dk_at dksJ18_indexOf_0 18 rfl rfl)
theorem dJ18_indexOf_21 : decode cJ18_indexOf 21 = .ok (.istore_n 3, 1) := dk_62 (dk_at dksJ18_indexOf_0 21 rfl rfl)
theorem dJ18_indexOf_22 : decode cJ18_indexOf 22 = .ok (.iload_n 2, 1) := dk_28 (dk_at dksJ18_indexOf_0 22 rfl rfl)
theorem dJ18_indexOf_23 : decode cJ18_indexOf 23 = .ok (.iload_n 3, 1) := dk_29 (dk_at dksJ18_indexOf_0 23 rfl rfl)
theorem dJ18_indexOf_24 : decode cJ18_indexOf 24 = .ok (.if_icmp .lt 5, 3) := dk_161 0 5 (dk_at dksJ18_indexOf_1 0 rfl rfl)
theorem dJ18_indexOf_27 : decode cJ18_indexOf 27 = .ok (.iconst (-1), 1) := dk_2 (dk_at dksJ18_indexOf_1 3 rfl rfl)
theorem dJ18_indexOf_28 : decode cJ18_indexOf 28 = .ok (.ireturn, 1) := dk_172 (dk_at dksJ18_indexOf_1 4 rfl rfl)
theorem dJ18_indexOf_29 : decode cJ18_indexOf 29 = .ok (.aload_n 0, 1) := dk_42 (dk_at dksJ18_indexOf_1 5 rfl rfl)
theorem dJ18_indexOf_30 : decode cJ18_indexOf 30 = .ok (.iload_n 1, 1) := dk_27 (dk_at dksJ18_indexOf_1 6 rfl rfl)
theorem dJ18_indexOf_31 : decode cJ18_indexOf 31 = .ok (.iload_n 2, 1) := dk_28 (dk_at dksJ18_indexOf_1 7 rfl rfl)
theorem dJ18_indexOf_32 : decode cJ18_indexOf 32 = .ok (.iload_n 3, 1) := dk_29 (dk_at dksJ18_indexOf_1 8 rfl rfl)
theorem dJ18_indexOf_33 : decode cJ18_indexOf 33 = .ok (.invokestatic 95, 3) := dk_184 0 95 (dk_at dksJ18_indexOf_1 9 rfl rfl)
theorem dJ18_indexOf_36 : decode cJ18_indexOf 36 = .ok (.ireturn, 1) := dk_172 (dk_at dksJ18_indexOf_1 12 rfl rfl)
abbrev cJ18_canEncode : ByteArray := prog_38_method_4_code
def yJ18_canEncode : MethodName := ⟨RJ18, "canEncode", "(I)Z"⟩
def dkwJ18_canEncode_0 : List UInt8 := [26, 155, 0, 14, 26, 17, 0, 255, 163, 0, 7, 4, 167, 0, 4, 3, 172]
abbrev dktJ18_canEncode_0 : List UInt8 := dkwJ18_canEncode_0 ++ []
theorem dksJ18_canEncode_0 : cJ18_canEncode.data.toList.drop 0 = dktJ18_canEncode_0 := by decide +kernel
theorem dJ18_canEncode_0 : decode cJ18_canEncode 0 = .ok (.iload_n 0, 1) := dk_26 (dk_at dksJ18_canEncode_0 0 rfl rfl)
theorem dJ18_canEncode_1 : decode cJ18_canEncode 1 = .ok (.ifCond .lt 14, 3) := dk_155 0 14 (dk_at dksJ18_canEncode_0 1 rfl rfl)
theorem dJ18_canEncode_4 : decode cJ18_canEncode 4 = .ok (.iload_n 0, 1) := dk_26 (dk_at dksJ18_canEncode_0 4 rfl rfl)
theorem dJ18_canEncode_5 : decode cJ18_canEncode 5 = .ok (.sipush 255, 3) := dk_17 0 255 (dk_at dksJ18_canEncode_0 5 rfl rfl)
theorem dJ18_canEncode_8 : decode cJ18_canEncode 8 = .ok (.if_icmp .gt 7, 3) := dk_163 0 7 (dk_at dksJ18_canEncode_0 8 rfl rfl)
theorem dJ18_canEncode_11 : decode cJ18_canEncode 11 = .ok (.iconst 1, 1) := dk_4 (dk_at dksJ18_canEncode_0 11 rfl rfl)
theorem dJ18_canEncode_12 : decode cJ18_canEncode 12 = .ok (.goto 4, 3) := dk_167 0 4 (dk_at dksJ18_canEncode_0 12 rfl rfl)
theorem dJ18_canEncode_15 : decode cJ18_canEncode 15 = .ok (.iconst 0, 1) := dk_3 (dk_at dksJ18_canEncode_0 15 rfl rfl)
theorem dJ18_canEncode_16 : decode cJ18_canEncode 16 = .ok (.ireturn, 1) := dk_172 (dk_at dksJ18_canEncode_0 16 rfl rfl)
abbrev cJ18_indexOfChar : ByteArray := prog_38_method_23_code
def yJ18_indexOfChar : MethodName := ⟨RJ18, "indexOfChar", "([BIII)I"⟩
def dkwJ18_indexOfChar_1 : List UInt8 := [172, 132, 5, 1, 167, 255, 235, 2, 172]
abbrev dktJ18_indexOfChar_1 : List UInt8 := dkwJ18_indexOfChar_1 ++ []
def dkwJ18_indexOfChar_0 : List UInt8 := [27, 145, 54, 4, 28, 54, 5, 21, 5, 29, 162, 0, 21, 42, 21, 5, 51, 21, 4, 160, 0, 6, 21, 5]
abbrev dktJ18_indexOfChar_0 : List UInt8 := dkwJ18_indexOfChar_0 ++ dktJ18_indexOfChar_1
theorem dksJ18_indexOfChar_0 : cJ18_indexOfChar.data.toList.drop 0 = dktJ18_indexOfChar_0 := by decide +kernel
theorem dksJ18_indexOfChar_1 : cJ18_indexOfChar.data.toList.drop 24 = dktJ18_indexOfChar_1 := dk_seg dksJ18_indexOfChar_0 24 rfl rfl
theorem dJ18_indexOfChar_0 : decode cJ18_indexOfChar 0 = .ok (.iload_n 1, 1) := dk_27 (dk_at dksJ18_indexOfChar_0 0 rfl rfl)
theorem dJ18_indexOfChar_1 : decode cJ18_indexOfChar 1 = .ok (.i2b, 1) := dk_145 (dk_at dksJ18_indexOfChar_0 1 rfl rfl)
theorem dJ18_indexOfChar_2 : decode cJ18_indexOfChar 2 = .ok (.istore 4, 2) := dk_54 4 (dk_at dksJ18_indexOfChar_0 2 rfl rfl)
theorem dJ18_indexOfChar_4 : decode cJ18_indexOfChar 4 = .ok (.iload_n 2, 1) := dk_28 (dk_at dksJ18_indexOfChar_0 4 rfl rfl)
theorem dJ18_indexOfChar_5 : decode cJ18_indexOfChar 5 = .ok (.istore 5, 2) := dk_54 5 (dk_at dksJ18_indexOfChar_0 5 rfl rfl)
theorem dJ18_indexOfChar_7 : decode cJ18_indexOfChar 7 = .ok (.iload 5, 2) := dk_21 5 (dk_at dksJ18_indexOfChar_0 7 rfl rfl)
theorem dJ18_indexOfChar_9 : decode cJ18_indexOfChar 9 = .ok (.iload_n 3, 1) := dk_29 (dk_at dksJ18_indexOfChar_0 9 rfl rfl)
theorem dJ18_indexOfChar_10 : decode cJ18_indexOfChar 10 = .ok (.if_icmp .ge 21, 3) := dk_162 0 21 (dk_at dksJ18_indexOfChar_0 10 rfl rfl)
theorem dJ18_indexOfChar_13 : decode cJ18_indexOfChar 13 = .ok (.aload_n 0, 1) := dk_42 (dk_at dksJ18_indexOfChar_0 13 rfl rfl)
theorem dJ18_indexOfChar_14 : decode cJ18_indexOfChar 14 = .ok (.iload 5, 2) := dk_21 5 (dk_at dksJ18_indexOfChar_0 14 rfl rfl)
theorem dJ18_indexOfChar_16 : decode cJ18_indexOfChar 16 = .ok (.baload, 1) := dk_51 (dk_at dksJ18_indexOfChar_0 16 rfl rfl)
theorem dJ18_indexOfChar_17 : decode cJ18_indexOfChar 17 = .ok (.iload 4, 2) := dk_21 4 (dk_at dksJ18_indexOfChar_0 17 rfl rfl)
theorem dJ18_indexOfChar_19 : decode cJ18_indexOfChar 19 = .ok (.if_icmp .ne 6, 3) := dk_160 0 6 (dk_at dksJ18_indexOfChar_0 19 rfl rfl)
theorem dJ18_indexOfChar_22 : decode cJ18_indexOfChar 22 = .ok (.iload 5, 2) := dk_21 5 (dk_at dksJ18_indexOfChar_0 22 rfl rfl)
theorem dJ18_indexOfChar_24 : decode cJ18_indexOfChar 24 = .ok (.ireturn, 1) := dk_172 (dk_at dksJ18_indexOfChar_1 0 rfl rfl)
theorem dJ18_indexOfChar_25 : decode cJ18_indexOfChar 25 = .ok (.iinc 5 1, 3) := dk_132 5 1 (dk_at dksJ18_indexOfChar_1 1 rfl rfl)
theorem dJ18_indexOfChar_28 : decode cJ18_indexOfChar 28 = .ok (.goto (-21), 3) := dk_167 255 235 (dk_at dksJ18_indexOfChar_1 4 rfl rfl)
theorem dJ18_indexOfChar_31 : decode cJ18_indexOfChar 31 = .ok (.iconst (-1), 1) := dk_2 (dk_at dksJ18_indexOfChar_1 7 rfl rfl)
theorem dJ18_indexOfChar_32 : decode cJ18_indexOfChar 32 = .ok (.ireturn, 1) := dk_172 (dk_at dksJ18_indexOfChar_1 8 rfl rfl)
theorem q124 : (Jvm.Cond.initialized "java/lang/StringLatin1") ∈ lw_all := lw_g (lw_at lw_m1 23 rfl) rfl
theorem q503 : (Jvm.Cond.static ({ cls := "java/lang/StringLatin1", name := "inflate", desc := "([BI[BII)V" } : Jvm.MethodName)) ∈ lw_all := lw_g (lw_at lw_m2 162 rfl) rfl
theorem q504 : (Jvm.Cond.code ({ cls := "java/lang/StringLatin1", name := "inflate", desc := "([BI[BII)V" } : Jvm.MethodName) prog_38_method_50_code (5 : Nat) (Option.none : Option Jvm.ClassFile.FieldType)) ∈ lw_all := lw_g (lw_at lw_m2 163 rfl) rfl
theorem q505 : (Jvm.Cond.methodLink "java/lang/StringLatin1" (240 : Nat) ({ cls := "java/lang/StringUTF16", name := "inflate", desc := "([BI[BII)V" } : Jvm.MethodName)) ∈ lw_all := lw_g (lw_at lw_m2 164 rfl) rfl
theorem q884 : (Jvm.Cond.static ({ cls := "java/lang/StringLatin1", name := "equals", desc := "([B[B)Z" } : Jvm.MethodName)) ∈ lw_all := lw_g (lw_at lw_m4 63 rfl) rfl
theorem q885 : (Jvm.Cond.code ({ cls := "java/lang/StringLatin1", name := "equals", desc := "([B[B)Z" } : Jvm.MethodName) prog_38_method_13_code (3 : Nat) (Option.some Jvm.ClassFile.FieldType.boolean)) ∈ lw_all := lw_g (lw_at lw_m4 64 rfl) rfl
theorem q1600 : (Jvm.Cond.static ({ cls := "java/lang/StringLatin1", name := "compareTo", desc := "([B[B)I" } : Jvm.MethodName)) ∈ lw_all := lw_g (lw_at lw_m7 59 rfl) rfl
theorem q1601 : (Jvm.Cond.code ({ cls := "java/lang/StringLatin1", name := "compareTo", desc := "([B[B)I" } : Jvm.MethodName) prog_38_method_14_code (4 : Nat) (Option.some Jvm.ClassFile.FieldType.int)) ∈ lw_all := lw_g (lw_at lw_m7 60 rfl) rfl
theorem q1602 : (Jvm.Cond.methodLink "java/lang/StringLatin1" (34 : Nat) ({ cls := "java/lang/StringLatin1", name := "compareTo", desc := "([B[BII)I" } : Jvm.MethodName)) ∈ lw_all := lw_g (lw_at lw_m7 61 rfl) rfl
theorem q1603 : (Jvm.Cond.static ({ cls := "java/lang/StringLatin1", name := "compareTo", desc := "([B[BII)I" } : Jvm.MethodName)) ∈ lw_all := lw_g (lw_at lw_m7 62 rfl) rfl
theorem q1604 : (Jvm.Cond.code ({ cls := "java/lang/StringLatin1", name := "compareTo", desc := "([B[BII)I" } : Jvm.MethodName) prog_38_method_15_code (6 : Nat) (Option.some Jvm.ClassFile.FieldType.int)) ∈ lw_all := lw_g (lw_at lw_m7 63 rfl) rfl
theorem q1605 : (Jvm.Cond.methodLink "java/lang/StringLatin1" (38 : Nat) ({ cls := "java/lang/Math", name := "min", desc := "(II)I" } : Jvm.MethodName)) ∈ lw_all := lw_g (lw_at lw_m7 64 rfl) rfl
theorem q1606 : (Jvm.Cond.methodLink "java/lang/StringLatin1" (44 : Nat) ({ cls := "jdk/internal/util/ArraysSupport", name := "mismatch", desc := "([B[BI)I" } : Jvm.MethodName)) ∈ lw_all := lw_g (lw_at lw_m7 65 rfl) rfl
theorem q1613 : (Jvm.Cond.methodLink "java/lang/StringLatin1" (50 : Nat) ({ cls := "java/lang/StringLatin1", name := "getChar", desc := "([BI)C" } : Jvm.MethodName)) ∈ lw_all := lw_g (lw_at lw_m7 72 rfl) rfl
theorem q1614 : (Jvm.Cond.static ({ cls := "java/lang/StringLatin1", name := "getChar", desc := "([BI)C" } : Jvm.MethodName)) ∈ lw_all := lw_g (lw_at lw_m7 73 rfl) rfl
theorem q1615 : (Jvm.Cond.code ({ cls := "java/lang/StringLatin1", name := "getChar", desc := "([BI)C" } : Jvm.MethodName) prog_38_method_44_code (2 : Nat) (Option.some Jvm.ClassFile.FieldType.char)) ∈ lw_all := lw_g (lw_at lw_m7 74 rfl) rfl
theorem q1624 : (Jvm.Cond.static ({ cls := "java/lang/StringLatin1", name := "compareToUTF16", desc := "([B[B)I" } : Jvm.MethodName)) ∈ lw_all := lw_g (lw_at lw_m7 83 rfl) rfl
theorem q1625 : (Jvm.Cond.code ({ cls := "java/lang/StringLatin1", name := "compareToUTF16", desc := "([B[B)I" } : Jvm.MethodName) prog_38_method_16_code (4 : Nat) (Option.some Jvm.ClassFile.FieldType.int)) ∈ lw_all := lw_g (lw_at lw_m7 84 rfl) rfl
theorem q1626 : (Jvm.Cond.methodLink "java/lang/StringLatin1" (54 : Nat) ({ cls := "java/lang/StringLatin1", name := "length", desc := "([B)I" } : Jvm.MethodName)) ∈ lw_all := lw_g (lw_at lw_m7 85 rfl) rfl
theorem q1627 : (Jvm.Cond.static ({ cls := "java/lang/StringLatin1", name := "length", desc := "([B)I" } : Jvm.MethodName)) ∈ lw_all := lw_g (lw_at lw_m7 86 rfl) rfl
theorem q1628 : (Jvm.Cond.code ({ cls := "java/lang/StringLatin1", name := "length", desc := "([B)I" } : Jvm.MethodName) prog_38_method_5_code (1 : Nat) (Option.some Jvm.ClassFile.FieldType.int)) ∈ lw_all := lw_g (lw_at lw_m7 87 rfl) rfl
theorem q1629 : (Jvm.Cond.methodLink "java/lang/StringLatin1" (58 : Nat) ({ cls := "java/lang/StringUTF16", name := "length", desc := "([B)I" } : Jvm.MethodName)) ∈ lw_all := lw_g (lw_at lw_m7 88 rfl) rfl
theorem q1630 : (Jvm.Cond.methodLink "java/lang/StringLatin1" (59 : Nat) ({ cls := "java/lang/StringLatin1", name := "compareToUTF16Values", desc := "([B[BII)I" } : Jvm.MethodName)) ∈ lw_all := lw_g (lw_at lw_m7 89 rfl) rfl
theorem q1631 : (Jvm.Cond.static ({ cls := "java/lang/StringLatin1", name := "compareToUTF16Values", desc := "([B[BII)I" } : Jvm.MethodName)) ∈ lw_all := lw_g (lw_at lw_m7 90 rfl) rfl
theorem q1632 : (Jvm.Cond.code ({ cls := "java/lang/StringLatin1", name := "compareToUTF16Values", desc := "([B[BII)I" } : Jvm.MethodName) prog_38_method_18_code (8 : Nat) (Option.some Jvm.ClassFile.FieldType.int)) ∈ lw_all := lw_g (lw_at lw_m7 91 rfl) rfl
theorem q1633 : (Jvm.Cond.methodLink "java/lang/StringLatin1" (65 : Nat) ({ cls := "java/lang/StringUTF16", name := "getChar", desc := "([BI)C" } : Jvm.MethodName)) ∈ lw_all := lw_g (lw_at lw_m7 92 rfl) rfl
theorem q1663 : (Jvm.Cond.static ({ cls := "java/lang/StringLatin1", name := "compareToUTF16", desc := "([B[BII)I" } : Jvm.MethodName)) ∈ lw_all := lw_g (lw_at lw_m7 122 rfl) rfl
theorem q1664 : (Jvm.Cond.code ({ cls := "java/lang/StringLatin1", name := "compareToUTF16", desc := "([B[BII)I" } : Jvm.MethodName) prog_38_method_17_code (4 : Nat) (Option.some Jvm.ClassFile.FieldType.int)) ∈ lw_all := lw_g (lw_at lw_m7 123 rfl) rfl
theorem q1665 : (Jvm.Cond.methodLink "java/lang/StringLatin1" (62 : Nat) ({ cls := "java/lang/String", name := "checkOffset", desc := "(II)V" } : Jvm.MethodName)) ∈ lw_all := lw_g (lw_at lw_m7 124 rfl) rfl
theorem q2182 : (Jvm.Cond.static ({ cls := "java/lang/StringLatin1", name := "indexOf", desc := "([BIII)I" } : Jvm.MethodName)) ∈ lw_all := lw_g (lw_at lw_m9 161 rfl) rfl
theorem q2183 : (Jvm.Cond.code ({ cls := "java/lang/StringLatin1", name := "indexOf", desc := "([BIII)I" } : Jvm.MethodName) prog_38_method_22_code (4 : Nat) (Option.some Jvm.ClassFile.FieldType.int)) ∈ lw_all := lw_g (lw_at lw_m9 162 rfl) rfl
theorem q2184 : (Jvm.Cond.methodLink "java/lang/StringLatin1" (88 : Nat) ({ cls := "java/lang/StringLatin1", name := "canEncode", desc := "(I)Z" } : Jvm.MethodName)) ∈ lw_all := lw_g (lw_at lw_m9 163 rfl) rfl
theorem q2185 : (Jvm.Cond.static ({ cls := "java/lang/StringLatin1", name := "canEncode", desc := "(I)Z" } : Jvm.MethodName)) ∈ lw_all := lw_g (lw_at lw_m9 164 rfl) rfl
theorem q2186 : (Jvm.Cond.code ({ cls := "java/lang/StringLatin1", name := "canEncode", desc := "(I)Z" } : Jvm.MethodName) prog_38_method_4_code (1 : Nat) (Option.some Jvm.ClassFile.FieldType.boolean)) ∈ lw_all := lw_g (lw_at lw_m9 165 rfl) rfl
theorem q2187 : (Jvm.Cond.methodLink "java/lang/StringLatin1" (92 : Nat) ({ cls := "java/lang/Math", name := "max", desc := "(II)I" } : Jvm.MethodName)) ∈ lw_all := lw_g (lw_at lw_m9 166 rfl) rfl
theorem q2188 : (Jvm.Cond.methodLink "java/lang/StringLatin1" (95 : Nat) ({ cls := "java/lang/StringLatin1", name := "indexOfChar", desc := "([BIII)I" } : Jvm.MethodName)) ∈ lw_all := lw_g (lw_at lw_m9 167 rfl) rfl
theorem q2189 : (Jvm.Cond.static ({ cls := "java/lang/StringLatin1", name := "indexOfChar", desc := "([BIII)I" } : Jvm.MethodName)) ∈ lw_all := lw_g (lw_at lw_m9 168 rfl) rfl
theorem q2190 : (Jvm.Cond.code ({ cls := "java/lang/StringLatin1", name := "indexOfChar", desc := "([BIII)I" } : Jvm.MethodName) prog_38_method_23_code (6 : Nat) (Option.some Jvm.ClassFile.FieldType.int)) ∈ lw_all := lw_g (lw_at lw_m9 169 rfl) rfl
/-! java/lang/IllegalArgumentException -/
set_option maxRecDepth 100000
def RJ19 : String := "java/lang/IllegalArgumentException"
def TJ19 : u_T := fun k => match k with
  | 0 => ("java/lang/Throwable", "cause", "Ljava/lang/Throwable;", false)
  | 1 => ("java/lang/Throwable", "stackTrace", "[Ljava/lang/StackTraceElement;", false)
  | 2 => ("java/lang/Throwable", "suppressedExceptions", "Ljava/util/List;", false)
  | 3 => ("java/lang/Throwable", "detailMessage", "Ljava/lang/String;", false)
  | 4 => ("java/lang/Throwable", "backtrace", "Ljava/lang/Object;", false)
  | _ => ("java/lang/Throwable", "depth", "I", false)
def tyJ19 : Nat → FieldType := fun k => match k with
  | 0 => .object "java/lang/Throwable"
  | 1 => .array (.object "java/lang/StackTraceElement")
  | 2 => .object "java/util/List"
  | 3 => .object "java/lang/String"
  | 4 => .object "java/lang/Object"
  | _ => .int
abbrev wsJ190 : List Cond := u_ws RJ19 TJ19 6
theorem nmJ19 : ∀ a, a < 6 → ∀ b, b < 6 → a ≠ b → (TJ19 a).2.1 ≠ (TJ19 b).2.1 := by decide +kernel
theorem tyJ19_ok : ∀ k, k < 6 → parseFieldDescriptor (TJ19 k).2.2.1 = some (tyJ19 k) := by decide +kernel
theorem q125 : (Jvm.Cond.initialized "java/lang/IllegalArgumentException") ∈ lw_all := lw_g (lw_at lw_m1 24 rfl) rfl
theorem q301 : (Jvm.Cond.selects "java/lang/IllegalArgumentException" ({ cls := "java/lang/Object", name := "getClass", desc := "()Ljava/lang/Class;" } : Jvm.MethodName) ({ cls := "java/lang/Object", name := "getClass", desc := "()Ljava/lang/Class;" } : Jvm.MethodName)) ∈ lw_all := lw_g (lw_at lw_m1 200 rfl) rfl
theorem q376 : (Jvm.Cond.selects "java/lang/IllegalArgumentException" ({ cls := "java/lang/Throwable", name := "fillInStackTrace", desc := "()Ljava/lang/Throwable;" } : Jvm.MethodName) ({ cls := "java/lang/Throwable", name := "fillInStackTrace", desc := "()Ljava/lang/Throwable;" } : Jvm.MethodName)) ∈ lw_all := lw_g (lw_at lw_m2 35 rfl) rfl
theorem q585 : (Jvm.Cond.instantiable "java/lang/IllegalArgumentException" (6 : Nat)) ∈ lw_all := lw_g (lw_at lw_m3 4 rfl) rfl
theorem q586 : (Jvm.Cond.castable "java/lang/IllegalArgumentException" "java/lang/IllegalArgumentException") ∈ lw_tbl := lw_at lw_m3 5 rfl
theorem q587 : (Jvm.Cond.selects "java/lang/IllegalArgumentException" ({ cls := "java/lang/Throwable", name := "fillInStackTrace", desc := "(I)Ljava/lang/Throwable;" } : Jvm.MethodName) ({ cls := "java/lang/Throwable", name := "fillInStackTrace", desc := "(I)Ljava/lang/Throwable;" } : Jvm.MethodName)) ∈ lw_all := lw_g (lw_at lw_m3 6 rfl) rfl
theorem q588 : (Jvm.Cond.lays "java/lang/IllegalArgumentException" "java/lang/Throwable" "cause" "Ljava/lang/Throwable;") ∈ lw_all := lw_g (lw_at lw_m3 7 rfl) rfl
theorem q589 : (Jvm.Cond.lays "java/lang/IllegalArgumentException" "java/lang/Throwable" "stackTrace" "[Ljava/lang/StackTraceElement;") ∈ lw_all := lw_g (lw_at lw_m3 8 rfl) rfl
theorem q590 : (Jvm.Cond.lays "java/lang/IllegalArgumentException" "java/lang/Throwable" "suppressedExceptions" "Ljava/util/List;") ∈ lw_all := lw_g (lw_at lw_m3 9 rfl) rfl
theorem q591 : (Jvm.Cond.lays "java/lang/IllegalArgumentException" "java/lang/Throwable" "detailMessage" "Ljava/lang/String;") ∈ lw_all := lw_g (lw_at lw_m3 10 rfl) rfl
theorem q592 : (Jvm.Cond.lays "java/lang/IllegalArgumentException" "java/lang/Throwable" "backtrace" "Ljava/lang/Object;") ∈ lw_all := lw_g (lw_at lw_m3 11 rfl) rfl
theorem q600 : (Jvm.Cond.instanceMethod ({ cls := "java/lang/IllegalArgumentException", name := "<init>", desc := "(Ljava/lang/String;)V" } : Jvm.MethodName)) ∈ lw_all := lw_g (lw_at lw_m3 19 rfl) rfl
theorem q601 : (Jvm.Cond.code ({ cls := "java/lang/IllegalArgumentException", name := "<init>", desc := "(Ljava/lang/String;)V" } : Jvm.MethodName) prog_25_method_2_code (2 : Nat) (Option.none : Option Jvm.ClassFile.FieldType)) ∈ lw_all := lw_g (lw_at lw_m3 20 rfl) rfl
theorem q602 : (Jvm.Cond.methodLink "java/lang/IllegalArgumentException" (7 : Nat) ({ cls := "java/lang/RuntimeException", name := "<init>", desc := "(Ljava/lang/String;)V" } : Jvm.MethodName)) ∈ lw_all := lw_g (lw_at lw_m3 21 rfl) rfl
theorem q620 : (Jvm.Cond.lays "java/lang/IllegalArgumentException" "java/lang/Throwable" "depth" "I") ∈ lw_all := lw_g (lw_at lw_m3 39 rfl) rfl
theorem q623 : (Jvm.Cond.superclass "java/lang/IllegalArgumentException" "java/lang/RuntimeException") ∈ lw_all := lw_g (lw_at lw_m3 42 rfl) rfl
theorem q864 : (Jvm.Cond.selects "java/lang/IllegalArgumentException" ({ cls := "java/lang/Object", name := "equals", desc := "(Ljava/lang/Object;)Z" } : Jvm.MethodName) ({ cls := "java/lang/Object", name := "equals", desc := "(Ljava/lang/Object;)Z" } : Jvm.MethodName)) ∈ lw_all := lw_g (lw_at lw_m4 43 rfl) rfl
theorem q1448 : (Jvm.Cond.instanceMethod ({ cls := "java/lang/IllegalArgumentException", name := "<init>", desc := "()V" } : Jvm.MethodName)) ∈ lw_all := lw_g (lw_at lw_m6 147 rfl) rfl
theorem q1449 : (Jvm.Cond.code ({ cls := "java/lang/IllegalArgumentException", name := "<init>", desc := "()V" } : Jvm.MethodName) prog_25_method_1_code (1 : Nat) (Option.none : Option Jvm.ClassFile.FieldType)) ∈ lw_all := lw_g (lw_at lw_m6 148 rfl) rfl
theorem q1450 : (Jvm.Cond.methodLink "java/lang/IllegalArgumentException" (1 : Nat) ({ cls := "java/lang/RuntimeException", name := "<init>", desc := "()V" } : Jvm.MethodName)) ∈ lw_all := lw_g (lw_at lw_m6 149 rfl) rfl
theorem q3304 : (Jvm.Cond.castable "java/lang/IllegalArgumentException" "java/lang/Object") ∈ lw_tbl := lw_at lw_m14 83 rfl
theorem in_J19 : ∀ w ∈ wsJ190, w ∈ lw_all := lw_in wsJ190 [588, 589, 590, 591, 592, 620] (by decide +kernel) (by decide +kernel)
/-! java/util/ArrayList -/
set_option maxRecDepth 100000
def RJ2 : String := "java/util/ArrayList"
def TJ2 : u_T := fun k => match k with
  | 0 => ("java/util/AbstractList", "modCount", "I", false)
  | 1 => ("java/util/ArrayList", "elementData", "[Ljava/lang/Object;", false)
  | _ => ("java/util/ArrayList", "size", "I", false)
def tyJ2 : Nat → FieldType := fun k => match k with
  | 0 => .int
  | 1 => .array (.object "java/lang/Object")
  | _ => .int
abbrev wsJ20 : List Cond := u_ws RJ2 TJ2 3
theorem nmJ2 : ∀ a, a < 3 → ∀ b, b < 3 → a ≠ b → (TJ2 a).2.1 ≠ (TJ2 b).2.1 := by decide +kernel
theorem tyJ2_ok : ∀ k, k < 3 → parseFieldDescriptor (TJ2 k).2.2.1 = some (tyJ2 k) := by decide +kernel
abbrev cJ2_init : ByteArray := prog_51_method_2_code
def yJ2_init : MethodName := ⟨RJ2, "<init>", "()V"⟩
def dkwJ2_init_0 : List UInt8 := [42, 183, 0, 1, 42, 178, 0, 39, 181, 0, 9, 177]
abbrev dktJ2_init_0 : List UInt8 := dkwJ2_init_0 ++ []
theorem dksJ2_init_0 : cJ2_init.data.toList.drop 0 = dktJ2_init_0 := by decide +kernel
theorem dJ2_init_0 : decode cJ2_init 0 = .ok (.aload_n 0, 1) := dk_42 (dk_at dksJ2_init_0 0 rfl rfl)
theorem dJ2_init_1 : decode cJ2_init 1 = .ok (.invokespecial 1, 3) := dk_183 0 1 (dk_at dksJ2_init_0 1 rfl rfl)
theorem dJ2_init_4 : decode cJ2_init 4 = .ok (.aload_n 0, 1) := dk_42 (dk_at dksJ2_init_0 4 rfl rfl)
theorem dJ2_init_5 : decode cJ2_init 5 = .ok (.getstatic 39, 3) := dk_178 0 39 (dk_at dksJ2_init_0 5 rfl rfl)
theorem dJ2_init_8 : decode cJ2_init 8 = .ok (.putfield 9, 3) := dk_181 0 9 (dk_at dksJ2_init_0 8 rfl rfl)
theorem dJ2_init_11 : decode cJ2_init 11 = .ok (.return_, 1) := dk_177 (dk_at dksJ2_init_0 11 rfl rfl)
abbrev cJ2_add : ByteArray := prog_51_method_25_code
def yJ2_add : MethodName := ⟨RJ2, "add", "(Ljava/lang/Object;)Z"⟩
def dkwJ2_add_1 : List UInt8 := [172]
abbrev dktJ2_add_1 : List UInt8 := dkwJ2_add_1 ++ []
def dkwJ2_add_0 : List UInt8 := [42, 89, 180, 0, 63, 4, 96, 181, 0, 63, 42, 43, 42, 180, 0, 9, 42, 180, 0, 48, 182, 0, 131, 4]
abbrev dktJ2_add_0 : List UInt8 := dkwJ2_add_0 ++ dktJ2_add_1
theorem dksJ2_add_0 : cJ2_add.data.toList.drop 0 = dktJ2_add_0 := by decide +kernel
theorem dksJ2_add_1 : cJ2_add.data.toList.drop 24 = dktJ2_add_1 := dk_seg dksJ2_add_0 24 rfl rfl
theorem dJ2_add_0 : decode cJ2_add 0 = .ok (.aload_n 0, 1) := dk_42 (dk_at dksJ2_add_0 0 rfl rfl)
theorem dJ2_add_1 : decode cJ2_add 1 = .ok (.dup, 1) := dk_89 (dk_at dksJ2_add_0 1 rfl rfl)
theorem dJ2_add_2 : decode cJ2_add 2 = .ok (.getfield 63, 3) := dk_180 0 63 (dk_at dksJ2_add_0 2 rfl rfl)
theorem dJ2_add_5 : decode cJ2_add 5 = .ok (.iconst 1, 1) := dk_4 (dk_at dksJ2_add_0 5 rfl rfl)
theorem dJ2_add_6 : decode cJ2_add 6 = .ok (.iadd, 1) := dk_96 (dk_at dksJ2_add_0 6 rfl rfl)
theorem dJ2_add_7 : decode cJ2_add 7 = .ok (.putfield 63, 3) := dk_181 0 63 (dk_at dksJ2_add_0 7 rfl rfl)
theorem dJ2_add_10 : decode cJ2_add 10 = .ok (.aload_n 0, 1) := dk_42 (dk_at dksJ2_add_0 10 rfl rfl)
theorem dJ2_add_11 : decode cJ2_add 11 = .ok (.aload_n 1, 1) := dk_43 (dk_at dksJ2_add_0 11 rfl rfl)
theorem dJ2_add_12 : decode cJ2_add 12 = .ok (.aload_n 0, 1) := dk_42 (dk_at dksJ2_add_0 12 rfl rfl)
theorem dJ2_add_13 : decode cJ2_add 13 = .ok (.getfield 9, 3) := dk_180 0 9 (dk_at dksJ2_add_0 13 rfl rfl)
theorem dJ2_add_16 : decode cJ2_add 16 = .ok (.aload_n 0, 1) := dk_42 (dk_at dksJ2_add_0 16 rfl rfl)
theorem dJ2_add_17 : decode cJ2_add 17 = .ok (.getfield 48, 3) := dk_180 0 48 (dk_at dksJ2_add_0 17 rfl rfl)
theorem dJ2_add_20 : decode cJ2_add 20 = .ok (.invokevirtual 131, 3) := dk_182 0 131 (dk_at dksJ2_add_0 20 rfl rfl)
theorem dJ2_add_23 : decode cJ2_add 23 = .ok (.iconst 1, 1) := dk_4 (dk_at dksJ2_add_0 23 rfl rfl)
theorem dJ2_add_24 : decode cJ2_add 24 = .ok (.ireturn, 1) := dk_172 (dk_at dksJ2_add_1 0 rfl rfl)
abbrev cJ2_add_2 : ByteArray := prog_51_method_24_code
def yJ2_add_2 : MethodName := ⟨RJ2, "add", "(Ljava/lang/Object;[Ljava/lang/Object;I)V"⟩
def dkwJ2_add_2_0 : List UInt8 := [29, 44, 190, 160, 0, 8, 42, 182, 0, 129, 77, 44, 29, 43, 83, 42, 29, 4, 96, 181, 0, 48, 177]
abbrev dktJ2_add_2_0 : List UInt8 := dkwJ2_add_2_0 ++ []
theorem dksJ2_add_2_0 : cJ2_add_2.data.toList.drop 0 = dktJ2_add_2_0 := by decide +kernel
theorem dJ2_add_2_0 : decode cJ2_add_2 0 = .ok (.iload_n 3, 1) := dk_29 (dk_at dksJ2_add_2_0 0 rfl rfl)
theorem dJ2_add_2_1 : decode cJ2_add_2 1 = .ok (.aload_n 2, 1) := dk_44 (dk_at dksJ2_add_2_0 1 rfl rfl)
theorem dJ2_add_2_2 : decode cJ2_add_2 2 = .ok (.arraylength, 1) := dk_190 (dk_at dksJ2_add_2_0 2 rfl rfl)
theorem dJ2_add_2_3 : decode cJ2_add_2 3 = .ok (.if_icmp .ne 8, 3) := dk_160 0 8 (dk_at dksJ2_add_2_0 3 rfl rfl)
theorem dJ2_add_2_6 : decode cJ2_add_2 6 = .ok (.aload_n 0, 1) := dk_42 (dk_at dksJ2_add_2_0 6 rfl rfl)
theorem dJ2_add_2_7 : decode cJ2_add_2 7 = .ok (.invokevirtual 129, 3) := dk_182 0 129 (dk_at dksJ2_add_2_0 7 rfl rfl)
theorem dJ2_add_2_10 : decode cJ2_add_2 10 = .ok (.astore_n 2, 1) := dk_77 (dk_at dksJ2_add_2_0 10 rfl rfl)
theorem dJ2_add_2_11 : decode cJ2_add_2 11 = .ok (.aload_n 2, 1) := dk_44 (dk_at dksJ2_add_2_0 11 rfl rfl)
theorem dJ2_add_2_12 : decode cJ2_add_2 12 = .ok (.iload_n 3, 1) := dk_29 (dk_at dksJ2_add_2_0 12 rfl rfl)
theorem dJ2_add_2_13 : decode cJ2_add_2 13 = .ok (.aload_n 1, 1) := dk_43 (dk_at dksJ2_add_2_0 13 rfl rfl)
theorem dJ2_add_2_14 : decode cJ2_add_2 14 = .ok (.aastore, 1) := dk_83 (dk_at dksJ2_add_2_0 14 rfl rfl)
theorem dJ2_add_2_15 : decode cJ2_add_2 15 = .ok (.aload_n 0, 1) := dk_42 (dk_at dksJ2_add_2_0 15 rfl rfl)
theorem dJ2_add_2_16 : decode cJ2_add_2 16 = .ok (.iload_n 3, 1) := dk_29 (dk_at dksJ2_add_2_0 16 rfl rfl)
theorem dJ2_add_2_17 : decode cJ2_add_2 17 = .ok (.iconst 1, 1) := dk_4 (dk_at dksJ2_add_2_0 17 rfl rfl)
theorem dJ2_add_2_18 : decode cJ2_add_2 18 = .ok (.iadd, 1) := dk_96 (dk_at dksJ2_add_2_0 18 rfl rfl)
theorem dJ2_add_2_19 : decode cJ2_add_2 19 = .ok (.putfield 48, 3) := dk_181 0 48 (dk_at dksJ2_add_2_0 19 rfl rfl)
theorem dJ2_add_2_22 : decode cJ2_add_2 22 = .ok (.return_, 1) := dk_177 (dk_at dksJ2_add_2_0 22 rfl rfl)
abbrev cJ2_grow : ByteArray := prog_51_method_7_code
def yJ2_grow : MethodName := ⟨RJ2, "grow", "()[Ljava/lang/Object;"⟩
def dkwJ2_grow_0 : List UInt8 := [42, 42, 180, 0, 48, 4, 96, 182, 0, 69, 176]
abbrev dktJ2_grow_0 : List UInt8 := dkwJ2_grow_0 ++ []
theorem dksJ2_grow_0 : cJ2_grow.data.toList.drop 0 = dktJ2_grow_0 := by decide +kernel
theorem dJ2_grow_0 : decode cJ2_grow 0 = .ok (.aload_n 0, 1) := dk_42 (dk_at dksJ2_grow_0 0 rfl rfl)
theorem dJ2_grow_1 : decode cJ2_grow 1 = .ok (.aload_n 0, 1) := dk_42 (dk_at dksJ2_grow_0 1 rfl rfl)
theorem dJ2_grow_2 : decode cJ2_grow 2 = .ok (.getfield 48, 3) := dk_180 0 48 (dk_at dksJ2_grow_0 2 rfl rfl)
theorem dJ2_grow_5 : decode cJ2_grow 5 = .ok (.iconst 1, 1) := dk_4 (dk_at dksJ2_grow_0 5 rfl rfl)
theorem dJ2_grow_6 : decode cJ2_grow 6 = .ok (.iadd, 1) := dk_96 (dk_at dksJ2_grow_0 6 rfl rfl)
theorem dJ2_grow_7 : decode cJ2_grow 7 = .ok (.invokevirtual 69, 3) := dk_182 0 69 (dk_at dksJ2_grow_0 7 rfl rfl)
theorem dJ2_grow_10 : decode cJ2_grow 10 = .ok (.areturn, 1) := dk_176 (dk_at dksJ2_grow_0 10 rfl rfl)
abbrev cJ2_grow_2 : ByteArray := prog_51_method_6_code
def yJ2_grow_2 : MethodName := ⟨RJ2, "grow", "(I)[Ljava/lang/Object;"⟩
def dkwJ2_grow_2_2 : List UInt8 := [27, 184, 0, 79, 189, 0, 7, 90, 181, 0, 9, 176]
abbrev dktJ2_grow_2_2 : List UInt8 := dkwJ2_grow_2_2 ++ []
def dkwJ2_grow_2_1 : List UInt8 := [28, 4, 122, 184, 0, 73, 62, 42, 42, 180, 0, 9, 29, 184, 0, 66, 90, 181, 0, 9, 176, 42, 16, 10]
abbrev dktJ2_grow_2_1 : List UInt8 := dkwJ2_grow_2_1 ++ dktJ2_grow_2_2
def dkwJ2_grow_2_0 : List UInt8 := [42, 180, 0, 9, 190, 61, 28, 157, 0, 13, 42, 180, 0, 9, 178, 0, 39, 165, 0, 28, 28, 27, 28, 100]
abbrev dktJ2_grow_2_0 : List UInt8 := dkwJ2_grow_2_0 ++ dktJ2_grow_2_1
theorem dksJ2_grow_2_0 : cJ2_grow_2.data.toList.drop 0 = dktJ2_grow_2_0 := by decide +kernel
theorem dksJ2_grow_2_1 : cJ2_grow_2.data.toList.drop 24 = dktJ2_grow_2_1 := dk_seg dksJ2_grow_2_0 24 rfl rfl
theorem dksJ2_grow_2_2 : cJ2_grow_2.data.toList.drop 48 = dktJ2_grow_2_2 := dk_seg dksJ2_grow_2_1 24 rfl rfl
theorem dJ2_grow_2_0 : decode cJ2_grow_2 0 = .ok (.aload_n 0, 1) := dk_42 (dk_at dksJ2_grow_2_0 0 rfl rfl)
theorem dJ2_grow_2_1 : decode cJ2_grow_2 1 = .ok (.getfield 9, 3) := dk_180 0 9 (dk_at dksJ2_grow_2_0 1 rfl rfl)
theorem dJ2_grow_2_4 : decode cJ2_grow_2 4 = .ok (.arraylength, 1) := dk_190 (dk_at dksJ2_grow_2_0 4 rfl rfl)
theorem dJ2_grow_2_5 : decode cJ2_grow_2 5 = .ok (.istore_n 2, 1) := dk_61 (dk_at dksJ2_grow_2_0 5 rfl rfl)
theorem dJ2_grow_2_6 : decode cJ2_grow_2 6 = .ok (.iload_n 2, 1) := dk_28 (dk_at dksJ2_grow_2_0 6 rfl rfl)
theorem dJ2_grow_2_7 : decode cJ2_grow_2 7 = .ok (.ifCond .gt 13, 3) := dk_157 0 13 (dk_at dksJ2_grow_2_0 7 rfl rfl)
theorem dJ2_grow_2_10 : decode cJ2_grow_2 10 = .ok (.aload_n 0, 1) := dk_42 (dk_at dksJ2_grow_2_0 10 rfl rfl)
theorem dJ2_grow_2_11 : decode cJ2_grow_2 11 = .ok (.getfield 9, 3) := dk_180 0 9 (dk_at dksJ2_grow_2_0 11 rfl rfl)
theorem dJ2_grow_2_14 : decode cJ2_grow_2 14 = .ok (.getstatic 39, 3) := dk_178 0 39 (dk_at dksJ2_grow_2_0 14 rfl rfl)
theorem dJ2_grow_2_17 : decode cJ2_grow_2 17 = .ok (.if_acmp .eq 28, 3) := dk_165 0 28 (dk_at dksJ2_grow_2_0 17 rfl rfl)
theorem dJ2_grow_2_20 : decode cJ2_grow_2 20 = .ok (.iload_n 2, 1) := dk_28 (dk_at dksJ2_grow_2_0 20 rfl rfl)
theorem dJ2_grow_2_21 : decode cJ2_grow_2 21 = .ok (.iload_n 1, 1) := dk_27 (dk_at dksJ2_grow_2_0 21 rfl rfl)
theorem dJ2_grow_2_22 : decode cJ2_grow_2 22 = .ok (.iload_n 2, 1) := dk_28 (dk_at dksJ2_grow_2_0 22 rfl rfl)
theorem dJ2_grow_2_23 : decode cJ2_grow_2 23 = .ok (.isub, 1) := dk_100 (dk_at dksJ2_grow_2_0 23 rfl rfl)
theorem dJ2_grow_2_24 : decode cJ2_grow_2 24 = .ok (.iload_n 2, 1) := dk_28 (dk_at dksJ2_grow_2_1 0 rfl rfl)
theorem dJ2_grow_2_25 : decode cJ2_grow_2 25 = .ok (.iconst 1, 1) := dk_4 (dk_at dksJ2_grow_2_1 1 rfl rfl)
theorem dJ2_grow_2_26 : decode cJ2_grow_2 26 = .ok (.ishr, 1) := dk_122 (dk_at dksJ2_grow_2_1 2 rfl rfl)
theorem dJ2_grow_2_27 : decode cJ2_grow_2 27 = .ok (.invokestatic 73, 3) := dk_184 0 73 (dk_at dksJ2_grow_2_1 3 rfl rfl)
theorem dJ2_grow_2_30 : decode cJ2_grow_2 30 = .ok (.istore_n 3, 1) := dk_62 (dk_at dksJ2_grow_2_1 6 rfl rfl)
theorem dJ2_grow_2_31 : decode cJ2_grow_2 31 = .ok (.aload_n 0, 1) := dk_42 (dk_at dksJ2_grow_2_1 7 rfl rfl)
theorem dJ2_grow_2_32 : decode cJ2_grow_2 32 = .ok (.aload_n 0, 1) := dk_42 (dk_at dksJ2_grow_2_1 8 rfl rfl)
theorem dJ2_grow_2_33 : decode cJ2_grow_2 33 = .ok (.getfield 9, 3) := dk_180 0 9 (dk_at dksJ2_grow_2_1 9 rfl rfl)
theorem dJ2_grow_2_36 : decode cJ2_grow_2 36 = .ok (.iload_n 3, 1) := dk_29 (dk_at dksJ2_grow_2_1 12 rfl rfl)
theorem dJ2_grow_2_37 : decode cJ2_grow_2 37 = .ok (.invokestatic 66, 3) := dk_184 0 66 (dk_at dksJ2_grow_2_1 13 rfl rfl)
theorem dJ2_grow_2_40 : decode cJ2_grow_2 40 = .ok (.dup_x1, 1) := dk_90 (dk_at dksJ2_grow_2_1 16 rfl rfl)
theorem dJ2_grow_2_41 : decode cJ2_grow_2 41 = .ok (.putfield 9, 3) := dk_181 0 9 (dk_at dksJ2_grow_2_1 17 rfl rfl)
theorem dJ2_grow_2_44 : decode cJ2_grow_2 44 = .ok (.areturn, 1) := dk_176 (dk_at dksJ2_grow_2_1 20 rfl rfl)
theorem dJ2_grow_2_45 : decode cJ2_grow_2 45 = .ok (.aload_n 0, 1) := dk_42 (dk_at dksJ2_grow_2_1 21 rfl rfl)
theorem dJ2_grow_2_46 : decode cJ2_grow_2 46 = .ok (.bipush 10, 2) := dk_16 10 (dk_at dksJ2_grow_2_1 22 rfl rfl)
theorem dJ2_grow_2_48 : decode cJ2_grow_2 48 = .ok (.iload_n 1, 1) := dk_27 (dk_at dksJ2_grow_2_2 0 rfl rfl)
theorem dJ2_grow_2_49 : decode cJ2_grow_2 49 = .ok (.invokestatic 79, 3) := dk_184 0 79 (dk_at dksJ2_grow_2_2 1 rfl rfl)
theorem dJ2_grow_2_52 : decode cJ2_grow_2 52 = .ok (.anewarray 7, 3) := dk_189 0 7 (dk_at dksJ2_grow_2_2 4 rfl rfl)
theorem dJ2_grow_2_55 : decode cJ2_grow_2 55 = .ok (.dup_x1, 1) := dk_90 (dk_at dksJ2_grow_2_2 7 rfl rfl)
theorem dJ2_grow_2_56 : decode cJ2_grow_2 56 = .ok (.putfield 9, 3) := dk_181 0 9 (dk_at dksJ2_grow_2_2 8 rfl rfl)
theorem dJ2_grow_2_59 : decode cJ2_grow_2 59 = .ok (.areturn, 1) := dk_176 (dk_at dksJ2_grow_2_2 11 rfl rfl)
abbrev cJ2_size : ByteArray := prog_51_method_8_code
def yJ2_size : MethodName := ⟨RJ2, "size", "()I"⟩
theorem dJ2_size_0 : decode cJ2_size 0 = .ok (.aload_n 0, 1) := by decide +kernel
theorem dJ2_size_1 : decode cJ2_size 1 = .ok (.getfield 48, 3) := by decide +kernel
theorem dJ2_size_4 : decode cJ2_size 4 = .ok (.ireturn, 1) := by decide +kernel
abbrev cJ2_get : ByteArray := prog_51_method_20_code
def yJ2_get : MethodName := ⟨RJ2, "get", "(I)Ljava/lang/Object;"⟩
def dkwJ2_get_0 : List UInt8 := [27, 42, 180, 0, 48, 184, 0, 118, 87, 42, 27, 182, 0, 123, 176]
abbrev dktJ2_get_0 : List UInt8 := dkwJ2_get_0 ++ []
theorem dksJ2_get_0 : cJ2_get.data.toList.drop 0 = dktJ2_get_0 := by decide +kernel
theorem dJ2_get_0 : decode cJ2_get 0 = .ok (.iload_n 1, 1) := dk_27 (dk_at dksJ2_get_0 0 rfl rfl)
theorem dJ2_get_1 : decode cJ2_get 1 = .ok (.aload_n 0, 1) := dk_42 (dk_at dksJ2_get_0 1 rfl rfl)
theorem dJ2_get_2 : decode cJ2_get 2 = .ok (.getfield 48, 3) := dk_180 0 48 (dk_at dksJ2_get_0 2 rfl rfl)
theorem dJ2_get_5 : decode cJ2_get 5 = .ok (.invokestatic 118, 3) := dk_184 0 118 (dk_at dksJ2_get_0 5 rfl rfl)
theorem dJ2_get_8 : decode cJ2_get 8 = .ok (.pop, 1) := dk_87 (dk_at dksJ2_get_0 8 rfl rfl)
theorem dJ2_get_9 : decode cJ2_get 9 = .ok (.aload_n 0, 1) := dk_42 (dk_at dksJ2_get_0 9 rfl rfl)
theorem dJ2_get_10 : decode cJ2_get 10 = .ok (.iload_n 1, 1) := dk_27 (dk_at dksJ2_get_0 10 rfl rfl)
theorem dJ2_get_11 : decode cJ2_get 11 = .ok (.invokevirtual 123, 3) := dk_182 0 123 (dk_at dksJ2_get_0 11 rfl rfl)
theorem dJ2_get_14 : decode cJ2_get 14 = .ok (.areturn, 1) := dk_176 (dk_at dksJ2_get_0 14 rfl rfl)
abbrev cJ2_elementData : ByteArray := prog_51_method_18_code
def yJ2_elementData : MethodName := ⟨RJ2, "elementData", "(I)Ljava/lang/Object;"⟩
def dkwJ2_elementData_0 : List UInt8 := [42, 180, 0, 9, 27, 50, 176]
abbrev dktJ2_elementData_0 : List UInt8 := dkwJ2_elementData_0 ++ []
theorem dksJ2_elementData_0 : cJ2_elementData.data.toList.drop 0 = dktJ2_elementData_0 := by decide +kernel
theorem dJ2_elementData_0 : decode cJ2_elementData 0 = .ok (.aload_n 0, 1) := dk_42 (dk_at dksJ2_elementData_0 0 rfl rfl)
theorem dJ2_elementData_1 : decode cJ2_elementData 1 = .ok (.getfield 9, 3) := dk_180 0 9 (dk_at dksJ2_elementData_0 1 rfl rfl)
theorem dJ2_elementData_4 : decode cJ2_elementData 4 = .ok (.iload_n 1, 1) := dk_27 (dk_at dksJ2_elementData_0 4 rfl rfl)
theorem dJ2_elementData_5 : decode cJ2_elementData 5 = .ok (.aaload, 1) := dk_50 (dk_at dksJ2_elementData_0 5 rfl rfl)
theorem dJ2_elementData_6 : decode cJ2_elementData 6 = .ok (.areturn, 1) := dk_176 (dk_at dksJ2_elementData_0 6 rfl rfl)
abbrev cJ2_indexOf : ByteArray := prog_51_method_11_code
def yJ2_indexOf : MethodName := ⟨RJ2, "indexOf", "(Ljava/lang/Object;)I"⟩
def dkwJ2_indexOf_0 : List UInt8 := [42, 43, 3, 42, 180, 0, 48, 182, 0, 89, 172]
abbrev dktJ2_indexOf_0 : List UInt8 := dkwJ2_indexOf_0 ++ []
theorem dksJ2_indexOf_0 : cJ2_indexOf.data.toList.drop 0 = dktJ2_indexOf_0 := by decide +kernel
theorem dJ2_indexOf_0 : decode cJ2_indexOf 0 = .ok (.aload_n 0, 1) := dk_42 (dk_at dksJ2_indexOf_0 0 rfl rfl)
theorem dJ2_indexOf_1 : decode cJ2_indexOf 1 = .ok (.aload_n 1, 1) := dk_43 (dk_at dksJ2_indexOf_0 1 rfl rfl)
theorem dJ2_indexOf_2 : decode cJ2_indexOf 2 = .ok (.iconst 0, 1) := dk_3 (dk_at dksJ2_indexOf_0 2 rfl rfl)
theorem dJ2_indexOf_3 : decode cJ2_indexOf 3 = .ok (.aload_n 0, 1) := dk_42 (dk_at dksJ2_indexOf_0 3 rfl rfl)
theorem dJ2_indexOf_4 : decode cJ2_indexOf 4 = .ok (.getfield 48, 3) := dk_180 0 48 (dk_at dksJ2_indexOf_0 4 rfl rfl)
theorem dJ2_indexOf_7 : decode cJ2_indexOf 7 = .ok (.invokevirtual 89, 3) := dk_182 0 89 (dk_at dksJ2_indexOf_0 7 rfl rfl)
theorem dJ2_indexOf_10 : decode cJ2_indexOf 10 = .ok (.ireturn, 1) := dk_172 (dk_at dksJ2_indexOf_0 10 rfl rfl)
abbrev cJ2_indexOfRange : ByteArray := prog_51_method_12_code
def yJ2_indexOfRange : MethodName := ⟨RJ2, "indexOfRange", "(Ljava/lang/Object;II)I"⟩
def dkwJ2_indexOfRange_2 : List UInt8 := [43, 25, 4, 21, 5, 50, 182, 0, 93, 153, 0, 6, 21, 5, 172, 132, 5, 1, 167, 255, 232, 2, 172]
abbrev dktJ2_indexOfRange_2 : List UInt8 := dkwJ2_indexOfRange_2 ++ []
def dkwJ2_indexOfRange_1 : List UInt8 := [199, 0, 6, 21, 5, 172, 132, 5, 1, 167, 255, 236, 167, 0, 33, 28, 54, 5, 21, 5, 29, 162, 0, 24]
abbrev dktJ2_indexOfRange_1 : List UInt8 := dkwJ2_indexOfRange_1 ++ dktJ2_indexOfRange_2
def dkwJ2_indexOfRange_0 : List UInt8 := [42, 180, 0, 9, 58, 4, 43, 199, 0, 32, 28, 54, 5, 21, 5, 29, 162, 0, 20, 25, 4, 21, 5, 50]
abbrev dktJ2_indexOfRange_0 : List UInt8 := dkwJ2_indexOfRange_0 ++ dktJ2_indexOfRange_1
theorem dksJ2_indexOfRange_0 : cJ2_indexOfRange.data.toList.drop 0 = dktJ2_indexOfRange_0 := by decide +kernel
theorem dksJ2_indexOfRange_1 : cJ2_indexOfRange.data.toList.drop 24 = dktJ2_indexOfRange_1 := dk_seg dksJ2_indexOfRange_0 24 rfl rfl
theorem dksJ2_indexOfRange_2 : cJ2_indexOfRange.data.toList.drop 48 = dktJ2_indexOfRange_2 := dk_seg dksJ2_indexOfRange_1 24 rfl rfl
theorem dJ2_indexOfRange_0 : decode cJ2_indexOfRange 0 = .ok (.aload_n 0, 1) := dk_42 (dk_at dksJ2_indexOfRange_0 0 rfl rfl)
theorem dJ2_indexOfRange_1 : decode cJ2_indexOfRange 1 = .ok (.getfield 9, 3) := dk_180 0 9 (dk_at dksJ2_indexOfRange_0 1 rfl rfl)
theorem dJ2_indexOfRange_4 : decode cJ2_indexOfRange 4 = .ok (.astore 4, 2) := dk_58 4 (dk_at dksJ2_indexOfRange_0 4 rfl rfl)
theorem dJ2_indexOfRange_6 : decode cJ2_indexOfRange 6 = .ok (.aload_n 1, 1) := dk_43 (dk_at dksJ2_indexOfRange_0 6 rfl rfl)
theorem dJ2_indexOfRange_7 : decode cJ2_indexOfRange 7 = .ok (.ifnonnull 32, 3) := dk_199 0 32 (dk_at dksJ2_indexOfRange_0 7 rfl rfl)
theorem dJ2_indexOfRange_10 : decode cJ2_indexOfRange 10 = .ok (.iload_n 2, 1) := dk_28 (dk_at dksJ2_indexOfRange_0 10 rfl rfl)
theorem dJ2_indexOfRange_11 : decode cJ2_indexOfRange 11 = .ok (.istore 5, 2) := dk_54 5 (dk_at dksJ2_indexOfRange_0 11 rfl rfl)
theorem dJ2_indexOfRange_13 : decode cJ2_indexOfRange 13 = .ok (.iload 5, 2) := dk_21 5 (dk_at dksJ2_indexOfRange_0 13 rfl rfl)
theorem dJ2_indexOfRange_15 : decode cJ2_indexOfRange 15 = .ok (.iload_n 3, 1) := dk_29 (dk_at dksJ2_indexOfRange_0 15 rfl rfl)
theorem dJ2_indexOfRange_16 : decode cJ2_indexOfRange 16 = .ok (.if_icmp .ge 20, 3) := dk_162 0 20 (dk_at dksJ2_indexOfRange_0 16 rfl rfl)
theorem dJ2_indexOfRange_19 : decode cJ2_indexOfRange 19 = .ok (.aload 4, 2) := dk_25 4 (dk_at dksJ2_indexOfRange_0 19 rfl rfl)
theorem dJ2_indexOfRange_21 : decode cJ2_indexOfRange 21 = .ok (.iload 5, 2) := dk_21 5 (dk_at dksJ2_indexOfRange_0 21 rfl rfl)
theorem dJ2_indexOfRange_23 : decode cJ2_indexOfRange 23 = .ok (.aaload, 1) := dk_50 (dk_at dksJ2_indexOfRange_0 23 rfl rfl)
theorem dJ2_indexOfRange_24 : decode cJ2_indexOfRange 24 = .ok (.ifnonnull 6, 3) := dk_199 0 6 (dk_at dksJ2_indexOfRange_1 0 rfl rfl)
theorem dJ2_indexOfRange_27 : decode cJ2_indexOfRange 27 = .ok (.iload 5, 2) := dk_21 5 (dk_at dksJ2_indexOfRange_1 3 rfl rfl)
theorem dJ2_indexOfRange_29 : decode cJ2_indexOfRange 29 = .ok (.ireturn, 1) := dk_172 (dk_at dksJ2_indexOfRange_1 5 rfl rfl)
theorem dJ2_indexOfRange_30 : decode cJ2_indexOfRange 30 = .ok (.iinc 5 1, 3) := dk_132 5 1 (dk_at dksJ2_indexOfRange_1 6 rfl rfl)
theorem dJ2_indexOfRange_33 : decode cJ2_indexOfRange 33 = .ok (.goto (-20), 3) := dk_167 255 236 (dk_at dksJ2_indexOfRange_1 9 rfl rfl)
theorem dJ2_indexOfRange_36 : decode cJ2_indexOfRange 36 = .ok (.goto 33, 3) := dk_167 0 33 (dk_at dksJ2_indexOfRange_1 12 rfl rfl)
theorem dJ2_indexOfRange_39 : decode cJ2_indexOfRange 39 = .ok (.iload_n 2, 1) := dk_28 (dk_at dksJ2_indexOfRange_1 15 rfl rfl)
theorem dJ2_indexOfRange_40 : decode cJ2_indexOfRange 40 = .ok (.istore 5, 2) := dk_54 5 (dk_at dksJ2_indexOfRange_1 16 rfl rfl)
theorem dJ2_indexOfRange_42 : decode cJ2_indexOfRange 42 = .ok (.iload 5, 2) := dk_21 5 (dk_at dksJ2_indexOfRange_1 18 rfl rfl)
theorem dJ2_indexOfRange_44 : decode cJ2_indexOfRange 44 = .ok (.iload_n 3, 1) := dk_29 (dk_at dksJ2_indexOfRange_1 20 rfl rfl)
theorem dJ2_indexOfRange_45 : decode cJ2_indexOfRange 45 = .ok (.if_icmp .ge 24, 3) := dk_162 0 24 (dk_at dksJ2_indexOfRange_1 21 rfl rfl)
theorem dJ2_indexOfRange_48 : decode cJ2_indexOfRange 48 = .ok (.aload_n 1, 1) := dk_43 (dk_at dksJ2_indexOfRange_2 0 rfl rfl)
theorem dJ2_indexOfRange_49 : decode cJ2_indexOfRange 49 = .ok (.aload 4, 2) := dk_25 4 (dk_at dksJ2_indexOfRange_2 1 rfl rfl)
theorem dJ2_indexOfRange_51 : decode cJ2_indexOfRange 51 = .ok (.iload 5, 2) := dk_21 5 (dk_at dksJ2_indexOfRange_2 3 rfl rfl)
theorem dJ2_indexOfRange_53 : decode cJ2_indexOfRange 53 = .ok (.aaload, 1) := dk_50 (dk_at dksJ2_indexOfRange_2 5 rfl rfl)
theorem dJ2_indexOfRange_54 : decode cJ2_indexOfRange 54 = .ok (.invokevirtual 93, 3) := dk_182 0 93 (dk_at dksJ2_indexOfRange_2 6 rfl rfl)
theorem dJ2_indexOfRange_57 : decode cJ2_indexOfRange 57 = .ok (.ifCond .eq 6, 3) := dk_153 0 6 (dk_at dksJ2_indexOfRange_2 9 rfl rfl)
theorem dJ2_indexOfRange_60 : decode cJ2_indexOfRange 60 = .ok (.iload 5, 2) := dk_21 5 (dk_at dksJ2_indexOfRange_2 12 rfl rfl)
theorem dJ2_indexOfRange_62 : decode cJ2_indexOfRange 62 = .ok (.ireturn, 1) := dk_172 (dk_at dksJ2_indexOfRange_2 14 rfl rfl)
theorem dJ2_indexOfRange_63 : decode cJ2_indexOfRange 63 = .ok (.iinc 5 1, 3) := dk_132 5 1 (dk_at dksJ2_indexOfRange_2 15 rfl rfl)
theorem dJ2_indexOfRange_66 : decode cJ2_indexOfRange 66 = .ok (.goto (-24), 3) := dk_167 255 232 (dk_at dksJ2_indexOfRange_2 18 rfl rfl)
theorem dJ2_indexOfRange_69 : decode cJ2_indexOfRange 69 = .ok (.iconst (-1), 1) := dk_2 (dk_at dksJ2_indexOfRange_2 21 rfl rfl)
theorem dJ2_indexOfRange_70 : decode cJ2_indexOfRange 70 = .ok (.ireturn, 1) := dk_172 (dk_at dksJ2_indexOfRange_2 22 rfl rfl)
abbrev cJ2_remove : ByteArray := prog_51_method_29_code
def yJ2_remove : MethodName := ⟨RJ2, "remove", "(I)Ljava/lang/Object;"⟩
def dkwJ2_remove_1 : List UInt8 := [45, 176]
abbrev dktJ2_remove_1 : List UInt8 := dkwJ2_remove_1 ++ []
def dkwJ2_remove_0 : List UInt8 := [27, 42, 180, 0, 48, 184, 0, 118, 87, 42, 180, 0, 9, 77, 44, 27, 50, 78, 42, 44, 27, 182, 0, 144]
abbrev dktJ2_remove_0 : List UInt8 := dkwJ2_remove_0 ++ dktJ2_remove_1
theorem dksJ2_remove_0 : cJ2_remove.data.toList.drop 0 = dktJ2_remove_0 := by decide +kernel
theorem dksJ2_remove_1 : cJ2_remove.data.toList.drop 24 = dktJ2_remove_1 := dk_seg dksJ2_remove_0 24 rfl rfl
theorem dJ2_remove_0 : decode cJ2_remove 0 = .ok (.iload_n 1, 1) := dk_27 (dk_at dksJ2_remove_0 0 rfl rfl)
theorem dJ2_remove_1 : decode cJ2_remove 1 = .ok (.aload_n 0, 1) := dk_42 (dk_at dksJ2_remove_0 1 rfl rfl)
theorem dJ2_remove_2 : decode cJ2_remove 2 = .ok (.getfield 48, 3) := dk_180 0 48 (dk_at dksJ2_remove_0 2 rfl rfl)
theorem dJ2_remove_5 : decode cJ2_remove 5 = .ok (.invokestatic 118, 3) := dk_184 0 118 (dk_at dksJ2_remove_0 5 rfl rfl)
theorem dJ2_remove_8 : decode cJ2_remove 8 = .ok (.pop, 1) := dk_87 (dk_at dksJ2_remove_0 8 rfl rfl)
theorem dJ2_remove_9 : decode cJ2_remove 9 = .ok (.aload_n 0, 1) := dk_42 (dk_at dksJ2_remove_0 9 rfl rfl)
theorem dJ2_remove_10 : decode cJ2_remove 10 = .ok (.getfield 9, 3) := dk_180 0 9 (dk_at dksJ2_remove_0 10 rfl rfl)
theorem dJ2_remove_13 : decode cJ2_remove 13 = .ok (.astore_n 2, 1) := dk_77 (dk_at dksJ2_remove_0 13 rfl rfl)
theorem dJ2_remove_14 : decode cJ2_remove 14 = .ok (.aload_n 2, 1) := dk_44 (dk_at dksJ2_remove_0 14 rfl rfl)
theorem dJ2_remove_15 : decode cJ2_remove 15 = .ok (.iload_n 1, 1) := dk_27 (dk_at dksJ2_remove_0 15 rfl rfl)
theorem dJ2_remove_16 : decode cJ2_remove 16 = .ok (.aaload, 1) := dk_50 (dk_at dksJ2_remove_0 16 rfl rfl)
theorem dJ2_remove_17 : decode cJ2_remove 17 = .ok (.astore_n 3, 1) := dk_78 (dk_at dksJ2_remove_0 17 rfl rfl)
theorem dJ2_remove_18 : decode cJ2_remove 18 = .ok (.aload_n 0, 1) := dk_42 (dk_at dksJ2_remove_0 18 rfl rfl)
theorem dJ2_remove_19 : decode cJ2_remove 19 = .ok (.aload_n 2, 1) := dk_44 (dk_at dksJ2_remove_0 19 rfl rfl)
theorem dJ2_remove_20 : decode cJ2_remove 20 = .ok (.iload_n 1, 1) := dk_27 (dk_at dksJ2_remove_0 20 rfl rfl)
theorem dJ2_remove_21 : decode cJ2_remove 21 = .ok (.invokevirtual 144, 3) := dk_182 0 144 (dk_at dksJ2_remove_0 21 rfl rfl)
theorem dJ2_remove_24 : decode cJ2_remove 24 = .ok (.aload_n 3, 1) := dk_45 (dk_at dksJ2_remove_1 0 rfl rfl)
theorem dJ2_remove_25 : decode cJ2_remove 25 = .ok (.areturn, 1) := dk_176 (dk_at dksJ2_remove_1 1 rfl rfl)
abbrev cJ2_fastRemove : ByteArray := prog_51_method_39_code
def yJ2_fastRemove : MethodName := ⟨RJ2, "fastRemove", "([Ljava/lang/Object;I)V"⟩
def dkwJ2_fastRemove_1 : List UInt8 := [4, 96, 43, 28, 29, 28, 100, 184, 0, 112, 43, 42, 29, 90, 181, 0, 48, 1, 83, 177]
abbrev dktJ2_fastRemove_1 : List UInt8 := dkwJ2_fastRemove_1 ++ []
def dkwJ2_fastRemove_0 : List UInt8 := [42, 89, 180, 0, 63, 4, 96, 181, 0, 63, 42, 180, 0, 48, 4, 100, 89, 62, 28, 164, 0, 15, 43, 28]
abbrev dktJ2_fastRemove_0 : List UInt8 := dkwJ2_fastRemove_0 ++ dktJ2_fastRemove_1
theorem dksJ2_fastRemove_0 : cJ2_fastRemove.data.toList.drop 0 = dktJ2_fastRemove_0 := by decide +kernel
theorem dksJ2_fastRemove_1 : cJ2_fastRemove.data.toList.drop 24 = dktJ2_fastRemove_1 := dk_seg dksJ2_fastRemove_0 24 rfl rfl
theorem dJ2_fastRemove_0 : decode cJ2_fastRemove 0 = .ok (.aload_n 0, 1) := dk_42 (dk_at dksJ2_fastRemove_0 0 rfl rfl)
theorem dJ2_fastRemove_1 : decode cJ2_fastRemove 1 = .ok (.dup, 1) := dk_89 (dk_at dksJ2_fastRemove_0 1 rfl rfl)
theorem dJ2_fastRemove_2 : decode cJ2_fastRemove 2 = .ok (.getfield 63, 3) := dk_180 0 63 (dk_at dksJ2_fastRemove_0 2 rfl rfl)
theorem dJ2_fastRemove_5 : decode cJ2_fastRemove 5 = .ok (.iconst 1, 1) := dk_4 (dk_at dksJ2_fastRemove_0 5 rfl rfl)
theorem dJ2_fastRemove_6 : decode cJ2_fastRemove 6 = .ok (.iadd, 1) := dk_96 (dk_at dksJ2_fastRemove_0 6 rfl rfl)
theorem dJ2_fastRemove_7 : decode cJ2_fastRemove 7 = .ok (.putfield 63, 3) := dk_181 0 63 (dk_at dksJ2_fastRemove_0 7 rfl rfl)
theorem dJ2_fastRemove_10 : decode cJ2_fastRemove 10 = .ok (.aload_n 0, 1) := dk_42 (dk_at dksJ2_fastRemove_0 10 rfl rfl)
theorem dJ2_fastRemove_11 : decode cJ2_fastRemove 11 = .ok (.getfield 48, 3) := dk_180 0 48 (dk_at dksJ2_fastRemove_0 11 rfl rfl)
theorem dJ2_fastRemove_14 : decode cJ2_fastRemove 14 = .ok (.iconst 1, 1) := dk_4 (dk_at dksJ2_fastRemove_0 14 rfl rfl)
theorem dJ2_fastRemove_15 : decode cJ2_fastRemove 15 = .ok (.isub, 1) := dk_100 (dk_at dksJ2_fastRemove_0 15 rfl rfl)
theorem dJ2_fastRemove_16 : decode cJ2_fastRemove 16 = .ok (.dup, 1) := dk_89 (dk_at dksJ2_fastRemove_0 16 rfl rfl)
theorem dJ2_fastRemove_17 : decode cJ2_fastRemove 17 = .ok (.istore_n 3, 1) := dk_62 (dk_at dksJ2_fastRemove_0 17 rfl rfl)
theorem dJ2_fastRemove_18 : decode cJ2_fastRemove 18 = .ok (.iload_n 2, 1) := dk_28 (dk_at dksJ2_fastRemove_0 18 rfl rfl)
theorem dJ2_fastRemove_19 : decode cJ2_fastRemove 19 = .ok (.if_icmp .le 15, 3) := dk_164 0 15 (dk_at dksJ2_fastRemove_0 19 rfl rfl)
theorem dJ2_fastRemove_22 : decode cJ2_fastRemove 22 = .ok (.aload_n 1, 1) := dk_43 (dk_at dksJ2_fastRemove_0 22 rfl rfl)
theorem dJ2_fastRemove_23 : decode cJ2_fastRemove 23 = .ok (.iload_n 2, 1) := dk_28 (dk_at dksJ2_fastRemove_0 23 rfl rfl)
theorem dJ2_fastRemove_24 : decode cJ2_fastRemove 24 = .ok (.iconst 1, 1) := dk_4 (dk_at dksJ2_fastRemove_1 0 rfl rfl)
theorem dJ2_fastRemove_25 : decode cJ2_fastRemove 25 = .ok (.iadd, 1) := dk_96 (dk_at dksJ2_fastRemove_1 1 rfl rfl)
theorem dJ2_fastRemove_26 : decode cJ2_fastRemove 26 = .ok (.aload_n 1, 1) := dk_43 (dk_at dksJ2_fastRemove_1 2 rfl rfl)
theorem dJ2_fastRemove_27 : decode cJ2_fastRemove 27 = .ok (.iload_n 2, 1) := dk_28 (dk_at dksJ2_fastRemove_1 3 rfl rfl)
theorem dJ2_fastRemove_28 : decode cJ2_fastRemove 28 = .ok (.iload_n 3, 1) := dk_29 (dk_at dksJ2_fastRemove_1 4 rfl rfl)
theorem dJ2_fastRemove_29 : decode cJ2_fastRemove 29 = .ok (.iload_n 2, 1) := dk_28 (dk_at dksJ2_fastRemove_1 5 rfl rfl)
theorem dJ2_fastRemove_30 : decode cJ2_fastRemove 30 = .ok (.isub, 1) := dk_100 (dk_at dksJ2_fastRemove_1 6 rfl rfl)
theorem dJ2_fastRemove_31 : decode cJ2_fastRemove 31 = .ok (.invokestatic 112, 3) := dk_184 0 112 (dk_at dksJ2_fastRemove_1 7 rfl rfl)
theorem dJ2_fastRemove_34 : decode cJ2_fastRemove 34 = .ok (.aload_n 1, 1) := dk_43 (dk_at dksJ2_fastRemove_1 10 rfl rfl)
theorem dJ2_fastRemove_35 : decode cJ2_fastRemove 35 = .ok (.aload_n 0, 1) := dk_42 (dk_at dksJ2_fastRemove_1 11 rfl rfl)
theorem dJ2_fastRemove_36 : decode cJ2_fastRemove 36 = .ok (.iload_n 3, 1) := dk_29 (dk_at dksJ2_fastRemove_1 12 rfl rfl)
theorem dJ2_fastRemove_37 : decode cJ2_fastRemove 37 = .ok (.dup_x1, 1) := dk_90 (dk_at dksJ2_fastRemove_1 13 rfl rfl)
theorem dJ2_fastRemove_38 : decode cJ2_fastRemove 38 = .ok (.putfield 48, 3) := dk_181 0 48 (dk_at dksJ2_fastRemove_1 14 rfl rfl)
theorem dJ2_fastRemove_41 : decode cJ2_fastRemove 41 = .ok (.aconst_null, 1) := dk_1 (dk_at dksJ2_fastRemove_1 17 rfl rfl)
theorem dJ2_fastRemove_42 : decode cJ2_fastRemove 42 = .ok (.aastore, 1) := dk_83 (dk_at dksJ2_fastRemove_1 18 rfl rfl)
theorem dJ2_fastRemove_43 : decode cJ2_fastRemove 43 = .ok (.return_, 1) := dk_177 (dk_at dksJ2_fastRemove_1 19 rfl rfl)
abbrev cJ2_clear : ByteArray := prog_51_method_40_code
def yJ2_clear : MethodName := ⟨RJ2, "clear", "()V"⟩
def dkwJ2_clear_1 : List UInt8 := [181, 0, 48, 62, 29, 28, 162, 0, 13, 43, 29, 1, 83, 132, 3, 1, 167, 255, 244, 177]
abbrev dktJ2_clear_1 : List UInt8 := dkwJ2_clear_1 ++ []
def dkwJ2_clear_0 : List UInt8 := [42, 89, 180, 0, 63, 4, 96, 181, 0, 63, 42, 180, 0, 9, 76, 42, 180, 0, 48, 61, 42, 3, 90]
abbrev dktJ2_clear_0 : List UInt8 := dkwJ2_clear_0 ++ dktJ2_clear_1
theorem dksJ2_clear_0 : cJ2_clear.data.toList.drop 0 = dktJ2_clear_0 := by decide +kernel
theorem dksJ2_clear_1 : cJ2_clear.data.toList.drop 23 = dktJ2_clear_1 := dk_seg dksJ2_clear_0 23 rfl rfl
theorem dJ2_clear_0 : decode cJ2_clear 0 = .ok (.aload_n 0, 1) := dk_42 (dk_at dksJ2_clear_0 0 rfl rfl)
theorem dJ2_clear_1 : decode cJ2_clear 1 = .ok (.dup, 1) := dk_89 (dk_at dksJ2_clear_0 1 rfl rfl)
theorem dJ2_clear_2 : decode cJ2_clear 2 = .ok (.getfield 63, 3) := dk_180 0 63 (dk_at dksJ2_clear_0 2 rfl rfl)
theorem dJ2_clear_5 : decode cJ2_clear 5 = .ok (.iconst 1, 1) := dk_4 (dk_at dksJ2_clear_0 5 rfl rfl)
theorem dJ2_clear_6 : decode cJ2_clear 6 = .ok (.iadd, 1) := dk_96 (dk_at dksJ2_clear_0 6 rfl rfl)
theorem dJ2_clear_7 : decode cJ2_clear 7 = .ok (.putfield 63, 3) := dk_181 0 63 (dk_at dksJ2_clear_0 7 rfl rfl)
theorem dJ2_clear_10 : decode cJ2_clear 10 = .ok (.aload_n 0, 1) := dk_42 (dk_at dksJ2_clear_0 10 rfl rfl)
theorem dJ2_clear_11 : decode cJ2_clear 11 = .ok (.getfield 9, 3) := dk_180 0 9 (dk_at dksJ2_clear_0 11 rfl rfl)
theorem dJ2_clear_14 : decode cJ2_clear 14 = .ok (.astore_n 1, 1) := dk_76 (dk_at dksJ2_clear_0 14 rfl rfl)
theorem dJ2_clear_15 : decode cJ2_clear 15 = .ok (.aload_n 0, 1) := dk_42 (dk_at dksJ2_clear_0 15 rfl rfl)
theorem dJ2_clear_16 : decode cJ2_clear 16 = .ok (.getfield 48, 3) := dk_180 0 48 (dk_at dksJ2_clear_0 16 rfl rfl)
theorem dJ2_clear_19 : decode cJ2_clear 19 = .ok (.istore_n 2, 1) := dk_61 (dk_at dksJ2_clear_0 19 rfl rfl)
theorem dJ2_clear_20 : decode cJ2_clear 20 = .ok (.aload_n 0, 1) := dk_42 (dk_at dksJ2_clear_0 20 rfl rfl)
theorem dJ2_clear_21 : decode cJ2_clear 21 = .ok (.iconst 0, 1) := dk_3 (dk_at dksJ2_clear_0 21 rfl rfl)
theorem dJ2_clear_22 : decode cJ2_clear 22 = .ok (.dup_x1, 1) := dk_90 (dk_at dksJ2_clear_0 22 rfl rfl)
theorem dJ2_clear_23 : decode cJ2_clear 23 = .ok (.putfield 48, 3) := dk_181 0 48 (dk_at dksJ2_clear_1 0 rfl rfl)
theorem dJ2_clear_26 : decode cJ2_clear 26 = .ok (.istore_n 3, 1) := dk_62 (dk_at dksJ2_clear_1 3 rfl rfl)
theorem dJ2_clear_27 : decode cJ2_clear 27 = .ok (.iload_n 3, 1) := dk_29 (dk_at dksJ2_clear_1 4 rfl rfl)
theorem dJ2_clear_28 : decode cJ2_clear 28 = .ok (.iload_n 2, 1) := dk_28 (dk_at dksJ2_clear_1 5 rfl rfl)
theorem dJ2_clear_29 : decode cJ2_clear 29 = .ok (.if_icmp .ge 13, 3) := dk_162 0 13 (dk_at dksJ2_clear_1 6 rfl rfl)
theorem dJ2_clear_32 : decode cJ2_clear 32 = .ok (.aload_n 1, 1) := dk_43 (dk_at dksJ2_clear_1 9 rfl rfl)
theorem dJ2_clear_33 : decode cJ2_clear 33 = .ok (.iload_n 3, 1) := dk_29 (dk_at dksJ2_clear_1 10 rfl rfl)
theorem dJ2_clear_34 : decode cJ2_clear 34 = .ok (.aconst_null, 1) := dk_1 (dk_at dksJ2_clear_1 11 rfl rfl)
theorem dJ2_clear_35 : decode cJ2_clear 35 = .ok (.aastore, 1) := dk_83 (dk_at dksJ2_clear_1 12 rfl rfl)
theorem dJ2_clear_36 : decode cJ2_clear 36 = .ok (.iinc 3 1, 3) := dk_132 3 1 (dk_at dksJ2_clear_1 13 rfl rfl)
theorem dJ2_clear_39 : decode cJ2_clear 39 = .ok (.goto (-12), 3) := dk_167 255 244 (dk_at dksJ2_clear_1 16 rfl rfl)
theorem dJ2_clear_42 : decode cJ2_clear 42 = .ok (.return_, 1) := dk_177 (dk_at dksJ2_clear_1 19 rfl rfl)
abbrev cJ2_iterator : ByteArray := prog_51_method_55_code
def yJ2_iterator : MethodName := ⟨RJ2, "iterator", "()Ljava/util/Iterator;"⟩
def dkwJ2_iterator_0 : List UInt8 := [187, 1, 11, 89, 42, 183, 1, 13, 176]
abbrev dktJ2_iterator_0 : List UInt8 := dkwJ2_iterator_0 ++ []
theorem dksJ2_iterator_0 : cJ2_iterator.data.toList.drop 0 = dktJ2_iterator_0 := by decide +kernel
theorem dJ2_iterator_0 : decode cJ2_iterator 0 = .ok (.new 267, 3) := dk_187 1 11 (dk_at dksJ2_iterator_0 0 rfl rfl)
theorem dJ2_iterator_3 : decode cJ2_iterator 3 = .ok (.dup, 1) := dk_89 (dk_at dksJ2_iterator_0 3 rfl rfl)
theorem dJ2_iterator_4 : decode cJ2_iterator 4 = .ok (.aload_n 0, 1) := dk_42 (dk_at dksJ2_iterator_0 4 rfl rfl)
theorem dJ2_iterator_5 : decode cJ2_iterator 5 = .ok (.invokespecial 269, 3) := dk_183 1 13 (dk_at dksJ2_iterator_0 5 rfl rfl)
theorem dJ2_iterator_8 : decode cJ2_iterator 8 = .ok (.areturn, 1) := dk_176 (dk_at dksJ2_iterator_0 8 rfl rfl)
abbrev cJ2_add_3 : ByteArray := prog_51_method_26_code
def yJ2_add_3 : MethodName := ⟨RJ2, "add", "(ILjava/lang/Object;)V"⟩
def dkwJ2_add_3_2 : List UInt8 := [29, 27, 100, 184, 0, 112, 25, 4, 27, 44, 83, 42, 29, 4, 96, 181, 0, 48, 177]
abbrev dktJ2_add_3_2 : List UInt8 := dkwJ2_add_3_2 ++ []
def dkwJ2_add_3_1 : List UInt8 := [180, 0, 9, 89, 58, 4, 190, 160, 0, 9, 42, 182, 0, 129, 58, 4, 25, 4, 27, 25, 4, 27, 4, 96]
abbrev dktJ2_add_3_1 : List UInt8 := dkwJ2_add_3_1 ++ dktJ2_add_3_2
def dkwJ2_add_3_0 : List UInt8 := [42, 27, 182, 0, 135, 42, 89, 180, 0, 63, 4, 96, 181, 0, 63, 42, 180, 0, 48, 89, 62, 42]
abbrev dktJ2_add_3_0 : List UInt8 := dkwJ2_add_3_0 ++ dktJ2_add_3_1
theorem dksJ2_add_3_0 : cJ2_add_3.data.toList.drop 0 = dktJ2_add_3_0 := by decide +kernel
theorem dksJ2_add_3_1 : cJ2_add_3.data.toList.drop 22 = dktJ2_add_3_1 := dk_seg dksJ2_add_3_0 22 rfl rfl
theorem dksJ2_add_3_2 : cJ2_add_3.data.toList.drop 46 = dktJ2_add_3_2 := dk_seg dksJ2_add_3_1 24 rfl rfl
theorem dJ2_add_3_0 : decode cJ2_add_3 0 = .ok (.aload_n 0, 1) := dk_42 (dk_at dksJ2_add_3_0 0 rfl rfl)
theorem dJ2_add_3_1 : decode cJ2_add_3 1 = .ok (.iload_n 1, 1) := dk_27 (dk_at dksJ2_add_3_0 1 rfl rfl)
theorem dJ2_add_3_2 : decode cJ2_add_3 2 = .ok (.invokevirtual 135, 3) := dk_182 0 135 (dk_at dksJ2_add_3_0 2 rfl rfl)
theorem dJ2_add_3_5 : decode cJ2_add_3 5 = .ok (.aload_n 0, 1) := dk_42 (dk_at dksJ2_add_3_0 5 rfl rfl)
theorem dJ2_add_3_6 : decode cJ2_add_3 6 = .ok (.dup, 1) := dk_89 (dk_at dksJ2_add_3_0 6 rfl rfl)
theorem dJ2_add_3_7 : decode cJ2_add_3 7 = .ok (.getfield 63, 3) := dk_180 0 63 (dk_at dksJ2_add_3_0 7 rfl rfl)
theorem dJ2_add_3_10 : decode cJ2_add_3 10 = .ok (.iconst 1, 1) := dk_4 (dk_at dksJ2_add_3_0 10 rfl rfl)
theorem dJ2_add_3_11 : decode cJ2_add_3 11 = .ok (.iadd, 1) := dk_96 (dk_at dksJ2_add_3_0 11 rfl rfl)
theorem dJ2_add_3_12 : decode cJ2_add_3 12 = .ok (.putfield 63, 3) := dk_181 0 63 (dk_at dksJ2_add_3_0 12 rfl rfl)
theorem dJ2_add_3_15 : decode cJ2_add_3 15 = .ok (.aload_n 0, 1) := dk_42 (dk_at dksJ2_add_3_0 15 rfl rfl)
theorem dJ2_add_3_16 : decode cJ2_add_3 16 = .ok (.getfield 48, 3) := dk_180 0 48 (dk_at dksJ2_add_3_0 16 rfl rfl)
theorem dJ2_add_3_19 : decode cJ2_add_3 19 = .ok (.dup, 1) := dk_89 (dk_at dksJ2_add_3_0 19 rfl rfl)
theorem dJ2_add_3_20 : decode cJ2_add_3 20 = .ok (.istore_n 3, 1) := dk_62 (dk_at dksJ2_add_3_0 20 rfl rfl)
theorem dJ2_add_3_21 : decode cJ2_add_3 21 = .ok (.aload_n 0, 1) := dk_42 (dk_at dksJ2_add_3_0 21 rfl rfl)
theorem dJ2_add_3_22 : decode cJ2_add_3 22 = .ok (.getfield 9, 3) := dk_180 0 9 (dk_at dksJ2_add_3_1 0 rfl rfl)
theorem dJ2_add_3_25 : decode cJ2_add_3 25 = .ok (.dup, 1) := dk_89 (dk_at dksJ2_add_3_1 3 rfl rfl)
theorem dJ2_add_3_26 : decode cJ2_add_3 26 = .ok (.astore 4, 2) := dk_58 4 (dk_at dksJ2_add_3_1 4 rfl rfl)
theorem dJ2_add_3_28 : decode cJ2_add_3 28 = .ok (.arraylength, 1) := dk_190 (dk_at dksJ2_add_3_1 6 rfl rfl)
theorem dJ2_add_3_29 : decode cJ2_add_3 29 = .ok (.if_icmp .ne 9, 3) := dk_160 0 9 (dk_at dksJ2_add_3_1 7 rfl rfl)
theorem dJ2_add_3_32 : decode cJ2_add_3 32 = .ok (.aload_n 0, 1) := dk_42 (dk_at dksJ2_add_3_1 10 rfl rfl)
theorem dJ2_add_3_33 : decode cJ2_add_3 33 = .ok (.invokevirtual 129, 3) := dk_182 0 129 (dk_at dksJ2_add_3_1 11 rfl rfl)
theorem dJ2_add_3_36 : decode cJ2_add_3 36 = .ok (.astore 4, 2) := dk_58 4 (dk_at dksJ2_add_3_1 14 rfl rfl)
theorem dJ2_add_3_38 : decode cJ2_add_3 38 = .ok (.aload 4, 2) := dk_25 4 (dk_at dksJ2_add_3_1 16 rfl rfl)
theorem dJ2_add_3_40 : decode cJ2_add_3 40 = .ok (.iload_n 1, 1) := dk_27 (dk_at dksJ2_add_3_1 18 rfl rfl)
theorem dJ2_add_3_41 : decode cJ2_add_3 41 = .ok (.aload 4, 2) := dk_25 4 (dk_at dksJ2_add_3_1 19 rfl rfl)
theorem dJ2_add_3_43 : decode cJ2_add_3 43 = .ok (.iload_n 1, 1) := dk_27 (dk_at dksJ2_add_3_1 21 rfl rfl)
theorem dJ2_add_3_44 : decode cJ2_add_3 44 = .ok (.iconst 1, 1) := dk_4 (dk_at dksJ2_add_3_1 22 rfl rfl)
theorem dJ2_add_3_45 : decode cJ2_add_3 45 = .ok (.iadd, 1) := dk_96 (dk_at dksJ2_add_3_1 23 rfl rfl)
theorem dJ2_add_3_46 : decode cJ2_add_3 46 = .ok (.iload_n 3, 1) := dk_29 (dk_at dksJ2_add_3_2 0 rfl rfl)
theorem dJ2_add_3_47 : decode cJ2_add_3 47 = .ok (.iload_n 1, 1) := dk_27 (dk_at dksJ2_add_3_2 1 rfl rfl)
theorem dJ2_add_3_48 : decode cJ2_add_3 48 = .ok (.isub, 1) := dk_100 (dk_at dksJ2_add_3_2 2 rfl rfl)
theorem dJ2_add_3_49 : decode cJ2_add_3 49 = .ok (.invokestatic 112, 3) := dk_184 0 112 (dk_at dksJ2_add_3_2 3 rfl rfl)
theorem dJ2_add_3_52 : decode cJ2_add_3 52 = .ok (.aload 4, 2) := dk_25 4 (dk_at dksJ2_add_3_2 6 rfl rfl)
theorem dJ2_add_3_54 : decode cJ2_add_3 54 = .ok (.iload_n 1, 1) := dk_27 (dk_at dksJ2_add_3_2 8 rfl rfl)
theorem dJ2_add_3_55 : decode cJ2_add_3 55 = .ok (.aload_n 2, 1) := dk_44 (dk_at dksJ2_add_3_2 9 rfl rfl)
theorem dJ2_add_3_56 : decode cJ2_add_3 56 = .ok (.aastore, 1) := dk_83 (dk_at dksJ2_add_3_2 10 rfl rfl)
theorem dJ2_add_3_57 : decode cJ2_add_3 57 = .ok (.aload_n 0, 1) := dk_42 (dk_at dksJ2_add_3_2 11 rfl rfl)
theorem dJ2_add_3_58 : decode cJ2_add_3 58 = .ok (.iload_n 3, 1) := dk_29 (dk_at dksJ2_add_3_2 12 rfl rfl)
theorem dJ2_add_3_59 : decode cJ2_add_3 59 = .ok (.iconst 1, 1) := dk_4 (dk_at dksJ2_add_3_2 13 rfl rfl)
theorem dJ2_add_3_60 : decode cJ2_add_3 60 = .ok (.iadd, 1) := dk_96 (dk_at dksJ2_add_3_2 14 rfl rfl)
theorem dJ2_add_3_61 : decode cJ2_add_3 61 = .ok (.putfield 48, 3) := dk_181 0 48 (dk_at dksJ2_add_3_2 15 rfl rfl)
theorem dJ2_add_3_64 : decode cJ2_add_3 64 = .ok (.return_, 1) := dk_177 (dk_at dksJ2_add_3_2 18 rfl rfl)
abbrev cJ2_rangeCheckForAdd : ByteArray := prog_51_method_45_code
def yJ2_rangeCheckForAdd : MethodName := ⟨RJ2, "rangeCheckForAdd", "(I)V"⟩
def dkwJ2_rangeCheckForAdd_1 : List UInt8 := [191, 177]
abbrev dktJ2_rangeCheckForAdd_1 : List UInt8 := dkwJ2_rangeCheckForAdd_1 ++ []
def dkwJ2_rangeCheckForAdd_0 : List UInt8 := [27, 42, 180, 0, 48, 163, 0, 7, 27, 156, 0, 16, 187, 0, 187, 89, 42, 27, 182, 0, 198, 183, 0, 193]
abbrev dktJ2_rangeCheckForAdd_0 : List UInt8 := dkwJ2_rangeCheckForAdd_0 ++ dktJ2_rangeCheckForAdd_1
theorem dksJ2_rangeCheckForAdd_0 : cJ2_rangeCheckForAdd.data.toList.drop 0 = dktJ2_rangeCheckForAdd_0 := by decide +kernel
theorem dksJ2_rangeCheckForAdd_1 : cJ2_rangeCheckForAdd.data.toList.drop 24 = dktJ2_rangeCheckForAdd_1 := dk_seg dksJ2_rangeCheckForAdd_0 24 rfl rfl
theorem dJ2_rangeCheckForAdd_0 : decode cJ2_rangeCheckForAdd 0 = .ok (.iload_n 1, 1) := dk_27 (dk_at dksJ2_rangeCheckForAdd_0 0 rfl rfl)
theorem dJ2_rangeCheckForAdd_1 : decode cJ2_rangeCheckForAdd 1 = .ok (.aload_n 0, 1) := dk_42 (dk_at dksJ2_rangeCheckForAdd_0 1 rfl rfl)
theorem dJ2_rangeCheckForAdd_2 : decode cJ2_rangeCheckForAdd 2 = .ok (.getfield 48, 3) := dk_180 0 48 (dk_at dksJ2_rangeCheckForAdd_0 2 rfl rfl)
theorem dJ2_rangeCheckForAdd_5 : decode cJ2_rangeCheckForAdd 5 = .ok (.if_icmp .gt 7, 3) := dk_163 0 7 (dk_at dksJ2_rangeCheckForAdd_0 5 rfl rfl)
theorem dJ2_rangeCheckForAdd_8 : decode cJ2_rangeCheckForAdd 8 = .ok (.iload_n 1, 1) := dk_27 (dk_at dksJ2_rangeCheckForAdd_0 8 rfl rfl)
theorem dJ2_rangeCheckForAdd_9 : decode cJ2_rangeCheckForAdd 9 = .ok (.ifCond .ge 16, 3) := dk_156 0 16 (dk_at dksJ2_rangeCheckForAdd_0 9 rfl rfl)
theorem dJ2_rangeCheckForAdd_12 : decode cJ2_rangeCheckForAdd 12 = .ok (.new 187, 3) := dk_187 0 187 (dk_at dksJ2_rangeCheckForAdd_0 12 rfl rfl)
theorem dJ2_rangeCheckForAdd_15 : decode cJ2_rangeCheckForAdd 15 = .ok (.dup, 1) := dk_89 (dk_at dksJ2_rangeCheckForAdd_0 15 rfl rfl)
theorem dJ2_rangeCheckForAdd_16 : decode cJ2_rangeCheckForAdd 16 = .ok (.aload_n 0, 1) := dk_42 (dk_at dksJ2_rangeCheckForAdd_0 16 rfl rfl)
theorem dJ2_rangeCheckForAdd_17 : decode cJ2_rangeCheckForAdd 17 = .ok (.iload_n 1, 1) := dk_27 (dk_at dksJ2_rangeCheckForAdd_0 17 rfl rfl)
theorem dJ2_rangeCheckForAdd_18 : decode cJ2_rangeCheckForAdd 18 = .ok (.invokevirtual 198, 3) := dk_182 0 198 (dk_at dksJ2_rangeCheckForAdd_0 18 rfl rfl)
theorem dJ2_rangeCheckForAdd_21 : decode cJ2_rangeCheckForAdd 21 = .ok (.invokespecial 193, 3) := dk_183 0 193 (dk_at dksJ2_rangeCheckForAdd_0 21 rfl rfl)
theorem dJ2_rangeCheckForAdd_24 : decode cJ2_rangeCheckForAdd 24 = .ok (.athrow, 1) := dk_191 (dk_at dksJ2_rangeCheckForAdd_1 0 rfl rfl)
theorem dJ2_rangeCheckForAdd_25 : decode cJ2_rangeCheckForAdd 25 = .ok (.return_, 1) := dk_177 (dk_at dksJ2_rangeCheckForAdd_1 1 rfl rfl)
abbrev cJ2_addAll : ByteArray := prog_51_method_41_code
def yJ2_addAll : MethodName := ⟨RJ2, "addAll", "(Ljava/util/Collection;)Z"⟩
def dkwJ2_addAll_3 : List UInt8 := [181, 0, 48, 4, 172]
abbrev dktJ2_addAll_3 : List UInt8 := dkwJ2_addAll_3 ++ []
def dkwJ2_addAll_2 : List UInt8 := [21, 5, 29, 96, 182, 0, 69, 58, 4, 44, 3, 25, 4, 21, 5, 29, 184, 0, 112, 42, 21, 5, 29, 96]
abbrev dktJ2_addAll_2 : List UInt8 := dkwJ2_addAll_2 ++ dktJ2_addAll_3
def dkwJ2_addAll_1 : List UInt8 := [3, 172, 29, 42, 180, 0, 9, 89, 58, 4, 190, 42, 180, 0, 48, 89, 54, 5, 100, 164, 0, 13, 42]
abbrev dktJ2_addAll_1 : List UInt8 := dkwJ2_addAll_1 ++ dktJ2_addAll_2
def dkwJ2_addAll_0 : List UInt8 := [43, 185, 0, 42, 1, 0, 77, 42, 89, 180, 0, 63, 4, 96, 181, 0, 63, 44, 190, 62, 29, 154, 0, 5]
abbrev dktJ2_addAll_0 : List UInt8 := dkwJ2_addAll_0 ++ dktJ2_addAll_1
theorem dksJ2_addAll_0 : cJ2_addAll.data.toList.drop 0 = dktJ2_addAll_0 := by decide +kernel
theorem dksJ2_addAll_1 : cJ2_addAll.data.toList.drop 24 = dktJ2_addAll_1 := dk_seg dksJ2_addAll_0 24 rfl rfl
theorem dksJ2_addAll_2 : cJ2_addAll.data.toList.drop 47 = dktJ2_addAll_2 := dk_seg dksJ2_addAll_1 23 rfl rfl
theorem dksJ2_addAll_3 : cJ2_addAll.data.toList.drop 71 = dktJ2_addAll_3 := dk_seg dksJ2_addAll_2 24 rfl rfl
theorem dJ2_addAll_0 : decode cJ2_addAll 0 = .ok (.aload_n 1, 1) := dk_43 (dk_at dksJ2_addAll_0 0 rfl rfl)
theorem dJ2_addAll_1 : decode cJ2_addAll 1 = .ok (.invokeinterface 42 1, 5) := by decide +kernel
theorem dJ2_addAll_6 : decode cJ2_addAll 6 = .ok (.astore_n 2, 1) := dk_77 (dk_at dksJ2_addAll_0 6 rfl rfl)
theorem dJ2_addAll_7 : decode cJ2_addAll 7 = .ok (.aload_n 0, 1) := dk_42 (dk_at dksJ2_addAll_0 7 rfl rfl)
theorem dJ2_addAll_8 : decode cJ2_addAll 8 = .ok (.dup, 1) := dk_89 (dk_at dksJ2_addAll_0 8 rfl rfl)
theorem dJ2_addAll_9 : decode cJ2_addAll 9 = .ok (.getfield 63, 3) := dk_180 0 63 (dk_at dksJ2_addAll_0 9 rfl rfl)
theorem dJ2_addAll_12 : decode cJ2_addAll 12 = .ok (.iconst 1, 1) := dk_4 (dk_at dksJ2_addAll_0 12 rfl rfl)
theorem dJ2_addAll_13 : decode cJ2_addAll 13 = .ok (.iadd, 1) := dk_96 (dk_at dksJ2_addAll_0 13 rfl rfl)
theorem dJ2_addAll_14 : decode cJ2_addAll 14 = .ok (.putfield 63, 3) := dk_181 0 63 (dk_at dksJ2_addAll_0 14 rfl rfl)
theorem dJ2_addAll_17 : decode cJ2_addAll 17 = .ok (.aload_n 2, 1) := dk_44 (dk_at dksJ2_addAll_0 17 rfl rfl)
theorem dJ2_addAll_18 : decode cJ2_addAll 18 = .ok (.arraylength, 1) := dk_190 (dk_at dksJ2_addAll_0 18 rfl rfl)
theorem dJ2_addAll_19 : decode cJ2_addAll 19 = .ok (.istore_n 3, 1) := dk_62 (dk_at dksJ2_addAll_0 19 rfl rfl)
theorem dJ2_addAll_20 : decode cJ2_addAll 20 = .ok (.iload_n 3, 1) := dk_29 (dk_at dksJ2_addAll_0 20 rfl rfl)
theorem dJ2_addAll_21 : decode cJ2_addAll 21 = .ok (.ifCond .ne 5, 3) := dk_154 0 5 (dk_at dksJ2_addAll_0 21 rfl rfl)
theorem dJ2_addAll_24 : decode cJ2_addAll 24 = .ok (.iconst 0, 1) := dk_3 (dk_at dksJ2_addAll_1 0 rfl rfl)
theorem dJ2_addAll_25 : decode cJ2_addAll 25 = .ok (.ireturn, 1) := dk_172 (dk_at dksJ2_addAll_1 1 rfl rfl)
theorem dJ2_addAll_26 : decode cJ2_addAll 26 = .ok (.iload_n 3, 1) := dk_29 (dk_at dksJ2_addAll_1 2 rfl rfl)
theorem dJ2_addAll_27 : decode cJ2_addAll 27 = .ok (.aload_n 0, 1) := dk_42 (dk_at dksJ2_addAll_1 3 rfl rfl)
theorem dJ2_addAll_28 : decode cJ2_addAll 28 = .ok (.getfield 9, 3) := dk_180 0 9 (dk_at dksJ2_addAll_1 4 rfl rfl)
theorem dJ2_addAll_31 : decode cJ2_addAll 31 = .ok (.dup, 1) := dk_89 (dk_at dksJ2_addAll_1 7 rfl rfl)
theorem dJ2_addAll_32 : decode cJ2_addAll 32 = .ok (.astore 4, 2) := dk_58 4 (dk_at dksJ2_addAll_1 8 rfl rfl)
theorem dJ2_addAll_34 : decode cJ2_addAll 34 = .ok (.arraylength, 1) := dk_190 (dk_at dksJ2_addAll_1 10 rfl rfl)
theorem dJ2_addAll_35 : decode cJ2_addAll 35 = .ok (.aload_n 0, 1) := dk_42 (dk_at dksJ2_addAll_1 11 rfl rfl)
theorem dJ2_addAll_36 : decode cJ2_addAll 36 = .ok (.getfield 48, 3) := dk_180 0 48 (dk_at dksJ2_addAll_1 12 rfl rfl)
theorem dJ2_addAll_39 : decode cJ2_addAll 39 = .ok (.dup, 1) := dk_89 (dk_at dksJ2_addAll_1 15 rfl rfl)
theorem dJ2_addAll_40 : decode cJ2_addAll 40 = .ok (.istore 5, 2) := dk_54 5 (dk_at dksJ2_addAll_1 16 rfl rfl)
theorem dJ2_addAll_42 : decode cJ2_addAll 42 = .ok (.isub, 1) := dk_100 (dk_at dksJ2_addAll_1 18 rfl rfl)
theorem dJ2_addAll_43 : decode cJ2_addAll 43 = .ok (.if_icmp .le 13, 3) := dk_164 0 13 (dk_at dksJ2_addAll_1 19 rfl rfl)
theorem dJ2_addAll_46 : decode cJ2_addAll 46 = .ok (.aload_n 0, 1) := dk_42 (dk_at dksJ2_addAll_1 22 rfl rfl)
theorem dJ2_addAll_47 : decode cJ2_addAll 47 = .ok (.iload 5, 2) := dk_21 5 (dk_at dksJ2_addAll_2 0 rfl rfl)
theorem dJ2_addAll_49 : decode cJ2_addAll 49 = .ok (.iload_n 3, 1) := dk_29 (dk_at dksJ2_addAll_2 2 rfl rfl)
theorem dJ2_addAll_50 : decode cJ2_addAll 50 = .ok (.iadd, 1) := dk_96 (dk_at dksJ2_addAll_2 3 rfl rfl)
theorem dJ2_addAll_51 : decode cJ2_addAll 51 = .ok (.invokevirtual 69, 3) := dk_182 0 69 (dk_at dksJ2_addAll_2 4 rfl rfl)
theorem dJ2_addAll_54 : decode cJ2_addAll 54 = .ok (.astore 4, 2) := dk_58 4 (dk_at dksJ2_addAll_2 7 rfl rfl)
theorem dJ2_addAll_56 : decode cJ2_addAll 56 = .ok (.aload_n 2, 1) := dk_44 (dk_at dksJ2_addAll_2 9 rfl rfl)
theorem dJ2_addAll_57 : decode cJ2_addAll 57 = .ok (.iconst 0, 1) := dk_3 (dk_at dksJ2_addAll_2 10 rfl rfl)
theorem dJ2_addAll_58 : decode cJ2_addAll 58 = .ok (.aload 4, 2) := dk_25 4 (dk_at dksJ2_addAll_2 11 rfl rfl)
theorem dJ2_addAll_60 : decode cJ2_addAll 60 = .ok (.iload 5, 2) := dk_21 5 (dk_at dksJ2_addAll_2 13 rfl rfl)
theorem dJ2_addAll_62 : decode cJ2_addAll 62 = .ok (.iload_n 3, 1) := dk_29 (dk_at dksJ2_addAll_2 15 rfl rfl)
theorem dJ2_addAll_63 : decode cJ2_addAll 63 = .ok (.invokestatic 112, 3) := dk_184 0 112 (dk_at dksJ2_addAll_2 16 rfl rfl)
theorem dJ2_addAll_66 : decode cJ2_addAll 66 = .ok (.aload_n 0, 1) := dk_42 (dk_at dksJ2_addAll_2 19 rfl rfl)
theorem dJ2_addAll_67 : decode cJ2_addAll 67 = .ok (.iload 5, 2) := dk_21 5 (dk_at dksJ2_addAll_2 20 rfl rfl)
theorem dJ2_addAll_69 : decode cJ2_addAll 69 = .ok (.iload_n 3, 1) := dk_29 (dk_at dksJ2_addAll_2 22 rfl rfl)
theorem dJ2_addAll_70 : decode cJ2_addAll 70 = .ok (.iadd, 1) := dk_96 (dk_at dksJ2_addAll_2 23 rfl rfl)
theorem dJ2_addAll_71 : decode cJ2_addAll 71 = .ok (.putfield 48, 3) := dk_181 0 48 (dk_at dksJ2_addAll_3 0 rfl rfl)
theorem dJ2_addAll_74 : decode cJ2_addAll 74 = .ok (.iconst 1, 1) := dk_4 (dk_at dksJ2_addAll_3 3 rfl rfl)
theorem dJ2_addAll_75 : decode cJ2_addAll 75 = .ok (.ireturn, 1) := dk_172 (dk_at dksJ2_addAll_3 4 rfl rfl)
abbrev cJ2_toArray : ByteArray := prog_51_method_16_code
def yJ2_toArray : MethodName := ⟨RJ2, "toArray", "()[Ljava/lang/Object;"⟩
def dkwJ2_toArray_0 : List UInt8 := [42, 180, 0, 9, 42, 180, 0, 48, 184, 0, 66, 176]
abbrev dktJ2_toArray_0 : List UInt8 := dkwJ2_toArray_0 ++ []
theorem dksJ2_toArray_0 : cJ2_toArray.data.toList.drop 0 = dktJ2_toArray_0 := by decide +kernel
theorem dJ2_toArray_0 : decode cJ2_toArray 0 = .ok (.aload_n 0, 1) := dk_42 (dk_at dksJ2_toArray_0 0 rfl rfl)
theorem dJ2_toArray_1 : decode cJ2_toArray 1 = .ok (.getfield 9, 3) := dk_180 0 9 (dk_at dksJ2_toArray_0 1 rfl rfl)
theorem dJ2_toArray_4 : decode cJ2_toArray 4 = .ok (.aload_n 0, 1) := dk_42 (dk_at dksJ2_toArray_0 4 rfl rfl)
theorem dJ2_toArray_5 : decode cJ2_toArray 5 = .ok (.getfield 48, 3) := dk_180 0 48 (dk_at dksJ2_toArray_0 5 rfl rfl)
theorem dJ2_toArray_8 : decode cJ2_toArray 8 = .ok (.invokestatic 66, 3) := dk_184 0 66 (dk_at dksJ2_toArray_0 8 rfl rfl)
theorem dJ2_toArray_11 : decode cJ2_toArray 11 = .ok (.areturn, 1) := dk_176 (dk_at dksJ2_toArray_0 11 rfl rfl)
abbrev cJ2_isEmpty : ByteArray := prog_51_method_9_code
def yJ2_isEmpty : MethodName := ⟨RJ2, "isEmpty", "()Z"⟩
def dkwJ2_isEmpty_0 : List UInt8 := [42, 180, 0, 48, 154, 0, 7, 4, 167, 0, 4, 3, 172]
abbrev dktJ2_isEmpty_0 : List UInt8 := dkwJ2_isEmpty_0 ++ []
theorem dksJ2_isEmpty_0 : cJ2_isEmpty.data.toList.drop 0 = dktJ2_isEmpty_0 := by decide +kernel
theorem dJ2_isEmpty_0 : decode cJ2_isEmpty 0 = .ok (.aload_n 0, 1) := dk_42 (dk_at dksJ2_isEmpty_0 0 rfl rfl)
theorem dJ2_isEmpty_1 : decode cJ2_isEmpty 1 = .ok (.getfield 48, 3) := dk_180 0 48 (dk_at dksJ2_isEmpty_0 1 rfl rfl)
theorem dJ2_isEmpty_4 : decode cJ2_isEmpty 4 = .ok (.ifCond .ne 7, 3) := dk_154 0 7 (dk_at dksJ2_isEmpty_0 4 rfl rfl)
theorem dJ2_isEmpty_7 : decode cJ2_isEmpty 7 = .ok (.iconst 1, 1) := dk_4 (dk_at dksJ2_isEmpty_0 7 rfl rfl)
theorem dJ2_isEmpty_8 : decode cJ2_isEmpty 8 = .ok (.goto 4, 3) := dk_167 0 4 (dk_at dksJ2_isEmpty_0 8 rfl rfl)
theorem dJ2_isEmpty_11 : decode cJ2_isEmpty 11 = .ok (.iconst 0, 1) := dk_3 (dk_at dksJ2_isEmpty_0 11 rfl rfl)
theorem dJ2_isEmpty_12 : decode cJ2_isEmpty 12 = .ok (.ireturn, 1) := dk_172 (dk_at dksJ2_isEmpty_0 12 rfl rfl)
theorem q106 : (Jvm.Cond.initialized "java/util/ArrayList") ∈ lw_all := lw_g (lw_at lw_m1 5 rfl) rfl
theorem q176 : (Jvm.Cond.instantiable "java/util/ArrayList" (3 : Nat)) ∈ lw_all := lw_g (lw_at lw_m1 75 rfl) rfl
theorem q178 : (Jvm.Cond.instanceMethod ({ cls := "java/util/ArrayList", name := "<init>", desc := "()V" } : Jvm.MethodName)) ∈ lw_all := lw_g (lw_at lw_m1 77 rfl) rfl
theorem q179 : (Jvm.Cond.code ({ cls := "java/util/ArrayList", name := "<init>", desc := "()V" } : Jvm.MethodName) prog_51_method_2_code (1 : Nat) (Option.none : Option Jvm.ClassFile.FieldType)) ∈ lw_all := lw_g (lw_at lw_m1 78 rfl) rfl
theorem q180 : (Jvm.Cond.methodLink "java/util/ArrayList" (1 : Nat) ({ cls := "java/util/AbstractList", name := "<init>", desc := "()V" } : Jvm.MethodName)) ∈ lw_all := lw_g (lw_at lw_m1 79 rfl) rfl
theorem q187 : (Jvm.Cond.fieldLink "java/util/ArrayList" (39 : Nat) "java/util/ArrayList" "DEFAULTCAPACITY_EMPTY_ELEMENTDATA" "[Ljava/lang/Object;") ∈ lw_all := lw_g (lw_at lw_m1 86 rfl) rfl
theorem q188 : (Jvm.Cond.laysStatic "java/util/ArrayList" "DEFAULTCAPACITY_EMPTY_ELEMENTDATA" "[Ljava/lang/Object;") ∈ lw_tbl := lw_at lw_m1 87 rfl
theorem q189 : (Jvm.Cond.fieldLink "java/util/ArrayList" (9 : Nat) "java/util/ArrayList" "elementData" "[Ljava/lang/Object;") ∈ lw_all := lw_g (lw_at lw_m1 88 rfl) rfl
theorem q192 : (Jvm.Cond.fieldLink "java/util/ArrayList" (48 : Nat) "java/util/ArrayList" "size" "I") ∈ lw_all := lw_g (lw_at lw_m1 91 rfl) rfl
theorem q195 : (Jvm.Cond.sameField "java/util/ArrayList" "java/util/AbstractList" "modCount" "I") ∈ lw_all := lw_g (lw_at lw_m1 94 rfl) rfl
theorem q196 : (Jvm.Cond.fieldLink "java/util/ArrayList" (63 : Nat) "java/util/ArrayList" "modCount" "I") ∈ lw_all := lw_g (lw_at lw_m1 95 rfl) rfl
theorem q197 : (Jvm.Cond.lays "java/util/ArrayList" "java/util/ArrayList" "elementData" "[Ljava/lang/Object;") ∈ lw_all := lw_g (lw_at lw_m1 96 rfl) rfl
theorem q198 : (Jvm.Cond.soleField "java/util/ArrayList" "elementData") ∈ lw_all := lw_g (lw_at lw_m1 97 rfl) rfl
theorem q199 : (Jvm.Cond.lays "java/util/ArrayList" "java/util/ArrayList" "size" "I") ∈ lw_all := lw_g (lw_at lw_m1 98 rfl) rfl
theorem q200 : (Jvm.Cond.soleField "java/util/ArrayList" "size") ∈ lw_all := lw_g (lw_at lw_m1 99 rfl) rfl
theorem q201 : (Jvm.Cond.lays "java/util/ArrayList" "java/util/AbstractList" "modCount" "I") ∈ lw_all := lw_g (lw_at lw_m1 100 rfl) rfl
theorem q203 : (Jvm.Cond.superclass "java/util/ArrayList" "java/util/AbstractList") ∈ lw_all := lw_g (lw_at lw_m1 102 rfl) rfl
theorem q252 : (Jvm.Cond.castable "java/util/ArrayList" "java/util/List") ∈ lw_tbl := lw_at lw_m1 151 rfl
theorem q253 : (Jvm.Cond.selects "java/util/ArrayList" ({ cls := "java/util/List", name := "add", desc := "(Ljava/lang/Object;)Z" } : Jvm.MethodName) ({ cls := "java/util/ArrayList", name := "add", desc := "(Ljava/lang/Object;)Z" } : Jvm.MethodName)) ∈ lw_all := lw_g (lw_at lw_m1 152 rfl) rfl
theorem q254 : (Jvm.Cond.unhidden "java/util/ArrayList" "add" "(Ljava/lang/Object;)Z") ∈ lw_tbl := lw_at lw_m1 153 rfl
theorem q255 : (Jvm.Cond.instanceMethod ({ cls := "java/util/ArrayList", name := "add", desc := "(Ljava/lang/Object;)Z" } : Jvm.MethodName)) ∈ lw_all := lw_g (lw_at lw_m1 154 rfl) rfl
theorem q256 : (Jvm.Cond.publicMethod ({ cls := "java/util/ArrayList", name := "add", desc := "(Ljava/lang/Object;)Z" } : Jvm.MethodName)) ∈ lw_tbl := lw_at lw_m1 155 rfl
theorem q257 : (Jvm.Cond.code ({ cls := "java/util/ArrayList", name := "add", desc := "(Ljava/lang/Object;)Z" } : Jvm.MethodName) prog_51_method_25_code (2 : Nat) (Option.some Jvm.ClassFile.FieldType.boolean)) ∈ lw_all := lw_g (lw_at lw_m1 156 rfl) rfl
theorem q258 : (Jvm.Cond.methodLink "java/util/ArrayList" (131 : Nat) ({ cls := "java/util/ArrayList", name := "add", desc := "(Ljava/lang/Object;[Ljava/lang/Object;I)V" } : Jvm.MethodName)) ∈ lw_all := lw_g (lw_at lw_m1 157 rfl) rfl
theorem q259 : (Jvm.Cond.privateMethod ({ cls := "java/util/ArrayList", name := "add", desc := "(Ljava/lang/Object;[Ljava/lang/Object;I)V" } : Jvm.MethodName)) ∈ lw_tbl := lw_at lw_m1 158 rfl
theorem q260 : (Jvm.Cond.instanceMethod ({ cls := "java/util/ArrayList", name := "add", desc := "(Ljava/lang/Object;[Ljava/lang/Object;I)V" } : Jvm.MethodName)) ∈ lw_all := lw_g (lw_at lw_m1 159 rfl) rfl
theorem q261 : (Jvm.Cond.code ({ cls := "java/util/ArrayList", name := "add", desc := "(Ljava/lang/Object;[Ljava/lang/Object;I)V" } : Jvm.MethodName) prog_51_method_24_code (4 : Nat) (Option.none : Option Jvm.ClassFile.FieldType)) ∈ lw_all := lw_g (lw_at lw_m1 160 rfl) rfl
theorem q262 : (Jvm.Cond.methodLink "java/util/ArrayList" (129 : Nat) ({ cls := "java/util/ArrayList", name := "grow", desc := "()[Ljava/lang/Object;" } : Jvm.MethodName)) ∈ lw_all := lw_g (lw_at lw_m1 161 rfl) rfl
theorem q263 : (Jvm.Cond.privateMethod ({ cls := "java/util/ArrayList", name := "grow", desc := "()[Ljava/lang/Object;" } : Jvm.MethodName)) ∈ lw_tbl := lw_at lw_m1 162 rfl
theorem q264 : (Jvm.Cond.instanceMethod ({ cls := "java/util/ArrayList", name := "grow", desc := "()[Ljava/lang/Object;" } : Jvm.MethodName)) ∈ lw_all := lw_g (lw_at lw_m1 163 rfl) rfl
theorem q265 : (Jvm.Cond.code ({ cls := "java/util/ArrayList", name := "grow", desc := "()[Ljava/lang/Object;" } : Jvm.MethodName) prog_51_method_7_code (1 : Nat) (Option.some (Jvm.ClassFile.FieldType.array (Jvm.ClassFile.FieldType.object "java/lang/Object")))) ∈ lw_all := lw_g (lw_at lw_m1 164 rfl) rfl
theorem q266 : (Jvm.Cond.methodLink "java/util/ArrayList" (69 : Nat) ({ cls := "java/util/ArrayList", name := "grow", desc := "(I)[Ljava/lang/Object;" } : Jvm.MethodName)) ∈ lw_all := lw_g (lw_at lw_m1 165 rfl) rfl
theorem q267 : (Jvm.Cond.privateMethod ({ cls := "java/util/ArrayList", name := "grow", desc := "(I)[Ljava/lang/Object;" } : Jvm.MethodName)) ∈ lw_tbl := lw_at lw_m1 166 rfl
theorem q268 : (Jvm.Cond.instanceMethod ({ cls := "java/util/ArrayList", name := "grow", desc := "(I)[Ljava/lang/Object;" } : Jvm.MethodName)) ∈ lw_all := lw_g (lw_at lw_m1 167 rfl) rfl
theorem q269 : (Jvm.Cond.code ({ cls := "java/util/ArrayList", name := "grow", desc := "(I)[Ljava/lang/Object;" } : Jvm.MethodName) prog_51_method_6_code (4 : Nat) (Option.some (Jvm.ClassFile.FieldType.array (Jvm.ClassFile.FieldType.object "java/lang/Object")))) ∈ lw_all := lw_g (lw_at lw_m1 168 rfl) rfl
theorem q270 : (Jvm.Cond.methodLink "java/util/ArrayList" (73 : Nat) ({ cls := "jdk/internal/util/ArraysSupport", name := "newLength", desc := "(III)I" } : Jvm.MethodName)) ∈ lw_all := lw_g (lw_at lw_m1 169 rfl) rfl
theorem q280 : (Jvm.Cond.methodLink "java/util/ArrayList" (66 : Nat) ({ cls := "java/util/Arrays", name := "copyOf", desc := "([Ljava/lang/Object;I)[Ljava/lang/Object;" } : Jvm.MethodName)) ∈ lw_all := lw_g (lw_at lw_m1 179 rfl) rfl
theorem q310 : (Jvm.Cond.selects "java/util/ArrayList" ({ cls := "java/lang/Object", name := "getClass", desc := "()Ljava/lang/Class;" } : Jvm.MethodName) ({ cls := "java/lang/Object", name := "getClass", desc := "()Ljava/lang/Class;" } : Jvm.MethodName)) ∈ lw_all := lw_g (lw_at lw_m1 209 rfl) rfl
theorem q335 : (Jvm.Cond.methodLink "java/util/ArrayList" (79 : Nat) ({ cls := "java/lang/Math", name := "max", desc := "(II)I" } : Jvm.MethodName)) ∈ lw_all := lw_g (lw_at lw_m1 234 rfl) rfl
theorem q336 : (Jvm.Cond.classLink "java/util/ArrayList" (7 : Nat) "java/lang/Object") ∈ lw_all := lw_g (lw_at lw_m1 235 rfl) rfl
theorem q681 : (Jvm.Cond.selects "java/util/ArrayList" ({ cls := "java/util/List", name := "size", desc := "()I" } : Jvm.MethodName) ({ cls := "java/util/ArrayList", name := "size", desc := "()I" } : Jvm.MethodName)) ∈ lw_all := lw_g (lw_at lw_m3 100 rfl) rfl
theorem q682 : (Jvm.Cond.unhidden "java/util/ArrayList" "size" "()I") ∈ lw_tbl := lw_at lw_m3 101 rfl
theorem q683 : (Jvm.Cond.instanceMethod ({ cls := "java/util/ArrayList", name := "size", desc := "()I" } : Jvm.MethodName)) ∈ lw_all := lw_g (lw_at lw_m3 102 rfl) rfl
theorem q684 : (Jvm.Cond.publicMethod ({ cls := "java/util/ArrayList", name := "size", desc := "()I" } : Jvm.MethodName)) ∈ lw_tbl := lw_at lw_m3 103 rfl
theorem q685 : (Jvm.Cond.code ({ cls := "java/util/ArrayList", name := "size", desc := "()I" } : Jvm.MethodName) prog_51_method_8_code (1 : Nat) (Option.some Jvm.ClassFile.FieldType.int)) ∈ lw_all := lw_g (lw_at lw_m3 104 rfl) rfl
theorem q696 : (Jvm.Cond.selects "java/util/ArrayList" ({ cls := "java/util/List", name := "get", desc := "(I)Ljava/lang/Object;" } : Jvm.MethodName) ({ cls := "java/util/ArrayList", name := "get", desc := "(I)Ljava/lang/Object;" } : Jvm.MethodName)) ∈ lw_all := lw_g (lw_at lw_m3 115 rfl) rfl
theorem q697 : (Jvm.Cond.unhidden "java/util/ArrayList" "get" "(I)Ljava/lang/Object;") ∈ lw_tbl := lw_at lw_m3 116 rfl
theorem q698 : (Jvm.Cond.instanceMethod ({ cls := "java/util/ArrayList", name := "get", desc := "(I)Ljava/lang/Object;" } : Jvm.MethodName)) ∈ lw_all := lw_g (lw_at lw_m3 117 rfl) rfl
theorem q699 : (Jvm.Cond.publicMethod ({ cls := "java/util/ArrayList", name := "get", desc := "(I)Ljava/lang/Object;" } : Jvm.MethodName)) ∈ lw_tbl := lw_at lw_m3 118 rfl
theorem q700 : (Jvm.Cond.code ({ cls := "java/util/ArrayList", name := "get", desc := "(I)Ljava/lang/Object;" } : Jvm.MethodName) prog_51_method_20_code (2 : Nat) (Option.some (Jvm.ClassFile.FieldType.object "java/lang/Object"))) ∈ lw_all := lw_g (lw_at lw_m3 119 rfl) rfl
theorem q701 : (Jvm.Cond.methodLink "java/util/ArrayList" (118 : Nat) ({ cls := "java/util/Objects", name := "checkIndex", desc := "(II)I" } : Jvm.MethodName)) ∈ lw_all := lw_g (lw_at lw_m3 120 rfl) rfl
theorem q707 : (Jvm.Cond.methodLink "java/util/ArrayList" (123 : Nat) ({ cls := "java/util/ArrayList", name := "elementData", desc := "(I)Ljava/lang/Object;" } : Jvm.MethodName)) ∈ lw_all := lw_g (lw_at lw_m3 126 rfl) rfl
theorem q708 : (Jvm.Cond.instanceMethod ({ cls := "java/util/ArrayList", name := "elementData", desc := "(I)Ljava/lang/Object;" } : Jvm.MethodName)) ∈ lw_all := lw_g (lw_at lw_m3 127 rfl) rfl
theorem q709 : (Jvm.Cond.selects "java/util/ArrayList" ({ cls := "java/util/ArrayList", name := "elementData", desc := "(I)Ljava/lang/Object;" } : Jvm.MethodName) ({ cls := "java/util/ArrayList", name := "elementData", desc := "(I)Ljava/lang/Object;" } : Jvm.MethodName)) ∈ lw_all := lw_g (lw_at lw_m3 128 rfl) rfl
theorem q710 : (Jvm.Cond.code ({ cls := "java/util/ArrayList", name := "elementData", desc := "(I)Ljava/lang/Object;" } : Jvm.MethodName) prog_51_method_18_code (2 : Nat) (Option.some (Jvm.ClassFile.FieldType.object "java/lang/Object"))) ∈ lw_all := lw_g (lw_at lw_m3 129 rfl) rfl
theorem q728 : (Jvm.Cond.selects "java/util/ArrayList" ({ cls := "java/util/List", name := "indexOf", desc := "(Ljava/lang/Object;)I" } : Jvm.MethodName) ({ cls := "java/util/ArrayList", name := "indexOf", desc := "(Ljava/lang/Object;)I" } : Jvm.MethodName)) ∈ lw_all := lw_g (lw_at lw_m3 147 rfl) rfl
theorem q729 : (Jvm.Cond.unhidden "java/util/ArrayList" "indexOf" "(Ljava/lang/Object;)I") ∈ lw_tbl := lw_at lw_m3 148 rfl
theorem q730 : (Jvm.Cond.instanceMethod ({ cls := "java/util/ArrayList", name := "indexOf", desc := "(Ljava/lang/Object;)I" } : Jvm.MethodName)) ∈ lw_all := lw_g (lw_at lw_m3 149 rfl) rfl
theorem q731 : (Jvm.Cond.publicMethod ({ cls := "java/util/ArrayList", name := "indexOf", desc := "(Ljava/lang/Object;)I" } : Jvm.MethodName)) ∈ lw_tbl := lw_at lw_m3 150 rfl
theorem q732 : (Jvm.Cond.code ({ cls := "java/util/ArrayList", name := "indexOf", desc := "(Ljava/lang/Object;)I" } : Jvm.MethodName) prog_51_method_11_code (2 : Nat) (Option.some Jvm.ClassFile.FieldType.int)) ∈ lw_all := lw_g (lw_at lw_m3 151 rfl) rfl
theorem q733 : (Jvm.Cond.methodLink "java/util/ArrayList" (89 : Nat) ({ cls := "java/util/ArrayList", name := "indexOfRange", desc := "(Ljava/lang/Object;II)I" } : Jvm.MethodName)) ∈ lw_all := lw_g (lw_at lw_m3 152 rfl) rfl
theorem q734 : (Jvm.Cond.instanceMethod ({ cls := "java/util/ArrayList", name := "indexOfRange", desc := "(Ljava/lang/Object;II)I" } : Jvm.MethodName)) ∈ lw_all := lw_g (lw_at lw_m3 153 rfl) rfl
theorem q735 : (Jvm.Cond.selects "java/util/ArrayList" ({ cls := "java/util/ArrayList", name := "indexOfRange", desc := "(Ljava/lang/Object;II)I" } : Jvm.MethodName) ({ cls := "java/util/ArrayList", name := "indexOfRange", desc := "(Ljava/lang/Object;II)I" } : Jvm.MethodName)) ∈ lw_all := lw_g (lw_at lw_m3 154 rfl) rfl
theorem q736 : (Jvm.Cond.code ({ cls := "java/util/ArrayList", name := "indexOfRange", desc := "(Ljava/lang/Object;II)I" } : Jvm.MethodName) prog_51_method_12_code (6 : Nat) (Option.some Jvm.ClassFile.FieldType.int)) ∈ lw_all := lw_g (lw_at lw_m3 155 rfl) rfl
theorem q738 : (Jvm.Cond.methodLink "java/util/ArrayList" (93 : Nat) ({ cls := "java/lang/Object", name := "equals", desc := "(Ljava/lang/Object;)Z" } : Jvm.MethodName)) ∈ lw_all := lw_g (lw_at lw_m3 157 rfl) rfl
theorem q1033 : (Jvm.Cond.selects "java/util/ArrayList" ({ cls := "java/util/List", name := "remove", desc := "(I)Ljava/lang/Object;" } : Jvm.MethodName) ({ cls := "java/util/ArrayList", name := "remove", desc := "(I)Ljava/lang/Object;" } : Jvm.MethodName)) ∈ lw_all := lw_g (lw_at lw_m4 212 rfl) rfl
theorem q1034 : (Jvm.Cond.unhidden "java/util/ArrayList" "remove" "(I)Ljava/lang/Object;") ∈ lw_tbl := lw_at lw_m4 213 rfl
theorem q1035 : (Jvm.Cond.instanceMethod ({ cls := "java/util/ArrayList", name := "remove", desc := "(I)Ljava/lang/Object;" } : Jvm.MethodName)) ∈ lw_all := lw_g (lw_at lw_m4 214 rfl) rfl
theorem q1036 : (Jvm.Cond.publicMethod ({ cls := "java/util/ArrayList", name := "remove", desc := "(I)Ljava/lang/Object;" } : Jvm.MethodName)) ∈ lw_tbl := lw_at lw_m4 215 rfl
theorem q1037 : (Jvm.Cond.code ({ cls := "java/util/ArrayList", name := "remove", desc := "(I)Ljava/lang/Object;" } : Jvm.MethodName) prog_51_method_29_code (4 : Nat) (Option.some (Jvm.ClassFile.FieldType.object "java/lang/Object"))) ∈ lw_all := lw_g (lw_at lw_m4 216 rfl) rfl
theorem q1038 : (Jvm.Cond.methodLink "java/util/ArrayList" (144 : Nat) ({ cls := "java/util/ArrayList", name := "fastRemove", desc := "([Ljava/lang/Object;I)V" } : Jvm.MethodName)) ∈ lw_all := lw_g (lw_at lw_m4 217 rfl) rfl
theorem q1039 : (Jvm.Cond.privateMethod ({ cls := "java/util/ArrayList", name := "fastRemove", desc := "([Ljava/lang/Object;I)V" } : Jvm.MethodName)) ∈ lw_tbl := lw_at lw_m4 218 rfl
theorem q1040 : (Jvm.Cond.instanceMethod ({ cls := "java/util/ArrayList", name := "fastRemove", desc := "([Ljava/lang/Object;I)V" } : Jvm.MethodName)) ∈ lw_all := lw_g (lw_at lw_m4 219 rfl) rfl
theorem q1041 : (Jvm.Cond.code ({ cls := "java/util/ArrayList", name := "fastRemove", desc := "([Ljava/lang/Object;I)V" } : Jvm.MethodName) prog_51_method_39_code (4 : Nat) (Option.none : Option Jvm.ClassFile.FieldType)) ∈ lw_all := lw_g (lw_at lw_m4 220 rfl) rfl
theorem q1042 : (Jvm.Cond.methodLink "java/util/ArrayList" (112 : Nat) ({ cls := "java/lang/System", name := "arraycopy", desc := "(Ljava/lang/Object;ILjava/lang/Object;II)V" } : Jvm.MethodName)) ∈ lw_all := lw_g (lw_at lw_m4 221 rfl) rfl
theorem q1193 : (Jvm.Cond.selects "java/util/ArrayList" ({ cls := "java/util/List", name := "clear", desc := "()V" } : Jvm.MethodName) ({ cls := "java/util/ArrayList", name := "clear", desc := "()V" } : Jvm.MethodName)) ∈ lw_all := lw_g (lw_at lw_m5 132 rfl) rfl
theorem q1194 : (Jvm.Cond.unhidden "java/util/ArrayList" "clear" "()V") ∈ lw_tbl := lw_at lw_m5 133 rfl
theorem q1195 : (Jvm.Cond.instanceMethod ({ cls := "java/util/ArrayList", name := "clear", desc := "()V" } : Jvm.MethodName)) ∈ lw_all := lw_g (lw_at lw_m5 134 rfl) rfl
theorem q1196 : (Jvm.Cond.publicMethod ({ cls := "java/util/ArrayList", name := "clear", desc := "()V" } : Jvm.MethodName)) ∈ lw_tbl := lw_at lw_m5 135 rfl
theorem q1197 : (Jvm.Cond.code ({ cls := "java/util/ArrayList", name := "clear", desc := "()V" } : Jvm.MethodName) prog_51_method_40_code (4 : Nat) (Option.none : Option Jvm.ClassFile.FieldType)) ∈ lw_all := lw_g (lw_at lw_m5 136 rfl) rfl
theorem q1272 : (Jvm.Cond.selects "java/util/ArrayList" ({ cls := "java/util/List", name := "iterator", desc := "()Ljava/util/Iterator;" } : Jvm.MethodName) ({ cls := "java/util/ArrayList", name := "iterator", desc := "()Ljava/util/Iterator;" } : Jvm.MethodName)) ∈ lw_all := lw_g (lw_at lw_m5 211 rfl) rfl
theorem q1273 : (Jvm.Cond.unhidden "java/util/ArrayList" "iterator" "()Ljava/util/Iterator;") ∈ lw_tbl := lw_at lw_m5 212 rfl
theorem q1274 : (Jvm.Cond.instanceMethod ({ cls := "java/util/ArrayList", name := "iterator", desc := "()Ljava/util/Iterator;" } : Jvm.MethodName)) ∈ lw_all := lw_g (lw_at lw_m5 213 rfl) rfl
theorem q1275 : (Jvm.Cond.publicMethod ({ cls := "java/util/ArrayList", name := "iterator", desc := "()Ljava/util/Iterator;" } : Jvm.MethodName)) ∈ lw_tbl := lw_at lw_m5 214 rfl
theorem q1276 : (Jvm.Cond.code ({ cls := "java/util/ArrayList", name := "iterator", desc := "()Ljava/util/Iterator;" } : Jvm.MethodName) prog_51_method_55_code (1 : Nat) (Option.some (Jvm.ClassFile.FieldType.object "java/util/Iterator"))) ∈ lw_all := lw_g (lw_at lw_m5 215 rfl) rfl
theorem q1277 : (Jvm.Cond.classLink "java/util/ArrayList" (267 : Nat) "java/util/ArrayList$Itr") ∈ lw_all := lw_g (lw_at lw_m5 216 rfl) rfl
theorem q1279 : (Jvm.Cond.methodLink "java/util/ArrayList" (269 : Nat) ({ cls := "java/util/ArrayList$Itr", name := "<init>", desc := "(Ljava/util/ArrayList;)V" } : Jvm.MethodName)) ∈ lw_all := lw_g (lw_at lw_m5 218 rfl) rfl
theorem q1685 : (Jvm.Cond.selects "java/util/ArrayList" ({ cls := "java/util/AbstractCollection", name := "size", desc := "()I" } : Jvm.MethodName) ({ cls := "java/util/ArrayList", name := "size", desc := "()I" } : Jvm.MethodName)) ∈ lw_all := lw_g (lw_at lw_m7 144 rfl) rfl
theorem q1931 : (Jvm.Cond.selects "java/util/ArrayList" ({ cls := "java/util/List", name := "add", desc := "(ILjava/lang/Object;)V" } : Jvm.MethodName) ({ cls := "java/util/ArrayList", name := "add", desc := "(ILjava/lang/Object;)V" } : Jvm.MethodName)) ∈ lw_all := lw_g (lw_at lw_m8 150 rfl) rfl
theorem q1932 : (Jvm.Cond.unhidden "java/util/ArrayList" "add" "(ILjava/lang/Object;)V") ∈ lw_tbl := lw_at lw_m8 151 rfl
theorem q1933 : (Jvm.Cond.instanceMethod ({ cls := "java/util/ArrayList", name := "add", desc := "(ILjava/lang/Object;)V" } : Jvm.MethodName)) ∈ lw_all := lw_g (lw_at lw_m8 152 rfl) rfl
theorem q1934 : (Jvm.Cond.publicMethod ({ cls := "java/util/ArrayList", name := "add", desc := "(ILjava/lang/Object;)V" } : Jvm.MethodName)) ∈ lw_tbl := lw_at lw_m8 153 rfl
theorem q1935 : (Jvm.Cond.code ({ cls := "java/util/ArrayList", name := "add", desc := "(ILjava/lang/Object;)V" } : Jvm.MethodName) prog_51_method_26_code (5 : Nat) (Option.none : Option Jvm.ClassFile.FieldType)) ∈ lw_all := lw_g (lw_at lw_m8 154 rfl) rfl
theorem q1936 : (Jvm.Cond.methodLink "java/util/ArrayList" (135 : Nat) ({ cls := "java/util/ArrayList", name := "rangeCheckForAdd", desc := "(I)V" } : Jvm.MethodName)) ∈ lw_all := lw_g (lw_at lw_m8 155 rfl) rfl
theorem q1937 : (Jvm.Cond.privateMethod ({ cls := "java/util/ArrayList", name := "rangeCheckForAdd", desc := "(I)V" } : Jvm.MethodName)) ∈ lw_tbl := lw_at lw_m8 156 rfl
theorem q1938 : (Jvm.Cond.instanceMethod ({ cls := "java/util/ArrayList", name := "rangeCheckForAdd", desc := "(I)V" } : Jvm.MethodName)) ∈ lw_all := lw_g (lw_at lw_m8 157 rfl) rfl
theorem q1939 : (Jvm.Cond.code ({ cls := "java/util/ArrayList", name := "rangeCheckForAdd", desc := "(I)V" } : Jvm.MethodName) prog_51_method_45_code (2 : Nat) (Option.none : Option Jvm.ClassFile.FieldType)) ∈ lw_all := lw_g (lw_at lw_m8 158 rfl) rfl
theorem q1940 : (Jvm.Cond.classLink "java/util/ArrayList" (187 : Nat) "java/lang/IndexOutOfBoundsException") ∈ lw_all := lw_g (lw_at lw_m8 159 rfl) rfl
theorem q1941 : (Jvm.Cond.methodLink "java/util/ArrayList" (198 : Nat) ({ cls := "java/util/ArrayList", name := "outOfBoundsMsg", desc := "(I)Ljava/lang/String;" } : Jvm.MethodName)) ∈ lw_all := lw_g (lw_at lw_m8 160 rfl) rfl
theorem q1942 : (Jvm.Cond.privateMethod ({ cls := "java/util/ArrayList", name := "outOfBoundsMsg", desc := "(I)Ljava/lang/String;" } : Jvm.MethodName)) ∈ lw_tbl := lw_at lw_m8 161 rfl
theorem q1943 : (Jvm.Cond.instanceMethod ({ cls := "java/util/ArrayList", name := "outOfBoundsMsg", desc := "(I)Ljava/lang/String;" } : Jvm.MethodName)) ∈ lw_all := lw_g (lw_at lw_m8 162 rfl) rfl
theorem q1944 : (Jvm.Cond.code ({ cls := "java/util/ArrayList", name := "outOfBoundsMsg", desc := "(I)Ljava/lang/String;" } : Jvm.MethodName) prog_51_method_46_code (2 : Nat) (Option.some (Jvm.ClassFile.FieldType.object "java/lang/String"))) ∈ lw_all := lw_g (lw_at lw_m8 163 rfl) rfl
theorem q1945 : (Jvm.Cond.classLink "java/util/ArrayList" (20 : Nat) "java/lang/StringBuilder") ∈ lw_all := lw_g (lw_at lw_m8 164 rfl) rfl
theorem q1946 : (Jvm.Cond.methodLink "java/util/ArrayList" (22 : Nat) ({ cls := "java/lang/StringBuilder", name := "<init>", desc := "()V" } : Jvm.MethodName)) ∈ lw_all := lw_g (lw_at lw_m8 165 rfl) rfl
theorem q1947 : (Jvm.Cond.stringRef "java/util/ArrayList" (201 : Nat) "Index: ") ∈ lw_tbl := lw_at lw_m8 166 rfl
theorem q1948 : (Jvm.Cond.methodLink "java/util/ArrayList" (25 : Nat) ({ cls := "java/lang/StringBuilder", name := "append", desc := "(Ljava/lang/String;)Ljava/lang/StringBuilder;" } : Jvm.MethodName)) ∈ lw_all := lw_g (lw_at lw_m8 167 rfl) rfl
theorem q1949 : (Jvm.Cond.methodLink "java/util/ArrayList" (29 : Nat) ({ cls := "java/lang/StringBuilder", name := "append", desc := "(I)Ljava/lang/StringBuilder;" } : Jvm.MethodName)) ∈ lw_all := lw_g (lw_at lw_m8 168 rfl) rfl
theorem q1950 : (Jvm.Cond.stringRef "java/util/ArrayList" (203 : Nat) ", Size: ") ∈ lw_tbl := lw_at lw_m8 169 rfl
theorem q1951 : (Jvm.Cond.methodLink "java/util/ArrayList" (32 : Nat) ({ cls := "java/lang/StringBuilder", name := "toString", desc := "()Ljava/lang/String;" } : Jvm.MethodName)) ∈ lw_all := lw_g (lw_at lw_m8 170 rfl) rfl
theorem q1952 : (Jvm.Cond.methodLink "java/util/ArrayList" (193 : Nat) ({ cls := "java/lang/IndexOutOfBoundsException", name := "<init>", desc := "(Ljava/lang/String;)V" } : Jvm.MethodName)) ∈ lw_all := lw_g (lw_at lw_m8 171 rfl) rfl
theorem q2220 : (Jvm.Cond.selects "java/util/ArrayList" ({ cls := "java/util/List", name := "addAll", desc := "(Ljava/util/Collection;)Z" } : Jvm.MethodName) ({ cls := "java/util/ArrayList", name := "addAll", desc := "(Ljava/util/Collection;)Z" } : Jvm.MethodName)) ∈ lw_all := lw_g (lw_at lw_m9 199 rfl) rfl
theorem q2221 : (Jvm.Cond.unhidden "java/util/ArrayList" "addAll" "(Ljava/util/Collection;)Z") ∈ lw_tbl := lw_at lw_m9 200 rfl
theorem q2222 : (Jvm.Cond.instanceMethod ({ cls := "java/util/ArrayList", name := "addAll", desc := "(Ljava/util/Collection;)Z" } : Jvm.MethodName)) ∈ lw_all := lw_g (lw_at lw_m9 201 rfl) rfl
theorem q2223 : (Jvm.Cond.publicMethod ({ cls := "java/util/ArrayList", name := "addAll", desc := "(Ljava/util/Collection;)Z" } : Jvm.MethodName)) ∈ lw_tbl := lw_at lw_m9 202 rfl
theorem q2224 : (Jvm.Cond.code ({ cls := "java/util/ArrayList", name := "addAll", desc := "(Ljava/util/Collection;)Z" } : Jvm.MethodName) prog_51_method_41_code (6 : Nat) (Option.some Jvm.ClassFile.FieldType.boolean)) ∈ lw_all := lw_g (lw_at lw_m9 203 rfl) rfl
theorem q2225 : (Jvm.Cond.interfaceEntry "java/util/ArrayList" (42 : Nat)) ∈ lw_tbl := lw_at lw_m9 204 rfl
theorem q2226 : (Jvm.Cond.methodLink "java/util/ArrayList" (42 : Nat) ({ cls := "java/util/Collection", name := "toArray", desc := "()[Ljava/lang/Object;" } : Jvm.MethodName)) ∈ lw_all := lw_g (lw_at lw_m9 205 rfl) rfl
theorem q2243 : (Jvm.Cond.castable "java/util/ArrayList" "java/util/Collection") ∈ lw_tbl := lw_at lw_m9 222 rfl
theorem q2244 : (Jvm.Cond.selects "java/util/ArrayList" ({ cls := "java/util/Collection", name := "toArray", desc := "()[Ljava/lang/Object;" } : Jvm.MethodName) ({ cls := "java/util/ArrayList", name := "toArray", desc := "()[Ljava/lang/Object;" } : Jvm.MethodName)) ∈ lw_all := lw_g (lw_at lw_m9 223 rfl) rfl
theorem q2245 : (Jvm.Cond.unhidden "java/util/ArrayList" "toArray" "()[Ljava/lang/Object;") ∈ lw_tbl := lw_at lw_m9 224 rfl
theorem q2246 : (Jvm.Cond.instanceMethod ({ cls := "java/util/ArrayList", name := "toArray", desc := "()[Ljava/lang/Object;" } : Jvm.MethodName)) ∈ lw_all := lw_g (lw_at lw_m9 225 rfl) rfl
theorem q2247 : (Jvm.Cond.publicMethod ({ cls := "java/util/ArrayList", name := "toArray", desc := "()[Ljava/lang/Object;" } : Jvm.MethodName)) ∈ lw_tbl := lw_at lw_m9 226 rfl
theorem q2248 : (Jvm.Cond.code ({ cls := "java/util/ArrayList", name := "toArray", desc := "()[Ljava/lang/Object;" } : Jvm.MethodName) prog_51_method_16_code (1 : Nat) (Option.some (Jvm.ClassFile.FieldType.array (Jvm.ClassFile.FieldType.object "java/lang/Object")))) ∈ lw_all := lw_g (lw_at lw_m9 227 rfl) rfl
theorem q2288 : (Jvm.Cond.selects "java/util/ArrayList" ({ cls := "java/util/AbstractCollection", name := "iterator", desc := "()Ljava/util/Iterator;" } : Jvm.MethodName) ({ cls := "java/util/ArrayList", name := "iterator", desc := "()Ljava/util/Iterator;" } : Jvm.MethodName)) ∈ lw_all := lw_g (lw_at lw_m10 27 rfl) rfl
theorem q2416 : (Jvm.Cond.selects "java/util/ArrayList" ({ cls := "java/util/List", name := "isEmpty", desc := "()Z" } : Jvm.MethodName) ({ cls := "java/util/ArrayList", name := "isEmpty", desc := "()Z" } : Jvm.MethodName)) ∈ lw_all := lw_g (lw_at lw_m10 155 rfl) rfl
theorem q2417 : (Jvm.Cond.unhidden "java/util/ArrayList" "isEmpty" "()Z") ∈ lw_tbl := lw_at lw_m10 156 rfl
theorem q2418 : (Jvm.Cond.instanceMethod ({ cls := "java/util/ArrayList", name := "isEmpty", desc := "()Z" } : Jvm.MethodName)) ∈ lw_all := lw_g (lw_at lw_m10 157 rfl) rfl
theorem q2419 : (Jvm.Cond.publicMethod ({ cls := "java/util/ArrayList", name := "isEmpty", desc := "()Z" } : Jvm.MethodName)) ∈ lw_tbl := lw_at lw_m10 158 rfl
theorem q2420 : (Jvm.Cond.code ({ cls := "java/util/ArrayList", name := "isEmpty", desc := "()Z" } : Jvm.MethodName) prog_51_method_9_code (1 : Nat) (Option.some Jvm.ClassFile.FieldType.boolean)) ∈ lw_all := lw_g (lw_at lw_m10 159 rfl) rfl
theorem q3298 : (Jvm.Cond.castable "java/util/ArrayList" "java/lang/Object") ∈ lw_tbl := lw_at lw_m14 77 rfl
theorem in_J2 : ∀ w ∈ wsJ20, w ∈ lw_all := lw_in wsJ20 [201, 197, 199] (by decide +kernel) (by decide +kernel)
/-! java/util/Objects -/
set_option maxRecDepth 100000
def RJ20 : String := "java/util/Objects"
abbrev cJ20_checkIndex : ByteArray := prog_65_method_17_code
def yJ20_checkIndex : MethodName := ⟨RJ20, "checkIndex", "(II)I"⟩
def dkwJ20_checkIndex_0 : List UInt8 := [26, 27, 1, 184, 0, 105, 172]
abbrev dktJ20_checkIndex_0 : List UInt8 := dkwJ20_checkIndex_0 ++ []
theorem dksJ20_checkIndex_0 : cJ20_checkIndex.data.toList.drop 0 = dktJ20_checkIndex_0 := by decide +kernel
theorem dJ20_checkIndex_0 : decode cJ20_checkIndex 0 = .ok (.iload_n 0, 1) := dk_26 (dk_at dksJ20_checkIndex_0 0 rfl rfl)
theorem dJ20_checkIndex_1 : decode cJ20_checkIndex 1 = .ok (.iload_n 1, 1) := dk_27 (dk_at dksJ20_checkIndex_0 1 rfl rfl)
theorem dJ20_checkIndex_2 : decode cJ20_checkIndex 2 = .ok (.aconst_null, 1) := dk_1 (dk_at dksJ20_checkIndex_0 2 rfl rfl)
theorem dJ20_checkIndex_3 : decode cJ20_checkIndex 3 = .ok (.invokestatic 105, 3) := dk_184 0 105 (dk_at dksJ20_checkIndex_0 3 rfl rfl)
theorem dJ20_checkIndex_6 : decode cJ20_checkIndex 6 = .ok (.ireturn, 1) := dk_172 (dk_at dksJ20_checkIndex_0 6 rfl rfl)
abbrev cJ20_requireNonNull : ByteArray := prog_65_method_10_code
def yJ20_requireNonNull : MethodName := ⟨RJ20, "requireNonNull", "(Ljava/lang/Object;)Ljava/lang/Object;"⟩
def dkwJ20_requireNonNull_0 : List UInt8 := [42, 199, 0, 11, 187, 0, 84, 89, 183, 0, 86, 191, 42, 176]
abbrev dktJ20_requireNonNull_0 : List UInt8 := dkwJ20_requireNonNull_0 ++ []
theorem dksJ20_requireNonNull_0 : cJ20_requireNonNull.data.toList.drop 0 = dktJ20_requireNonNull_0 := by decide +kernel
theorem dJ20_requireNonNull_0 : decode cJ20_requireNonNull 0 = .ok (.aload_n 0, 1) := dk_42 (dk_at dksJ20_requireNonNull_0 0 rfl rfl)
theorem dJ20_requireNonNull_1 : decode cJ20_requireNonNull 1 = .ok (.ifnonnull 11, 3) := dk_199 0 11 (dk_at dksJ20_requireNonNull_0 1 rfl rfl)
theorem dJ20_requireNonNull_4 : decode cJ20_requireNonNull 4 = .ok (.new 84, 3) := dk_187 0 84 (dk_at dksJ20_requireNonNull_0 4 rfl rfl)
theorem dJ20_requireNonNull_7 : decode cJ20_requireNonNull 7 = .ok (.dup, 1) := dk_89 (dk_at dksJ20_requireNonNull_0 7 rfl rfl)
theorem dJ20_requireNonNull_8 : decode cJ20_requireNonNull 8 = .ok (.invokespecial 86, 3) := dk_183 0 86 (dk_at dksJ20_requireNonNull_0 8 rfl rfl)
theorem dJ20_requireNonNull_11 : decode cJ20_requireNonNull 11 = .ok (.athrow, 1) := dk_191 (dk_at dksJ20_requireNonNull_0 11 rfl rfl)
theorem dJ20_requireNonNull_12 : decode cJ20_requireNonNull 12 = .ok (.aload_n 0, 1) := dk_42 (dk_at dksJ20_requireNonNull_0 12 rfl rfl)
theorem dJ20_requireNonNull_13 : decode cJ20_requireNonNull 13 = .ok (.areturn, 1) := dk_176 (dk_at dksJ20_requireNonNull_0 13 rfl rfl)
theorem q126 : (Jvm.Cond.initialized "java/util/Objects") ∈ lw_all := lw_g (lw_at lw_m1 25 rfl) rfl
theorem q702 : (Jvm.Cond.static ({ cls := "java/util/Objects", name := "checkIndex", desc := "(II)I" } : Jvm.MethodName)) ∈ lw_all := lw_g (lw_at lw_m3 121 rfl) rfl
theorem q703 : (Jvm.Cond.code ({ cls := "java/util/Objects", name := "checkIndex", desc := "(II)I" } : Jvm.MethodName) prog_65_method_17_code (2 : Nat) (Option.some Jvm.ClassFile.FieldType.int)) ∈ lw_all := lw_g (lw_at lw_m3 122 rfl) rfl
theorem q704 : (Jvm.Cond.methodLink "java/util/Objects" (105 : Nat) ({ cls := "jdk/internal/util/Preconditions", name := "checkIndex", desc := "(IILjava/util/function/BiFunction;)I" } : Jvm.MethodName)) ∈ lw_all := lw_g (lw_at lw_m3 123 rfl) rfl
theorem q1858 : (Jvm.Cond.static ({ cls := "java/util/Objects", name := "requireNonNull", desc := "(Ljava/lang/Object;)Ljava/lang/Object;" } : Jvm.MethodName)) ∈ lw_all := lw_g (lw_at lw_m8 77 rfl) rfl
theorem q1859 : (Jvm.Cond.code ({ cls := "java/util/Objects", name := "requireNonNull", desc := "(Ljava/lang/Object;)Ljava/lang/Object;" } : Jvm.MethodName) prog_65_method_10_code (1 : Nat) (Option.some (Jvm.ClassFile.FieldType.object "java/lang/Object"))) ∈ lw_all := lw_g (lw_at lw_m8 78 rfl) rfl
/-! jdk/internal/misc/Unsafe -/
set_option maxRecDepth 100000
def RJ21 : String := "jdk/internal/misc/Unsafe"
abbrev cJ21_getLongUnaligned : ByteArray := prog_83_method_334_code
def yJ21_getLongUnaligned : MethodName := ⟨RJ21, "getLongUnaligned", "(Ljava/lang/Object;J)J"⟩
def dkwJ21_getLongUnaligned_7 : List UInt8 := [182, 0, 39, 184, 2, 197, 173]
abbrev dktJ21_getLongUnaligned_7 : List UInt8 := dkwJ21_getLongUnaligned_7 ++ []
def dkwJ21_getLongUnaligned_6 : List UInt8 := [20, 2, 195, 97, 182, 0, 39, 42, 43, 32, 20, 2, 190, 97, 182, 0, 39, 42, 43, 32, 20, 2, 184, 97]
abbrev dktJ21_getLongUnaligned_6 : List UInt8 := dkwJ21_getLongUnaligned_6 ++ dktJ21_getLongUnaligned_7
def dkwJ21_getLongUnaligned_5 : List UInt8 := [43, 32, 20, 1, 93, 97, 182, 0, 39, 42, 43, 32, 20, 0, 205, 97, 182, 0, 39, 42, 43, 32]
abbrev dktJ21_getLongUnaligned_5 : List UInt8 := dkwJ21_getLongUnaligned_5 ++ dktJ21_getLongUnaligned_6
def dkwJ21_getLongUnaligned_4 : List UInt8 := [43, 32, 182, 0, 39, 42, 43, 32, 10, 97, 182, 0, 39, 42, 43, 32, 20, 0, 203, 97, 182, 0, 39, 42]
abbrev dktJ21_getLongUnaligned_4 : List UInt8 := dkwJ21_getLongUnaligned_4 ++ dktJ21_getLongUnaligned_5
def dkwJ21_getLongUnaligned_3 : List UInt8 := [43, 32, 20, 0, 205, 97, 182, 0, 47, 42, 43, 32, 20, 2, 190, 97, 182, 0, 47, 184, 2, 192, 173, 42]
abbrev dktJ21_getLongUnaligned_3 : List UInt8 := dkwJ21_getLongUnaligned_3 ++ dktJ21_getLongUnaligned_4
def dkwJ21_getLongUnaligned_2 : List UInt8 := [10, 127, 9, 148, 154, 0, 43, 42, 43, 32, 182, 0, 47, 42, 43, 32, 20, 0, 203, 97, 182, 0, 47, 42]
abbrev dktJ21_getLongUnaligned_2 : List UInt8 := dkwJ21_getLongUnaligned_2 ++ dktJ21_getLongUnaligned_3
def dkwJ21_getLongUnaligned_1 : List UInt8 := [154, 0, 23, 42, 43, 32, 182, 0, 17, 42, 43, 32, 20, 0, 205, 97, 182, 0, 17, 184, 2, 186, 173, 32]
abbrev dktJ21_getLongUnaligned_1 : List UInt8 := dkwJ21_getLongUnaligned_1 ++ dktJ21_getLongUnaligned_2
def dkwJ21_getLongUnaligned_0 : List UInt8 := [32, 20, 2, 184, 127, 9, 148, 154, 0, 10, 42, 43, 32, 182, 0, 27, 173, 32, 20, 1, 93, 127, 9, 148]
abbrev dktJ21_getLongUnaligned_0 : List UInt8 := dkwJ21_getLongUnaligned_0 ++ dktJ21_getLongUnaligned_1
theorem dksJ21_getLongUnaligned_0 : cJ21_getLongUnaligned.data.toList.drop 0 = dktJ21_getLongUnaligned_0 := by decide +kernel
theorem dksJ21_getLongUnaligned_1 : cJ21_getLongUnaligned.data.toList.drop 24 = dktJ21_getLongUnaligned_1 := dk_seg dksJ21_getLongUnaligned_0 24 rfl rfl
theorem dksJ21_getLongUnaligned_2 : cJ21_getLongUnaligned.data.toList.drop 48 = dktJ21_getLongUnaligned_2 := dk_seg dksJ21_getLongUnaligned_1 24 rfl rfl
theorem dksJ21_getLongUnaligned_3 : cJ21_getLongUnaligned.data.toList.drop 72 = dktJ21_getLongUnaligned_3 := dk_seg dksJ21_getLongUnaligned_2 24 rfl rfl
theorem dksJ21_getLongUnaligned_4 : cJ21_getLongUnaligned.data.toList.drop 96 = dktJ21_getLongUnaligned_4 := dk_seg dksJ21_getLongUnaligned_3 24 rfl rfl
theorem dksJ21_getLongUnaligned_5 : cJ21_getLongUnaligned.data.toList.drop 120 = dktJ21_getLongUnaligned_5 := dk_seg dksJ21_getLongUnaligned_4 24 rfl rfl
theorem dksJ21_getLongUnaligned_6 : cJ21_getLongUnaligned.data.toList.drop 142 = dktJ21_getLongUnaligned_6 := dk_seg dksJ21_getLongUnaligned_5 22 rfl rfl
theorem dksJ21_getLongUnaligned_7 : cJ21_getLongUnaligned.data.toList.drop 166 = dktJ21_getLongUnaligned_7 := dk_seg dksJ21_getLongUnaligned_6 24 rfl rfl
theorem dJ21_getLongUnaligned_0 : decode cJ21_getLongUnaligned 0 = .ok (.lload_n 2, 1) := dk_32 (dk_at dksJ21_getLongUnaligned_0 0 rfl rfl)
theorem dJ21_getLongUnaligned_1 : decode cJ21_getLongUnaligned 1 = .ok (.ldc2_w 696, 3) := dk_20 2 184 (dk_at dksJ21_getLongUnaligned_0 1 rfl rfl)
theorem dJ21_getLongUnaligned_4 : decode cJ21_getLongUnaligned 4 = .ok (.land, 1) := dk_127 (dk_at dksJ21_getLongUnaligned_0 4 rfl rfl)
theorem dJ21_getLongUnaligned_5 : decode cJ21_getLongUnaligned 5 = .ok (.lconst 0, 1) := dk_9 (dk_at dksJ21_getLongUnaligned_0 5 rfl rfl)
theorem dJ21_getLongUnaligned_6 : decode cJ21_getLongUnaligned 6 = .ok (.lcmp, 1) := dk_148 (dk_at dksJ21_getLongUnaligned_0 6 rfl rfl)
theorem dJ21_getLongUnaligned_7 : decode cJ21_getLongUnaligned 7 = .ok (.ifCond .ne 10, 3) := dk_154 0 10 (dk_at dksJ21_getLongUnaligned_0 7 rfl rfl)
theorem dJ21_getLongUnaligned_10 : decode cJ21_getLongUnaligned 10 = .ok (.aload_n 0, 1) := dk_42 (dk_at dksJ21_getLongUnaligned_0 10 rfl rfl)
theorem dJ21_getLongUnaligned_11 : decode cJ21_getLongUnaligned 11 = .ok (.aload_n 1, 1) := dk_43 (dk_at dksJ21_getLongUnaligned_0 11 rfl rfl)
theorem dJ21_getLongUnaligned_12 : decode cJ21_getLongUnaligned 12 = .ok (.lload_n 2, 1) := dk_32 (dk_at dksJ21_getLongUnaligned_0 12 rfl rfl)
theorem dJ21_getLongUnaligned_13 : decode cJ21_getLongUnaligned 13 = .ok (.invokevirtual 27, 3) := dk_182 0 27 (dk_at dksJ21_getLongUnaligned_0 13 rfl rfl)
theorem dJ21_getLongUnaligned_16 : decode cJ21_getLongUnaligned 16 = .ok (.lreturn, 1) := dk_173 (dk_at dksJ21_getLongUnaligned_0 16 rfl rfl)
theorem dJ21_getLongUnaligned_17 : decode cJ21_getLongUnaligned 17 = .ok (.lload_n 2, 1) := dk_32 (dk_at dksJ21_getLongUnaligned_0 17 rfl rfl)
theorem dJ21_getLongUnaligned_18 : decode cJ21_getLongUnaligned 18 = .ok (.ldc2_w 349, 3) := dk_20 1 93 (dk_at dksJ21_getLongUnaligned_0 18 rfl rfl)
theorem dJ21_getLongUnaligned_21 : decode cJ21_getLongUnaligned 21 = .ok (.land, 1) := dk_127 (dk_at dksJ21_getLongUnaligned_0 21 rfl rfl)
theorem dJ21_getLongUnaligned_22 : decode cJ21_getLongUnaligned 22 = .ok (.lconst 0, 1) := dk_9 (dk_at dksJ21_getLongUnaligned_0 22 rfl rfl)
theorem dJ21_getLongUnaligned_23 : decode cJ21_getLongUnaligned 23 = .ok (.lcmp, 1) := dk_148 (dk_at dksJ21_getLongUnaligned_0 23 rfl rfl)
theorem dJ21_getLongUnaligned_24 : decode cJ21_getLongUnaligned 24 = .ok (.ifCond .ne 23, 3) := dk_154 0 23 (dk_at dksJ21_getLongUnaligned_1 0 rfl rfl)
theorem dJ21_getLongUnaligned_27 : decode cJ21_getLongUnaligned 27 = .ok (.aload_n 0, 1) := dk_42 (dk_at dksJ21_getLongUnaligned_1 3 rfl rfl)
theorem dJ21_getLongUnaligned_28 : decode cJ21_getLongUnaligned 28 = .ok (.aload_n 1, 1) := dk_43 (dk_at dksJ21_getLongUnaligned_1 4 rfl rfl)
theorem dJ21_getLongUnaligned_29 : decode cJ21_getLongUnaligned 29 = .ok (.lload_n 2, 1) := dk_32 (dk_at dksJ21_getLongUnaligned_1 5 rfl rfl)
theorem dJ21_getLongUnaligned_30 : decode cJ21_getLongUnaligned 30 = .ok (.invokevirtual 17, 3) := dk_182 0 17 (dk_at dksJ21_getLongUnaligned_1 6 rfl rfl)
theorem dJ21_getLongUnaligned_33 : decode cJ21_getLongUnaligned 33 = .ok (.aload_n 0, 1) := dk_42 (dk_at dksJ21_getLongUnaligned_1 9 rfl rfl)
theorem dJ21_getLongUnaligned_34 : decode cJ21_getLongUnaligned 34 = .ok (.aload_n 1, 1) := dk_43 (dk_at dksJ21_getLongUnaligned_1 10 rfl rfl)
theorem dJ21_getLongUnaligned_35 : decode cJ21_getLongUnaligned 35 = .ok (.lload_n 2, 1) := dk_32 (dk_at dksJ21_getLongUnaligned_1 11 rfl rfl)
theorem dJ21_getLongUnaligned_36 : decode cJ21_getLongUnaligned 36 = .ok (.ldc2_w 205, 3) := dk_20 0 205 (dk_at dksJ21_getLongUnaligned_1 12 rfl rfl)
theorem dJ21_getLongUnaligned_39 : decode cJ21_getLongUnaligned 39 = .ok (.ladd, 1) := dk_97 (dk_at dksJ21_getLongUnaligned_1 15 rfl rfl)
theorem dJ21_getLongUnaligned_40 : decode cJ21_getLongUnaligned 40 = .ok (.invokevirtual 17, 3) := dk_182 0 17 (dk_at dksJ21_getLongUnaligned_1 16 rfl rfl)
theorem dJ21_getLongUnaligned_43 : decode cJ21_getLongUnaligned 43 = .ok (.invokestatic 698, 3) := dk_184 2 186 (dk_at dksJ21_getLongUnaligned_1 19 rfl rfl)
theorem dJ21_getLongUnaligned_46 : decode cJ21_getLongUnaligned 46 = .ok (.lreturn, 1) := dk_173 (dk_at dksJ21_getLongUnaligned_1 22 rfl rfl)
theorem dJ21_getLongUnaligned_47 : decode cJ21_getLongUnaligned 47 = .ok (.lload_n 2, 1) := dk_32 (dk_at dksJ21_getLongUnaligned_1 23 rfl rfl)
theorem dJ21_getLongUnaligned_48 : decode cJ21_getLongUnaligned 48 = .ok (.lconst 1, 1) := dk_10 (dk_at dksJ21_getLongUnaligned_2 0 rfl rfl)
theorem dJ21_getLongUnaligned_49 : decode cJ21_getLongUnaligned 49 = .ok (.land, 1) := dk_127 (dk_at dksJ21_getLongUnaligned_2 1 rfl rfl)
theorem dJ21_getLongUnaligned_50 : decode cJ21_getLongUnaligned 50 = .ok (.lconst 0, 1) := dk_9 (dk_at dksJ21_getLongUnaligned_2 2 rfl rfl)
theorem dJ21_getLongUnaligned_51 : decode cJ21_getLongUnaligned 51 = .ok (.lcmp, 1) := dk_148 (dk_at dksJ21_getLongUnaligned_2 3 rfl rfl)
theorem dJ21_getLongUnaligned_52 : decode cJ21_getLongUnaligned 52 = .ok (.ifCond .ne 43, 3) := dk_154 0 43 (dk_at dksJ21_getLongUnaligned_2 4 rfl rfl)
theorem dJ21_getLongUnaligned_55 : decode cJ21_getLongUnaligned 55 = .ok (.aload_n 0, 1) := dk_42 (dk_at dksJ21_getLongUnaligned_2 7 rfl rfl)
theorem dJ21_getLongUnaligned_56 : decode cJ21_getLongUnaligned 56 = .ok (.aload_n 1, 1) := dk_43 (dk_at dksJ21_getLongUnaligned_2 8 rfl rfl)
theorem dJ21_getLongUnaligned_57 : decode cJ21_getLongUnaligned 57 = .ok (.lload_n 2, 1) := dk_32 (dk_at dksJ21_getLongUnaligned_2 9 rfl rfl)
theorem dJ21_getLongUnaligned_58 : decode cJ21_getLongUnaligned 58 = .ok (.invokevirtual 47, 3) := dk_182 0 47 (dk_at dksJ21_getLongUnaligned_2 10 rfl rfl)
theorem dJ21_getLongUnaligned_61 : decode cJ21_getLongUnaligned 61 = .ok (.aload_n 0, 1) := dk_42 (dk_at dksJ21_getLongUnaligned_2 13 rfl rfl)
theorem dJ21_getLongUnaligned_62 : decode cJ21_getLongUnaligned 62 = .ok (.aload_n 1, 1) := dk_43 (dk_at dksJ21_getLongUnaligned_2 14 rfl rfl)
theorem dJ21_getLongUnaligned_63 : decode cJ21_getLongUnaligned 63 = .ok (.lload_n 2, 1) := dk_32 (dk_at dksJ21_getLongUnaligned_2 15 rfl rfl)
theorem dJ21_getLongUnaligned_64 : decode cJ21_getLongUnaligned 64 = .ok (.ldc2_w 203, 3) := dk_20 0 203 (dk_at dksJ21_getLongUnaligned_2 16 rfl rfl)
theorem dJ21_getLongUnaligned_67 : decode cJ21_getLongUnaligned 67 = .ok (.ladd, 1) := dk_97 (dk_at dksJ21_getLongUnaligned_2 19 rfl rfl)
theorem dJ21_getLongUnaligned_68 : decode cJ21_getLongUnaligned 68 = .ok (.invokevirtual 47, 3) := dk_182 0 47 (dk_at dksJ21_getLongUnaligned_2 20 rfl rfl)
theorem dJ21_getLongUnaligned_71 : decode cJ21_getLongUnaligned 71 = .ok (.aload_n 0, 1) := dk_42 (dk_at dksJ21_getLongUnaligned_2 23 rfl rfl)
theorem dJ21_getLongUnaligned_72 : decode cJ21_getLongUnaligned 72 = .ok (.aload_n 1, 1) := dk_43 (dk_at dksJ21_getLongUnaligned_3 0 rfl rfl)
theorem dJ21_getLongUnaligned_73 : decode cJ21_getLongUnaligned 73 = .ok (.lload_n 2, 1) := dk_32 (dk_at dksJ21_getLongUnaligned_3 1 rfl rfl)
theorem dJ21_getLongUnaligned_74 : decode cJ21_getLongUnaligned 74 = .ok (.ldc2_w 205, 3) := dk_20 0 205 (dk_at dksJ21_getLongUnaligned_3 2 rfl rfl)
theorem dJ21_getLongUnaligned_77 : decode cJ21_getLongUnaligned 77 = .ok (.ladd, 1) := dk_97 (dk_at dksJ21_getLongUnaligned_3 5 rfl rfl)
theorem dJ21_getLongUnaligned_78 : decode cJ21_getLongUnaligned 78 = .ok (.invokevirtual 47, 3) := dk_182 0 47 (dk_at dksJ21_getLongUnaligned_3 6 rfl rfl)
theorem dJ21_getLongUnaligned_81 : decode cJ21_getLongUnaligned 81 = .ok (.aload_n 0, 1) := dk_42 (dk_at dksJ21_getLongUnaligned_3 9 rfl rfl)
theorem dJ21_getLongUnaligned_82 : decode cJ21_getLongUnaligned 82 = .ok (.aload_n 1, 1) := dk_43 (dk_at dksJ21_getLongUnaligned_3 10 rfl rfl)
theorem dJ21_getLongUnaligned_83 : decode cJ21_getLongUnaligned 83 = .ok (.lload_n 2, 1) := dk_32 (dk_at dksJ21_getLongUnaligned_3 11 rfl rfl)
theorem dJ21_getLongUnaligned_84 : decode cJ21_getLongUnaligned 84 = .ok (.ldc2_w 702, 3) := dk_20 2 190 (dk_at dksJ21_getLongUnaligned_3 12 rfl rfl)
theorem dJ21_getLongUnaligned_87 : decode cJ21_getLongUnaligned 87 = .ok (.ladd, 1) := dk_97 (dk_at dksJ21_getLongUnaligned_3 15 rfl rfl)
theorem dJ21_getLongUnaligned_88 : decode cJ21_getLongUnaligned 88 = .ok (.invokevirtual 47, 3) := dk_182 0 47 (dk_at dksJ21_getLongUnaligned_3 16 rfl rfl)
theorem dJ21_getLongUnaligned_91 : decode cJ21_getLongUnaligned 91 = .ok (.invokestatic 704, 3) := dk_184 2 192 (dk_at dksJ21_getLongUnaligned_3 19 rfl rfl)
theorem dJ21_getLongUnaligned_94 : decode cJ21_getLongUnaligned 94 = .ok (.lreturn, 1) := dk_173 (dk_at dksJ21_getLongUnaligned_3 22 rfl rfl)
theorem dJ21_getLongUnaligned_95 : decode cJ21_getLongUnaligned 95 = .ok (.aload_n 0, 1) := dk_42 (dk_at dksJ21_getLongUnaligned_3 23 rfl rfl)
theorem dJ21_getLongUnaligned_96 : decode cJ21_getLongUnaligned 96 = .ok (.aload_n 1, 1) := dk_43 (dk_at dksJ21_getLongUnaligned_4 0 rfl rfl)
theorem dJ21_getLongUnaligned_97 : decode cJ21_getLongUnaligned 97 = .ok (.lload_n 2, 1) := dk_32 (dk_at dksJ21_getLongUnaligned_4 1 rfl rfl)
theorem dJ21_getLongUnaligned_98 : decode cJ21_getLongUnaligned 98 = .ok (.invokevirtual 39, 3) := dk_182 0 39 (dk_at dksJ21_getLongUnaligned_4 2 rfl rfl)
theorem dJ21_getLongUnaligned_101 : decode cJ21_getLongUnaligned 101 = .ok (.aload_n 0, 1) := dk_42 (dk_at dksJ21_getLongUnaligned_4 5 rfl rfl)
theorem dJ21_getLongUnaligned_102 : decode cJ21_getLongUnaligned 102 = .ok (.aload_n 1, 1) := dk_43 (dk_at dksJ21_getLongUnaligned_4 6 rfl rfl)
theorem dJ21_getLongUnaligned_103 : decode cJ21_getLongUnaligned 103 = .ok (.lload_n 2, 1) := dk_32 (dk_at dksJ21_getLongUnaligned_4 7 rfl rfl)
theorem dJ21_getLongUnaligned_104 : decode cJ21_getLongUnaligned 104 = .ok (.lconst 1, 1) := dk_10 (dk_at dksJ21_getLongUnaligned_4 8 rfl rfl)
theorem dJ21_getLongUnaligned_105 : decode cJ21_getLongUnaligned 105 = .ok (.ladd, 1) := dk_97 (dk_at dksJ21_getLongUnaligned_4 9 rfl rfl)
theorem dJ21_getLongUnaligned_106 : decode cJ21_getLongUnaligned 106 = .ok (.invokevirtual 39, 3) := dk_182 0 39 (dk_at dksJ21_getLongUnaligned_4 10 rfl rfl)
theorem dJ21_getLongUnaligned_109 : decode cJ21_getLongUnaligned 109 = .ok (.aload_n 0, 1) := dk_42 (dk_at dksJ21_getLongUnaligned_4 13 rfl rfl)
theorem dJ21_getLongUnaligned_110 : decode cJ21_getLongUnaligned 110 = .ok (.aload_n 1, 1) := dk_43 (dk_at dksJ21_getLongUnaligned_4 14 rfl rfl)
theorem dJ21_getLongUnaligned_111 : decode cJ21_getLongUnaligned 111 = .ok (.lload_n 2, 1) := dk_32 (dk_at dksJ21_getLongUnaligned_4 15 rfl rfl)
theorem dJ21_getLongUnaligned_112 : decode cJ21_getLongUnaligned 112 = .ok (.ldc2_w 203, 3) := dk_20 0 203 (dk_at dksJ21_getLongUnaligned_4 16 rfl rfl)
theorem dJ21_getLongUnaligned_115 : decode cJ21_getLongUnaligned 115 = .ok (.ladd, 1) := dk_97 (dk_at dksJ21_getLongUnaligned_4 19 rfl rfl)
theorem dJ21_getLongUnaligned_116 : decode cJ21_getLongUnaligned 116 = .ok (.invokevirtual 39, 3) := dk_182 0 39 (dk_at dksJ21_getLongUnaligned_4 20 rfl rfl)
theorem dJ21_getLongUnaligned_119 : decode cJ21_getLongUnaligned 119 = .ok (.aload_n 0, 1) := dk_42 (dk_at dksJ21_getLongUnaligned_4 23 rfl rfl)
theorem dJ21_getLongUnaligned_120 : decode cJ21_getLongUnaligned 120 = .ok (.aload_n 1, 1) := dk_43 (dk_at dksJ21_getLongUnaligned_5 0 rfl rfl)
theorem dJ21_getLongUnaligned_121 : decode cJ21_getLongUnaligned 121 = .ok (.lload_n 2, 1) := dk_32 (dk_at dksJ21_getLongUnaligned_5 1 rfl rfl)
theorem dJ21_getLongUnaligned_122 : decode cJ21_getLongUnaligned 122 = .ok (.ldc2_w 349, 3) := dk_20 1 93 (dk_at dksJ21_getLongUnaligned_5 2 rfl rfl)
theorem dJ21_getLongUnaligned_125 : decode cJ21_getLongUnaligned 125 = .ok (.ladd, 1) := dk_97 (dk_at dksJ21_getLongUnaligned_5 5 rfl rfl)
theorem dJ21_getLongUnaligned_126 : decode cJ21_getLongUnaligned 126 = .ok (.invokevirtual 39, 3) := dk_182 0 39 (dk_at dksJ21_getLongUnaligned_5 6 rfl rfl)
theorem dJ21_getLongUnaligned_129 : decode cJ21_getLongUnaligned 129 = .ok (.aload_n 0, 1) := dk_42 (dk_at dksJ21_getLongUnaligned_5 9 rfl rfl)
theorem dJ21_getLongUnaligned_130 : decode cJ21_getLongUnaligned 130 = .ok (.aload_n 1, 1) := dk_43 (dk_at dksJ21_getLongUnaligned_5 10 rfl rfl)
theorem dJ21_getLongUnaligned_131 : decode cJ21_getLongUnaligned 131 = .ok (.lload_n 2, 1) := dk_32 (dk_at dksJ21_getLongUnaligned_5 11 rfl rfl)
theorem dJ21_getLongUnaligned_132 : decode cJ21_getLongUnaligned 132 = .ok (.ldc2_w 205, 3) := dk_20 0 205 (dk_at dksJ21_getLongUnaligned_5 12 rfl rfl)
theorem dJ21_getLongUnaligned_135 : decode cJ21_getLongUnaligned 135 = .ok (.ladd, 1) := dk_97 (dk_at dksJ21_getLongUnaligned_5 15 rfl rfl)
theorem dJ21_getLongUnaligned_136 : decode cJ21_getLongUnaligned 136 = .ok (.invokevirtual 39, 3) := dk_182 0 39 (dk_at dksJ21_getLongUnaligned_5 16 rfl rfl)
theorem dJ21_getLongUnaligned_139 : decode cJ21_getLongUnaligned 139 = .ok (.aload_n 0, 1) := dk_42 (dk_at dksJ21_getLongUnaligned_5 19 rfl rfl)
theorem dJ21_getLongUnaligned_140 : decode cJ21_getLongUnaligned 140 = .ok (.aload_n 1, 1) := dk_43 (dk_at dksJ21_getLongUnaligned_5 20 rfl rfl)
theorem dJ21_getLongUnaligned_141 : decode cJ21_getLongUnaligned 141 = .ok (.lload_n 2, 1) := dk_32 (dk_at dksJ21_getLongUnaligned_5 21 rfl rfl)
theorem dJ21_getLongUnaligned_142 : decode cJ21_getLongUnaligned 142 = .ok (.ldc2_w 707, 3) := dk_20 2 195 (dk_at dksJ21_getLongUnaligned_6 0 rfl rfl)
theorem dJ21_getLongUnaligned_145 : decode cJ21_getLongUnaligned 145 = .ok (.ladd, 1) := dk_97 (dk_at dksJ21_getLongUnaligned_6 3 rfl rfl)
theorem dJ21_getLongUnaligned_146 : decode cJ21_getLongUnaligned 146 = .ok (.invokevirtual 39, 3) := dk_182 0 39 (dk_at dksJ21_getLongUnaligned_6 4 rfl rfl)
theorem dJ21_getLongUnaligned_149 : decode cJ21_getLongUnaligned 149 = .ok (.aload_n 0, 1) := dk_42 (dk_at dksJ21_getLongUnaligned_6 7 rfl rfl)
theorem dJ21_getLongUnaligned_150 : decode cJ21_getLongUnaligned 150 = .ok (.aload_n 1, 1) := dk_43 (dk_at dksJ21_getLongUnaligned_6 8 rfl rfl)
theorem dJ21_getLongUnaligned_151 : decode cJ21_getLongUnaligned 151 = .ok (.lload_n 2, 1) := dk_32 (dk_at dksJ21_getLongUnaligned_6 9 rfl rfl)
theorem dJ21_getLongUnaligned_152 : decode cJ21_getLongUnaligned 152 = .ok (.ldc2_w 702, 3) := dk_20 2 190 (dk_at dksJ21_getLongUnaligned_6 10 rfl rfl)
theorem dJ21_getLongUnaligned_155 : decode cJ21_getLongUnaligned 155 = .ok (.ladd, 1) := dk_97 (dk_at dksJ21_getLongUnaligned_6 13 rfl rfl)
theorem dJ21_getLongUnaligned_156 : decode cJ21_getLongUnaligned 156 = .ok (.invokevirtual 39, 3) := dk_182 0 39 (dk_at dksJ21_getLongUnaligned_6 14 rfl rfl)
theorem dJ21_getLongUnaligned_159 : decode cJ21_getLongUnaligned 159 = .ok (.aload_n 0, 1) := dk_42 (dk_at dksJ21_getLongUnaligned_6 17 rfl rfl)
theorem dJ21_getLongUnaligned_160 : decode cJ21_getLongUnaligned 160 = .ok (.aload_n 1, 1) := dk_43 (dk_at dksJ21_getLongUnaligned_6 18 rfl rfl)
theorem dJ21_getLongUnaligned_161 : decode cJ21_getLongUnaligned 161 = .ok (.lload_n 2, 1) := dk_32 (dk_at dksJ21_getLongUnaligned_6 19 rfl rfl)
theorem dJ21_getLongUnaligned_162 : decode cJ21_getLongUnaligned 162 = .ok (.ldc2_w 696, 3) := dk_20 2 184 (dk_at dksJ21_getLongUnaligned_6 20 rfl rfl)
theorem dJ21_getLongUnaligned_165 : decode cJ21_getLongUnaligned 165 = .ok (.ladd, 1) := dk_97 (dk_at dksJ21_getLongUnaligned_6 23 rfl rfl)
theorem dJ21_getLongUnaligned_166 : decode cJ21_getLongUnaligned 166 = .ok (.invokevirtual 39, 3) := dk_182 0 39 (dk_at dksJ21_getLongUnaligned_7 0 rfl rfl)
theorem dJ21_getLongUnaligned_169 : decode cJ21_getLongUnaligned 169 = .ok (.invokestatic 709, 3) := dk_184 2 197 (dk_at dksJ21_getLongUnaligned_7 3 rfl rfl)
theorem dJ21_getLongUnaligned_172 : decode cJ21_getLongUnaligned 172 = .ok (.lreturn, 1) := dk_173 (dk_at dksJ21_getLongUnaligned_7 6 rfl rfl)
theorem q127 : (Jvm.Cond.initialized "jdk/internal/misc/Unsafe") ∈ lw_all := lw_g (lw_at lw_m1 26 rfl) rfl
theorem q321 : (Jvm.Cond.selects "jdk/internal/misc/Unsafe" ({ cls := "java/lang/Object", name := "getClass", desc := "()Ljava/lang/Class;" } : Jvm.MethodName) ({ cls := "java/lang/Object", name := "getClass", desc := "()Ljava/lang/Class;" } : Jvm.MethodName)) ∈ lw_all := lw_g (lw_at lw_m1 220 rfl) rfl
theorem q759 : (Jvm.Cond.laysStatic "jdk/internal/misc/Unsafe" "ARRAY_INT_BASE_OFFSET" "I") ∈ lw_tbl := lw_at lw_m3 178 rfl
theorem q770 : (Jvm.Cond.instanceMethod ({ cls := "jdk/internal/misc/Unsafe", name := "getLongUnaligned", desc := "(Ljava/lang/Object;J)J" } : Jvm.MethodName)) ∈ lw_all := lw_g (lw_at lw_m3 189 rfl) rfl
theorem q771 : (Jvm.Cond.selects "jdk/internal/misc/Unsafe" ({ cls := "jdk/internal/misc/Unsafe", name := "getLongUnaligned", desc := "(Ljava/lang/Object;J)J" } : Jvm.MethodName) ({ cls := "jdk/internal/misc/Unsafe", name := "getLongUnaligned", desc := "(Ljava/lang/Object;J)J" } : Jvm.MethodName)) ∈ lw_all := lw_g (lw_at lw_m3 190 rfl) rfl
theorem q772 : (Jvm.Cond.code ({ cls := "jdk/internal/misc/Unsafe", name := "getLongUnaligned", desc := "(Ljava/lang/Object;J)J" } : Jvm.MethodName) prog_83_method_334_code (4 : Nat) (Option.some Jvm.ClassFile.FieldType.long)) ∈ lw_all := lw_g (lw_at lw_m3 191 rfl) rfl
theorem q773 : (Jvm.Cond.constantLong "jdk/internal/misc/Unsafe" (696 : Nat) (7 : Int64)) ∈ lw_all := lw_g (lw_at lw_m3 192 rfl) rfl
theorem q774 : (Jvm.Cond.methodLink "jdk/internal/misc/Unsafe" (27 : Nat) ({ cls := "jdk/internal/misc/Unsafe", name := "getLong", desc := "(Ljava/lang/Object;J)J" } : Jvm.MethodName)) ∈ lw_all := lw_g (lw_at lw_m3 193 rfl) rfl
theorem q775 : (Jvm.Cond.instanceMethod ({ cls := "jdk/internal/misc/Unsafe", name := "getLong", desc := "(Ljava/lang/Object;J)J" } : Jvm.MethodName)) ∈ lw_all := lw_g (lw_at lw_m3 194 rfl) rfl
theorem q776 : (Jvm.Cond.selects "jdk/internal/misc/Unsafe" ({ cls := "jdk/internal/misc/Unsafe", name := "getLong", desc := "(Ljava/lang/Object;J)J" } : Jvm.MethodName) ({ cls := "jdk/internal/misc/Unsafe", name := "getLong", desc := "(Ljava/lang/Object;J)J" } : Jvm.MethodName)) ∈ lw_all := lw_g (lw_at lw_m3 195 rfl) rfl
theorem q777 : (Jvm.Cond.native ({ cls := "jdk/internal/misc/Unsafe", name := "getLong", desc := "(Ljava/lang/Object;J)J" } : Jvm.MethodName)) ∈ lw_all := lw_g (lw_at lw_m3 196 rfl) rfl
theorem q778 : (Jvm.Cond.constantLong "jdk/internal/misc/Unsafe" (349 : Nat) (3 : Int64)) ∈ lw_all := lw_g (lw_at lw_m3 197 rfl) rfl
theorem q779 : (Jvm.Cond.methodLink "jdk/internal/misc/Unsafe" (17 : Nat) ({ cls := "jdk/internal/misc/Unsafe", name := "getInt", desc := "(Ljava/lang/Object;J)I" } : Jvm.MethodName)) ∈ lw_all := lw_g (lw_at lw_m3 198 rfl) rfl
theorem q780 : (Jvm.Cond.instanceMethod ({ cls := "jdk/internal/misc/Unsafe", name := "getInt", desc := "(Ljava/lang/Object;J)I" } : Jvm.MethodName)) ∈ lw_all := lw_g (lw_at lw_m3 199 rfl) rfl
theorem q781 : (Jvm.Cond.selects "jdk/internal/misc/Unsafe" ({ cls := "jdk/internal/misc/Unsafe", name := "getInt", desc := "(Ljava/lang/Object;J)I" } : Jvm.MethodName) ({ cls := "jdk/internal/misc/Unsafe", name := "getInt", desc := "(Ljava/lang/Object;J)I" } : Jvm.MethodName)) ∈ lw_all := lw_g (lw_at lw_m3 200 rfl) rfl
theorem q782 : (Jvm.Cond.native ({ cls := "jdk/internal/misc/Unsafe", name := "getInt", desc := "(Ljava/lang/Object;J)I" } : Jvm.MethodName)) ∈ lw_all := lw_g (lw_at lw_m3 201 rfl) rfl
theorem q783 : (Jvm.Cond.constantLong "jdk/internal/misc/Unsafe" (205 : Nat) (4 : Int64)) ∈ lw_all := lw_g (lw_at lw_m3 202 rfl) rfl
theorem q784 : (Jvm.Cond.methodLink "jdk/internal/misc/Unsafe" (698 : Nat) ({ cls := "jdk/internal/misc/Unsafe", name := "makeLong", desc := "(II)J" } : Jvm.MethodName)) ∈ lw_all := lw_g (lw_at lw_m3 203 rfl) rfl
theorem q785 : (Jvm.Cond.static ({ cls := "jdk/internal/misc/Unsafe", name := "makeLong", desc := "(II)J" } : Jvm.MethodName)) ∈ lw_all := lw_g (lw_at lw_m3 204 rfl) rfl
theorem q786 : (Jvm.Cond.code ({ cls := "jdk/internal/misc/Unsafe", name := "makeLong", desc := "(II)J" } : Jvm.MethodName) prog_83_method_353_code (2 : Nat) (Option.some Jvm.ClassFile.FieldType.long)) ∈ lw_all := lw_g (lw_at lw_m3 205 rfl) rfl
theorem q787 : (Jvm.Cond.methodLink "jdk/internal/misc/Unsafe" (791 : Nat) ({ cls := "jdk/internal/misc/Unsafe", name := "toUnsignedLong", desc := "(I)J" } : Jvm.MethodName)) ∈ lw_all := lw_g (lw_at lw_m3 206 rfl) rfl
theorem q788 : (Jvm.Cond.static ({ cls := "jdk/internal/misc/Unsafe", name := "toUnsignedLong", desc := "(I)J" } : Jvm.MethodName)) ∈ lw_all := lw_g (lw_at lw_m3 207 rfl) rfl
theorem q789 : (Jvm.Cond.code ({ cls := "jdk/internal/misc/Unsafe", name := "toUnsignedLong", desc := "(I)J" } : Jvm.MethodName) prog_83_method_370_code (1 : Nat) (Option.some Jvm.ClassFile.FieldType.long)) ∈ lw_all := lw_g (lw_at lw_m3 208 rfl) rfl
theorem q790 : (Jvm.Cond.constantLong "jdk/internal/misc/Unsafe" (812 : Nat) (4294967295 : Int64)) ∈ lw_all := lw_g (lw_at lw_m3 209 rfl) rfl
theorem q791 : (Jvm.Cond.methodLink "jdk/internal/misc/Unsafe" (784 : Nat) ({ cls := "jdk/internal/misc/Unsafe", name := "pickPos", desc := "(II)I" } : Jvm.MethodName)) ∈ lw_all := lw_g (lw_at lw_m3 210 rfl) rfl
theorem q792 : (Jvm.Cond.static ({ cls := "jdk/internal/misc/Unsafe", name := "pickPos", desc := "(II)I" } : Jvm.MethodName)) ∈ lw_all := lw_g (lw_at lw_m3 211 rfl) rfl
theorem q793 : (Jvm.Cond.code ({ cls := "jdk/internal/misc/Unsafe", name := "pickPos", desc := "(II)I" } : Jvm.MethodName) prog_83_method_350_code (2 : Nat) (Option.some Jvm.ClassFile.FieldType.int)) ∈ lw_all := lw_g (lw_at lw_m3 212 rfl) rfl
theorem q794 : (Jvm.Cond.fieldLink "jdk/internal/misc/Unsafe" (351 : Nat) "jdk/internal/misc/UnsafeConstants" "BIG_ENDIAN" "Z") ∈ lw_all := lw_g (lw_at lw_m3 213 rfl) rfl
theorem q796 : (Jvm.Cond.methodLink "jdk/internal/misc/Unsafe" (47 : Nat) ({ cls := "jdk/internal/misc/Unsafe", name := "getShort", desc := "(Ljava/lang/Object;J)S" } : Jvm.MethodName)) ∈ lw_all := lw_g (lw_at lw_m3 215 rfl) rfl
theorem q797 : (Jvm.Cond.instanceMethod ({ cls := "jdk/internal/misc/Unsafe", name := "getShort", desc := "(Ljava/lang/Object;J)S" } : Jvm.MethodName)) ∈ lw_all := lw_g (lw_at lw_m3 216 rfl) rfl
theorem q798 : (Jvm.Cond.selects "jdk/internal/misc/Unsafe" ({ cls := "jdk/internal/misc/Unsafe", name := "getShort", desc := "(Ljava/lang/Object;J)S" } : Jvm.MethodName) ({ cls := "jdk/internal/misc/Unsafe", name := "getShort", desc := "(Ljava/lang/Object;J)S" } : Jvm.MethodName)) ∈ lw_all := lw_g (lw_at lw_m3 217 rfl) rfl
theorem q799 : (Jvm.Cond.native ({ cls := "jdk/internal/misc/Unsafe", name := "getShort", desc := "(Ljava/lang/Object;J)S" } : Jvm.MethodName)) ∈ lw_all := lw_g (lw_at lw_m3 218 rfl) rfl
theorem q800 : (Jvm.Cond.constantLong "jdk/internal/misc/Unsafe" (203 : Nat) (2 : Int64)) ∈ lw_all := lw_g (lw_at lw_m3 219 rfl) rfl
theorem q801 : (Jvm.Cond.constantLong "jdk/internal/misc/Unsafe" (702 : Nat) (6 : Int64)) ∈ lw_all := lw_g (lw_at lw_m3 220 rfl) rfl
theorem q802 : (Jvm.Cond.methodLink "jdk/internal/misc/Unsafe" (704 : Nat) ({ cls := "jdk/internal/misc/Unsafe", name := "makeLong", desc := "(SSSS)J" } : Jvm.MethodName)) ∈ lw_all := lw_g (lw_at lw_m3 221 rfl) rfl
theorem q803 : (Jvm.Cond.static ({ cls := "jdk/internal/misc/Unsafe", name := "makeLong", desc := "(SSSS)J" } : Jvm.MethodName)) ∈ lw_all := lw_g (lw_at lw_m3 222 rfl) rfl
theorem q804 : (Jvm.Cond.code ({ cls := "jdk/internal/misc/Unsafe", name := "makeLong", desc := "(SSSS)J" } : Jvm.MethodName) prog_83_method_352_code (4 : Nat) (Option.some Jvm.ClassFile.FieldType.long)) ∈ lw_all := lw_g (lw_at lw_m3 223 rfl) rfl
theorem q805 : (Jvm.Cond.methodLink "jdk/internal/misc/Unsafe" (788 : Nat) ({ cls := "jdk/internal/misc/Unsafe", name := "toUnsignedLong", desc := "(S)J" } : Jvm.MethodName)) ∈ lw_all := lw_g (lw_at lw_m3 224 rfl) rfl
theorem q806 : (Jvm.Cond.static ({ cls := "jdk/internal/misc/Unsafe", name := "toUnsignedLong", desc := "(S)J" } : Jvm.MethodName)) ∈ lw_all := lw_g (lw_at lw_m3 225 rfl) rfl
theorem q807 : (Jvm.Cond.code ({ cls := "jdk/internal/misc/Unsafe", name := "toUnsignedLong", desc := "(S)J" } : Jvm.MethodName) prog_83_method_369_code (1 : Nat) (Option.some Jvm.ClassFile.FieldType.long)) ∈ lw_all := lw_g (lw_at lw_m3 226 rfl) rfl
theorem q808 : (Jvm.Cond.constantLong "jdk/internal/misc/Unsafe" (810 : Nat) (65535 : Int64)) ∈ lw_all := lw_g (lw_at lw_m3 227 rfl) rfl
theorem q809 : (Jvm.Cond.methodLink "jdk/internal/misc/Unsafe" (39 : Nat) ({ cls := "jdk/internal/misc/Unsafe", name := "getByte", desc := "(Ljava/lang/Object;J)B" } : Jvm.MethodName)) ∈ lw_all := lw_g (lw_at lw_m3 228 rfl) rfl
theorem q810 : (Jvm.Cond.instanceMethod ({ cls := "jdk/internal/misc/Unsafe", name := "getByte", desc := "(Ljava/lang/Object;J)B" } : Jvm.MethodName)) ∈ lw_all := lw_g (lw_at lw_m3 229 rfl) rfl
theorem q811 : (Jvm.Cond.selects "jdk/internal/misc/Unsafe" ({ cls := "jdk/internal/misc/Unsafe", name := "getByte", desc := "(Ljava/lang/Object;J)B" } : Jvm.MethodName) ({ cls := "jdk/internal/misc/Unsafe", name := "getByte", desc := "(Ljava/lang/Object;J)B" } : Jvm.MethodName)) ∈ lw_all := lw_g (lw_at lw_m3 230 rfl) rfl
theorem q812 : (Jvm.Cond.native ({ cls := "jdk/internal/misc/Unsafe", name := "getByte", desc := "(Ljava/lang/Object;J)B" } : Jvm.MethodName)) ∈ lw_all := lw_g (lw_at lw_m3 231 rfl) rfl
theorem q813 : (Jvm.Cond.constantLong "jdk/internal/misc/Unsafe" (707 : Nat) (5 : Int64)) ∈ lw_all := lw_g (lw_at lw_m3 232 rfl) rfl
theorem q814 : (Jvm.Cond.methodLink "jdk/internal/misc/Unsafe" (709 : Nat) ({ cls := "jdk/internal/misc/Unsafe", name := "makeLong", desc := "(BBBBBBBB)J" } : Jvm.MethodName)) ∈ lw_all := lw_g (lw_at lw_m3 233 rfl) rfl
theorem q815 : (Jvm.Cond.static ({ cls := "jdk/internal/misc/Unsafe", name := "makeLong", desc := "(BBBBBBBB)J" } : Jvm.MethodName)) ∈ lw_all := lw_g (lw_at lw_m3 234 rfl) rfl
theorem q816 : (Jvm.Cond.code ({ cls := "jdk/internal/misc/Unsafe", name := "makeLong", desc := "(BBBBBBBB)J" } : Jvm.MethodName) prog_83_method_351_code (8 : Nat) (Option.some Jvm.ClassFile.FieldType.long)) ∈ lw_all := lw_g (lw_at lw_m3 235 rfl) rfl
theorem q817 : (Jvm.Cond.methodLink "jdk/internal/misc/Unsafe" (781 : Nat) ({ cls := "jdk/internal/misc/Unsafe", name := "toUnsignedLong", desc := "(B)J" } : Jvm.MethodName)) ∈ lw_all := lw_g (lw_at lw_m3 236 rfl) rfl
theorem q818 : (Jvm.Cond.static ({ cls := "jdk/internal/misc/Unsafe", name := "toUnsignedLong", desc := "(B)J" } : Jvm.MethodName)) ∈ lw_all := lw_g (lw_at lw_m3 237 rfl) rfl
theorem q819 : (Jvm.Cond.code ({ cls := "jdk/internal/misc/Unsafe", name := "toUnsignedLong", desc := "(B)J" } : Jvm.MethodName) prog_83_method_368_code (1 : Nat) (Option.some Jvm.ClassFile.FieldType.long)) ∈ lw_all := lw_g (lw_at lw_m3 238 rfl) rfl
theorem q820 : (Jvm.Cond.constantLong "jdk/internal/misc/Unsafe" (808 : Nat) (255 : Int64)) ∈ lw_all := lw_g (lw_at lw_m3 239 rfl) rfl
theorem q839 : (Jvm.Cond.instanceMethod ({ cls := "jdk/internal/misc/Unsafe", name := "getIntUnaligned", desc := "(Ljava/lang/Object;J)I" } : Jvm.MethodName)) ∈ lw_all := lw_g (lw_at lw_m4 18 rfl) rfl
theorem q840 : (Jvm.Cond.selects "jdk/internal/misc/Unsafe" ({ cls := "jdk/internal/misc/Unsafe", name := "getIntUnaligned", desc := "(Ljava/lang/Object;J)I" } : Jvm.MethodName) ({ cls := "jdk/internal/misc/Unsafe", name := "getIntUnaligned", desc := "(Ljava/lang/Object;J)I" } : Jvm.MethodName)) ∈ lw_all := lw_g (lw_at lw_m4 19 rfl) rfl
theorem q841 : (Jvm.Cond.code ({ cls := "jdk/internal/misc/Unsafe", name := "getIntUnaligned", desc := "(Ljava/lang/Object;J)I" } : Jvm.MethodName) prog_83_method_336_code (4 : Nat) (Option.some Jvm.ClassFile.FieldType.int)) ∈ lw_all := lw_g (lw_at lw_m4 20 rfl) rfl
theorem q842 : (Jvm.Cond.methodLink "jdk/internal/misc/Unsafe" (719 : Nat) ({ cls := "jdk/internal/misc/Unsafe", name := "makeInt", desc := "(SS)I" } : Jvm.MethodName)) ∈ lw_all := lw_g (lw_at lw_m4 21 rfl) rfl
theorem q843 : (Jvm.Cond.static ({ cls := "jdk/internal/misc/Unsafe", name := "makeInt", desc := "(SS)I" } : Jvm.MethodName)) ∈ lw_all := lw_g (lw_at lw_m4 22 rfl) rfl
theorem q844 : (Jvm.Cond.code ({ cls := "jdk/internal/misc/Unsafe", name := "makeInt", desc := "(SS)I" } : Jvm.MethodName) prog_83_method_354_code (2 : Nat) (Option.some Jvm.ClassFile.FieldType.int)) ∈ lw_all := lw_g (lw_at lw_m4 23 rfl) rfl
theorem q845 : (Jvm.Cond.methodLink "jdk/internal/misc/Unsafe" (792 : Nat) ({ cls := "jdk/internal/misc/Unsafe", name := "toUnsignedInt", desc := "(S)I" } : Jvm.MethodName)) ∈ lw_all := lw_g (lw_at lw_m4 24 rfl) rfl
theorem q846 : (Jvm.Cond.static ({ cls := "jdk/internal/misc/Unsafe", name := "toUnsignedInt", desc := "(S)I" } : Jvm.MethodName)) ∈ lw_all := lw_g (lw_at lw_m4 25 rfl) rfl
theorem q847 : (Jvm.Cond.code ({ cls := "jdk/internal/misc/Unsafe", name := "toUnsignedInt", desc := "(S)I" } : Jvm.MethodName) prog_83_method_367_code (1 : Nat) (Option.some Jvm.ClassFile.FieldType.int)) ∈ lw_all := lw_g (lw_at lw_m4 26 rfl) rfl
theorem q848 : (Jvm.Cond.constant "jdk/internal/misc/Unsafe" (374 : Nat) (65535 : Int32)) ∈ lw_all := lw_g (lw_at lw_m4 27 rfl) rfl
theorem q849 : (Jvm.Cond.methodLink "jdk/internal/misc/Unsafe" (723 : Nat) ({ cls := "jdk/internal/misc/Unsafe", name := "makeInt", desc := "(BBBB)I" } : Jvm.MethodName)) ∈ lw_all := lw_g (lw_at lw_m4 28 rfl) rfl
theorem q850 : (Jvm.Cond.static ({ cls := "jdk/internal/misc/Unsafe", name := "makeInt", desc := "(BBBB)I" } : Jvm.MethodName)) ∈ lw_all := lw_g (lw_at lw_m4 29 rfl) rfl
theorem q851 : (Jvm.Cond.code ({ cls := "jdk/internal/misc/Unsafe", name := "makeInt", desc := "(BBBB)I" } : Jvm.MethodName) prog_83_method_355_code (4 : Nat) (Option.some Jvm.ClassFile.FieldType.int)) ∈ lw_all := lw_g (lw_at lw_m4 30 rfl) rfl
theorem q852 : (Jvm.Cond.methodLink "jdk/internal/misc/Unsafe" (796 : Nat) ({ cls := "jdk/internal/misc/Unsafe", name := "toUnsignedInt", desc := "(B)I" } : Jvm.MethodName)) ∈ lw_all := lw_g (lw_at lw_m4 31 rfl) rfl
theorem q853 : (Jvm.Cond.static ({ cls := "jdk/internal/misc/Unsafe", name := "toUnsignedInt", desc := "(B)I" } : Jvm.MethodName)) ∈ lw_all := lw_g (lw_at lw_m4 32 rfl) rfl
theorem q854 : (Jvm.Cond.code ({ cls := "jdk/internal/misc/Unsafe", name := "toUnsignedInt", desc := "(B)I" } : Jvm.MethodName) prog_83_method_366_code (1 : Nat) (Option.some Jvm.ClassFile.FieldType.int)) ∈ lw_all := lw_g (lw_at lw_m4 33 rfl) rfl
theorem q887 : (Jvm.Cond.selects "jdk/internal/misc/Unsafe" ({ cls := "java/lang/Object", name := "equals", desc := "(Ljava/lang/Object;)Z" } : Jvm.MethodName) ({ cls := "java/lang/Object", name := "equals", desc := "(Ljava/lang/Object;)Z" } : Jvm.MethodName)) ∈ lw_all := lw_g (lw_at lw_m4 66 rfl) rfl
theorem q1610 : (Jvm.Cond.laysStatic "jdk/internal/misc/Unsafe" "ARRAY_BYTE_BASE_OFFSET" "I") ∈ lw_tbl := lw_at lw_m7 69 rfl
theorem q3311 : (Jvm.Cond.castable "jdk/internal/misc/Unsafe" "java/lang/Object") ∈ lw_tbl := lw_at lw_m14 90 rfl
/-! java/lang/Long -/
set_option maxRecDepth 100000
def RJ22 : String := "java/lang/Long"
def TJ22 : u_T := fun k => match k with
  | _ => ("java/lang/Long", "value", "J", true)
def tyJ22 : Nat → FieldType := fun k => match k with
  | _ => .long
abbrev wsJ220 : List Cond := u_ws RJ22 TJ22 1
theorem nmJ22 : ∀ a, a < 1 → ∀ b, b < 1 → a ≠ b → (TJ22 a).2.1 ≠ (TJ22 b).2.1 := by decide +kernel
theorem tyJ22_ok : ∀ k, k < 1 → parseFieldDescriptor (TJ22 k).2.2.1 = some (tyJ22 k) := by decide +kernel
abbrev cJ22_compare : ByteArray := prog_31_method_42_code
def yJ22_compare : MethodName := ⟨RJ22, "compare", "(JJ)I"⟩
def dkwJ22_compare_0 : List UInt8 := [30, 32, 148, 156, 0, 7, 2, 167, 0, 14, 30, 32, 148, 154, 0, 7, 3, 167, 0, 4, 4, 172]
abbrev dktJ22_compare_0 : List UInt8 := dkwJ22_compare_0 ++ []
theorem dksJ22_compare_0 : cJ22_compare.data.toList.drop 0 = dktJ22_compare_0 := by decide +kernel
theorem dJ22_compare_0 : decode cJ22_compare 0 = .ok (.lload_n 0, 1) := dk_30 (dk_at dksJ22_compare_0 0 rfl rfl)
theorem dJ22_compare_1 : decode cJ22_compare 1 = .ok (.lload_n 2, 1) := dk_32 (dk_at dksJ22_compare_0 1 rfl rfl)
theorem dJ22_compare_2 : decode cJ22_compare 2 = .ok (.lcmp, 1) := dk_148 (dk_at dksJ22_compare_0 2 rfl rfl)
theorem dJ22_compare_3 : decode cJ22_compare 3 = .ok (.ifCond .ge 7, 3) := dk_156 0 7 (dk_at dksJ22_compare_0 3 rfl rfl)
theorem dJ22_compare_6 : decode cJ22_compare 6 = .ok (.iconst (-1), 1) := dk_2 (dk_at dksJ22_compare_0 6 rfl rfl)
theorem dJ22_compare_7 : decode cJ22_compare 7 = .ok (.goto 14, 3) := dk_167 0 14 (dk_at dksJ22_compare_0 7 rfl rfl)
theorem dJ22_compare_10 : decode cJ22_compare 10 = .ok (.lload_n 0, 1) := dk_30 (dk_at dksJ22_compare_0 10 rfl rfl)
theorem dJ22_compare_11 : decode cJ22_compare 11 = .ok (.lload_n 2, 1) := dk_32 (dk_at dksJ22_compare_0 11 rfl rfl)
theorem dJ22_compare_12 : decode cJ22_compare 12 = .ok (.lcmp, 1) := dk_148 (dk_at dksJ22_compare_0 12 rfl rfl)
theorem dJ22_compare_13 : decode cJ22_compare 13 = .ok (.ifCond .ne 7, 3) := dk_154 0 7 (dk_at dksJ22_compare_0 13 rfl rfl)
theorem dJ22_compare_16 : decode cJ22_compare 16 = .ok (.iconst 0, 1) := dk_3 (dk_at dksJ22_compare_0 16 rfl rfl)
theorem dJ22_compare_17 : decode cJ22_compare 17 = .ok (.goto 4, 3) := dk_167 0 4 (dk_at dksJ22_compare_0 17 rfl rfl)
theorem dJ22_compare_20 : decode cJ22_compare 20 = .ok (.iconst 1, 1) := dk_4 (dk_at dksJ22_compare_0 20 rfl rfl)
theorem dJ22_compare_21 : decode cJ22_compare 21 = .ok (.ireturn, 1) := dk_172 (dk_at dksJ22_compare_0 21 rfl rfl)
abbrev cJ22_compareTo : ByteArray := prog_31_method_64_code
def yJ22_compareTo : MethodName := ⟨RJ22, "compareTo", "(Ljava/lang/Object;)I"⟩
def dkwJ22_compareTo_0 : List UInt8 := [42, 43, 192, 0, 1, 182, 1, 87, 172]
abbrev dktJ22_compareTo_0 : List UInt8 := dkwJ22_compareTo_0 ++ []
theorem dksJ22_compareTo_0 : cJ22_compareTo.data.toList.drop 0 = dktJ22_compareTo_0 := by decide +kernel
theorem dJ22_compareTo_0 : decode cJ22_compareTo 0 = .ok (.aload_n 0, 1) := dk_42 (dk_at dksJ22_compareTo_0 0 rfl rfl)
theorem dJ22_compareTo_1 : decode cJ22_compareTo 1 = .ok (.aload_n 1, 1) := dk_43 (dk_at dksJ22_compareTo_0 1 rfl rfl)
theorem dJ22_compareTo_2 : decode cJ22_compareTo 2 = .ok (.checkcast 1, 3) := dk_192 0 1 (dk_at dksJ22_compareTo_0 2 rfl rfl)
theorem dJ22_compareTo_5 : decode cJ22_compareTo 5 = .ok (.invokevirtual 343, 3) := dk_182 1 87 (dk_at dksJ22_compareTo_0 5 rfl rfl)
theorem dJ22_compareTo_8 : decode cJ22_compareTo 8 = .ok (.ireturn, 1) := dk_172 (dk_at dksJ22_compareTo_0 8 rfl rfl)
abbrev cJ22_compareTo_2 : ByteArray := prog_31_method_41_code
def yJ22_compareTo_2 : MethodName := ⟨RJ22, "compareTo", "(Ljava/lang/Long;)I"⟩
def dkwJ22_compareTo_2_0 : List UInt8 := [42, 180, 1, 17, 43, 180, 1, 17, 184, 1, 46, 172]
abbrev dktJ22_compareTo_2_0 : List UInt8 := dkwJ22_compareTo_2_0 ++ []
theorem dksJ22_compareTo_2_0 : cJ22_compareTo_2.data.toList.drop 0 = dktJ22_compareTo_2_0 := by decide +kernel
theorem dJ22_compareTo_2_0 : decode cJ22_compareTo_2 0 = .ok (.aload_n 0, 1) := dk_42 (dk_at dksJ22_compareTo_2_0 0 rfl rfl)
theorem dJ22_compareTo_2_1 : decode cJ22_compareTo_2 1 = .ok (.getfield 273, 3) := dk_180 1 17 (dk_at dksJ22_compareTo_2_0 1 rfl rfl)
theorem dJ22_compareTo_2_4 : decode cJ22_compareTo_2 4 = .ok (.aload_n 1, 1) := dk_43 (dk_at dksJ22_compareTo_2_0 4 rfl rfl)
theorem dJ22_compareTo_2_5 : decode cJ22_compareTo_2 5 = .ok (.getfield 273, 3) := dk_180 1 17 (dk_at dksJ22_compareTo_2_0 5 rfl rfl)
theorem dJ22_compareTo_2_8 : decode cJ22_compareTo_2 8 = .ok (.invokestatic 302, 3) := dk_184 1 46 (dk_at dksJ22_compareTo_2_0 8 rfl rfl)
theorem dJ22_compareTo_2_11 : decode cJ22_compareTo_2 11 = .ok (.ireturn, 1) := dk_172 (dk_at dksJ22_compareTo_2_0 11 rfl rfl)
abbrev cJ22_valueOf : ByteArray := prog_31_method_24_code
def yJ22_valueOf : MethodName := ⟨RJ22, "valueOf", "(J)Ljava/lang/Long;"⟩
def dkwJ22_valueOf_1 : List UInt8 := [136, 17, 0, 128, 96, 50, 176, 187, 0, 1, 89, 30, 183, 0, 240, 176]
abbrev dktJ22_valueOf_1 : List UInt8 := dkwJ22_valueOf_1 ++ []
def dkwJ22_valueOf_0 : List UInt8 := [17, 0, 128, 61, 30, 20, 0, 230, 148, 155, 0, 22, 30, 20, 0, 232, 148, 157, 0, 14, 178, 0, 234, 30]
abbrev dktJ22_valueOf_0 : List UInt8 := dkwJ22_valueOf_0 ++ dktJ22_valueOf_1
theorem dksJ22_valueOf_0 : cJ22_valueOf.data.toList.drop 0 = dktJ22_valueOf_0 := by decide +kernel
theorem dksJ22_valueOf_1 : cJ22_valueOf.data.toList.drop 24 = dktJ22_valueOf_1 := dk_seg dksJ22_valueOf_0 24 rfl rfl
theorem dJ22_valueOf_0 : decode cJ22_valueOf 0 = .ok (.sipush 128, 3) := dk_17 0 128 (dk_at dksJ22_valueOf_0 0 rfl rfl)
theorem dJ22_valueOf_3 : decode cJ22_valueOf 3 = .ok (.istore_n 2, 1) := dk_61 (dk_at dksJ22_valueOf_0 3 rfl rfl)
theorem dJ22_valueOf_4 : decode cJ22_valueOf 4 = .ok (.lload_n 0, 1) := dk_30 (dk_at dksJ22_valueOf_0 4 rfl rfl)
theorem dJ22_valueOf_5 : decode cJ22_valueOf 5 = .ok (.ldc2_w 230, 3) := dk_20 0 230 (dk_at dksJ22_valueOf_0 5 rfl rfl)
theorem dJ22_valueOf_8 : decode cJ22_valueOf 8 = .ok (.lcmp, 1) := dk_148 (dk_at dksJ22_valueOf_0 8 rfl rfl)
theorem dJ22_valueOf_9 : decode cJ22_valueOf 9 = .ok (.ifCond .lt 22, 3) := dk_155 0 22 (dk_at dksJ22_valueOf_0 9 rfl rfl)
theorem dJ22_valueOf_12 : decode cJ22_valueOf 12 = .ok (.lload_n 0, 1) := dk_30 (dk_at dksJ22_valueOf_0 12 rfl rfl)
theorem dJ22_valueOf_13 : decode cJ22_valueOf 13 = .ok (.ldc2_w 232, 3) := dk_20 0 232 (dk_at dksJ22_valueOf_0 13 rfl rfl)
theorem dJ22_valueOf_16 : decode cJ22_valueOf 16 = .ok (.lcmp, 1) := dk_148 (dk_at dksJ22_valueOf_0 16 rfl rfl)
theorem dJ22_valueOf_17 : decode cJ22_valueOf 17 = .ok (.ifCond .gt 14, 3) := dk_157 0 14 (dk_at dksJ22_valueOf_0 17 rfl rfl)
theorem dJ22_valueOf_20 : decode cJ22_valueOf 20 = .ok (.getstatic 234, 3) := dk_178 0 234 (dk_at dksJ22_valueOf_0 20 rfl rfl)
theorem dJ22_valueOf_23 : decode cJ22_valueOf 23 = .ok (.lload_n 0, 1) := dk_30 (dk_at dksJ22_valueOf_0 23 rfl rfl)
theorem dJ22_valueOf_24 : decode cJ22_valueOf 24 = .ok (.l2i, 1) := dk_136 (dk_at dksJ22_valueOf_1 0 rfl rfl)
theorem dJ22_valueOf_25 : decode cJ22_valueOf 25 = .ok (.sipush 128, 3) := dk_17 0 128 (dk_at dksJ22_valueOf_1 1 rfl rfl)
theorem dJ22_valueOf_28 : decode cJ22_valueOf 28 = .ok (.iadd, 1) := dk_96 (dk_at dksJ22_valueOf_1 4 rfl rfl)
theorem dJ22_valueOf_29 : decode cJ22_valueOf 29 = .ok (.aaload, 1) := dk_50 (dk_at dksJ22_valueOf_1 5 rfl rfl)
theorem dJ22_valueOf_30 : decode cJ22_valueOf 30 = .ok (.areturn, 1) := dk_176 (dk_at dksJ22_valueOf_1 6 rfl rfl)
theorem dJ22_valueOf_31 : decode cJ22_valueOf 31 = .ok (.new 1, 3) := dk_187 0 1 (dk_at dksJ22_valueOf_1 7 rfl rfl)
theorem dJ22_valueOf_34 : decode cJ22_valueOf 34 = .ok (.dup, 1) := dk_89 (dk_at dksJ22_valueOf_1 10 rfl rfl)
theorem dJ22_valueOf_35 : decode cJ22_valueOf 35 = .ok (.lload_n 0, 1) := dk_30 (dk_at dksJ22_valueOf_1 11 rfl rfl)
theorem dJ22_valueOf_36 : decode cJ22_valueOf 36 = .ok (.invokespecial 240, 3) := dk_183 0 240 (dk_at dksJ22_valueOf_1 12 rfl rfl)
theorem dJ22_valueOf_39 : decode cJ22_valueOf 39 = .ok (.areturn, 1) := dk_176 (dk_at dksJ22_valueOf_1 15 rfl rfl)
abbrev cJ22_init : ByteArray := prog_31_method_26_code
def yJ22_init : MethodName := ⟨RJ22, "<init>", "(J)V"⟩
def dkwJ22_init_0 : List UInt8 := [42, 183, 1, 14, 42, 31, 181, 1, 17, 177]
abbrev dktJ22_init_0 : List UInt8 := dkwJ22_init_0 ++ []
theorem dksJ22_init_0 : cJ22_init.data.toList.drop 0 = dktJ22_init_0 := by decide +kernel
theorem dJ22_init_0 : decode cJ22_init 0 = .ok (.aload_n 0, 1) := dk_42 (dk_at dksJ22_init_0 0 rfl rfl)
theorem dJ22_init_1 : decode cJ22_init 1 = .ok (.invokespecial 270, 3) := dk_183 1 14 (dk_at dksJ22_init_0 1 rfl rfl)
theorem dJ22_init_4 : decode cJ22_init 4 = .ok (.aload_n 0, 1) := dk_42 (dk_at dksJ22_init_0 4 rfl rfl)
theorem dJ22_init_5 : decode cJ22_init 5 = .ok (.lload_n 1, 1) := dk_31 (dk_at dksJ22_init_0 5 rfl rfl)
theorem dJ22_init_6 : decode cJ22_init 6 = .ok (.putfield 273, 3) := dk_181 1 17 (dk_at dksJ22_init_0 6 rfl rfl)
theorem dJ22_init_9 : decode cJ22_init 9 = .ok (.return_, 1) := dk_177 (dk_at dksJ22_init_0 9 rfl rfl)
theorem q129 : (Jvm.Cond.initialized "java/lang/Long") ∈ lw_all := lw_g (lw_at lw_m1 28 rfl) rfl
theorem q305 : (Jvm.Cond.selects "java/lang/Long" ({ cls := "java/lang/Object", name := "getClass", desc := "()Ljava/lang/Class;" } : Jvm.MethodName) ({ cls := "java/lang/Object", name := "getClass", desc := "()Ljava/lang/Class;" } : Jvm.MethodName)) ∈ lw_all := lw_g (lw_at lw_m1 204 rfl) rfl
theorem q824 : (Jvm.Cond.static ({ cls := "java/lang/Long", name := "numberOfLeadingZeros", desc := "(J)I" } : Jvm.MethodName)) ∈ lw_all := lw_g (lw_at lw_m4 3 rfl) rfl
theorem q825 : (Jvm.Cond.code ({ cls := "java/lang/Long", name := "numberOfLeadingZeros", desc := "(J)I" } : Jvm.MethodName) prog_31_method_48_code (3 : Nat) (Option.some Jvm.ClassFile.FieldType.int)) ∈ lw_all := lw_g (lw_at lw_m4 4 rfl) rfl
theorem q826 : (Jvm.Cond.methodLink "java/lang/Long" (308 : Nat) ({ cls := "java/lang/Integer", name := "numberOfLeadingZeros", desc := "(I)I" } : Jvm.MethodName)) ∈ lw_all := lw_g (lw_at lw_m4 5 rfl) rfl
theorem q833 : (Jvm.Cond.static ({ cls := "java/lang/Long", name := "numberOfTrailingZeros", desc := "(J)I" } : Jvm.MethodName)) ∈ lw_all := lw_g (lw_at lw_m4 12 rfl) rfl
theorem q834 : (Jvm.Cond.code ({ cls := "java/lang/Long", name := "numberOfTrailingZeros", desc := "(J)I" } : Jvm.MethodName) prog_31_method_49_code (3 : Nat) (Option.some Jvm.ClassFile.FieldType.int)) ∈ lw_all := lw_g (lw_at lw_m4 13 rfl) rfl
theorem q835 : (Jvm.Cond.methodLink "java/lang/Long" (311 : Nat) ({ cls := "java/lang/Integer", name := "numberOfTrailingZeros", desc := "(I)I" } : Jvm.MethodName)) ∈ lw_all := lw_g (lw_at lw_m4 14 rfl) rfl
theorem q871 : (Jvm.Cond.selects "java/lang/Long" ({ cls := "java/lang/Object", name := "equals", desc := "(Ljava/lang/Object;)Z" } : Jvm.MethodName) ({ cls := "java/lang/Long", name := "equals", desc := "(Ljava/lang/Object;)Z" } : Jvm.MethodName)) ∈ lw_all := lw_g (lw_at lw_m4 50 rfl) rfl
theorem q872 : (Jvm.Cond.instanceMethod ({ cls := "java/lang/Long", name := "equals", desc := "(Ljava/lang/Object;)Z" } : Jvm.MethodName)) ∈ lw_all := lw_g (lw_at lw_m4 51 rfl) rfl
theorem q873 : (Jvm.Cond.code ({ cls := "java/lang/Long", name := "equals", desc := "(Ljava/lang/Object;)Z" } : Jvm.MethodName) prog_31_method_37_code (2 : Nat) (Option.some Jvm.ClassFile.FieldType.boolean)) ∈ lw_all := lw_g (lw_at lw_m4 52 rfl) rfl
theorem q874 : (Jvm.Cond.classLink "java/lang/Long" (1 : Nat) "java/lang/Long") ∈ lw_all := lw_g (lw_at lw_m4 53 rfl) rfl
theorem q875 : (Jvm.Cond.methodLink "java/lang/Long" (280 : Nat) ({ cls := "java/lang/Long", name := "longValue", desc := "()J" } : Jvm.MethodName)) ∈ lw_all := lw_g (lw_at lw_m4 54 rfl) rfl
theorem q876 : (Jvm.Cond.instanceMethod ({ cls := "java/lang/Long", name := "longValue", desc := "()J" } : Jvm.MethodName)) ∈ lw_all := lw_g (lw_at lw_m4 55 rfl) rfl
theorem q877 : (Jvm.Cond.selects "java/lang/Long" ({ cls := "java/lang/Long", name := "longValue", desc := "()J" } : Jvm.MethodName) ({ cls := "java/lang/Long", name := "longValue", desc := "()J" } : Jvm.MethodName)) ∈ lw_all := lw_g (lw_at lw_m4 56 rfl) rfl
theorem q878 : (Jvm.Cond.code ({ cls := "java/lang/Long", name := "longValue", desc := "()J" } : Jvm.MethodName) prog_31_method_31_code (1 : Nat) (Option.some Jvm.ClassFile.FieldType.long)) ∈ lw_all := lw_g (lw_at lw_m4 57 rfl) rfl
theorem q1565 : (Jvm.Cond.static ({ cls := "java/lang/Long", name := "compare", desc := "(JJ)I" } : Jvm.MethodName)) ∈ lw_all := lw_g (lw_at lw_m7 24 rfl) rfl
theorem q1566 : (Jvm.Cond.code ({ cls := "java/lang/Long", name := "compare", desc := "(JJ)I" } : Jvm.MethodName) prog_31_method_42_code (4 : Nat) (Option.some Jvm.ClassFile.FieldType.int)) ∈ lw_all := lw_g (lw_at lw_m7 25 rfl) rfl
theorem q1578 : (Jvm.Cond.castable "java/lang/Long" "java/lang/Comparable") ∈ lw_tbl := lw_at lw_m7 37 rfl
theorem q1579 : (Jvm.Cond.selects "java/lang/Long" ({ cls := "java/lang/Comparable", name := "compareTo", desc := "(Ljava/lang/Object;)I" } : Jvm.MethodName) ({ cls := "java/lang/Long", name := "compareTo", desc := "(Ljava/lang/Object;)I" } : Jvm.MethodName)) ∈ lw_all := lw_g (lw_at lw_m7 38 rfl) rfl
theorem q1580 : (Jvm.Cond.unhidden "java/lang/Long" "compareTo" "(Ljava/lang/Object;)I") ∈ lw_tbl := lw_at lw_m7 39 rfl
theorem q1581 : (Jvm.Cond.instanceMethod ({ cls := "java/lang/Long", name := "compareTo", desc := "(Ljava/lang/Object;)I" } : Jvm.MethodName)) ∈ lw_all := lw_g (lw_at lw_m7 40 rfl) rfl
theorem q1582 : (Jvm.Cond.publicMethod ({ cls := "java/lang/Long", name := "compareTo", desc := "(Ljava/lang/Object;)I" } : Jvm.MethodName)) ∈ lw_tbl := lw_at lw_m7 41 rfl
theorem q1583 : (Jvm.Cond.code ({ cls := "java/lang/Long", name := "compareTo", desc := "(Ljava/lang/Object;)I" } : Jvm.MethodName) prog_31_method_64_code (2 : Nat) (Option.some Jvm.ClassFile.FieldType.int)) ∈ lw_all := lw_g (lw_at lw_m7 42 rfl) rfl
theorem q1584 : (Jvm.Cond.methodLink "java/lang/Long" (343 : Nat) ({ cls := "java/lang/Long", name := "compareTo", desc := "(Ljava/lang/Long;)I" } : Jvm.MethodName)) ∈ lw_all := lw_g (lw_at lw_m7 43 rfl) rfl
theorem q1585 : (Jvm.Cond.instanceMethod ({ cls := "java/lang/Long", name := "compareTo", desc := "(Ljava/lang/Long;)I" } : Jvm.MethodName)) ∈ lw_all := lw_g (lw_at lw_m7 44 rfl) rfl
theorem q1586 : (Jvm.Cond.selects "java/lang/Long" ({ cls := "java/lang/Long", name := "compareTo", desc := "(Ljava/lang/Long;)I" } : Jvm.MethodName) ({ cls := "java/lang/Long", name := "compareTo", desc := "(Ljava/lang/Long;)I" } : Jvm.MethodName)) ∈ lw_all := lw_g (lw_at lw_m7 45 rfl) rfl
theorem q1587 : (Jvm.Cond.code ({ cls := "java/lang/Long", name := "compareTo", desc := "(Ljava/lang/Long;)I" } : Jvm.MethodName) prog_31_method_41_code (2 : Nat) (Option.some Jvm.ClassFile.FieldType.int)) ∈ lw_all := lw_g (lw_at lw_m7 46 rfl) rfl
theorem q1588 : (Jvm.Cond.methodLink "java/lang/Long" (302 : Nat) ({ cls := "java/lang/Long", name := "compare", desc := "(JJ)I" } : Jvm.MethodName)) ∈ lw_all := lw_g (lw_at lw_m7 47 rfl) rfl
theorem q1791 : (Jvm.Cond.static ({ cls := "java/lang/Long", name := "valueOf", desc := "(J)Ljava/lang/Long;" } : Jvm.MethodName)) ∈ lw_all := lw_g (lw_at lw_m8 10 rfl) rfl
theorem q1792 : (Jvm.Cond.code ({ cls := "java/lang/Long", name := "valueOf", desc := "(J)Ljava/lang/Long;" } : Jvm.MethodName) prog_31_method_24_code (3 : Nat) (Option.some (Jvm.ClassFile.FieldType.object "java/lang/Long"))) ∈ lw_all := lw_g (lw_at lw_m8 11 rfl) rfl
theorem q1793 : (Jvm.Cond.constantLong "java/lang/Long" (230 : Nat) (-128 : Int64)) ∈ lw_all := lw_g (lw_at lw_m8 12 rfl) rfl
theorem q1794 : (Jvm.Cond.constantLong "java/lang/Long" (232 : Nat) (127 : Int64)) ∈ lw_all := lw_g (lw_at lw_m8 13 rfl) rfl
theorem q1795 : (Jvm.Cond.fieldLink "java/lang/Long" (234 : Nat) "java/lang/Long$LongCache" "cache" "[Ljava/lang/Long;") ∈ lw_all := lw_g (lw_at lw_m8 14 rfl) rfl
theorem q1797 : (Jvm.Cond.instantiable "java/lang/Long" (1 : Nat)) ∈ lw_all := lw_g (lw_at lw_m8 16 rfl) rfl
theorem q1798 : (Jvm.Cond.methodLink "java/lang/Long" (240 : Nat) ({ cls := "java/lang/Long", name := "<init>", desc := "(J)V" } : Jvm.MethodName)) ∈ lw_all := lw_g (lw_at lw_m8 17 rfl) rfl
theorem q1799 : (Jvm.Cond.instanceMethod ({ cls := "java/lang/Long", name := "<init>", desc := "(J)V" } : Jvm.MethodName)) ∈ lw_all := lw_g (lw_at lw_m8 18 rfl) rfl
theorem q1800 : (Jvm.Cond.code ({ cls := "java/lang/Long", name := "<init>", desc := "(J)V" } : Jvm.MethodName) prog_31_method_26_code (3 : Nat) (Option.none : Option Jvm.ClassFile.FieldType)) ∈ lw_all := lw_g (lw_at lw_m8 19 rfl) rfl
theorem q1801 : (Jvm.Cond.methodLink "java/lang/Long" (270 : Nat) ({ cls := "java/lang/Number", name := "<init>", desc := "()V" } : Jvm.MethodName)) ∈ lw_all := lw_g (lw_at lw_m8 20 rfl) rfl
theorem q1802 : (Jvm.Cond.fieldLink "java/lang/Long" (273 : Nat) "java/lang/Long" "value" "J") ∈ lw_all := lw_g (lw_at lw_m8 21 rfl) rfl
theorem q1803 : (Jvm.Cond.laysFinal "java/lang/Long" "java/lang/Long" "value" "J") ∈ lw_all := lw_g (lw_at lw_m8 22 rfl) rfl
theorem q1804 : (Jvm.Cond.soleField "java/lang/Long" "value") ∈ lw_all := lw_g (lw_at lw_m8 23 rfl) rfl
theorem q1805 : (Jvm.Cond.superclass "java/lang/Long" "java/lang/Number") ∈ lw_all := lw_g (lw_at lw_m8 24 rfl) rfl
theorem q3317 : (Jvm.Cond.castable "java/lang/Long" "java/lang/Object") ∈ lw_tbl := lw_at lw_m14 96 rfl
theorem in_J22 : ∀ w ∈ wsJ220, w ∈ lw_all := lw_in wsJ220 [1803] (by decide +kernel) (by decide +kernel)
/-! java/util/ArrayDeque -/
set_option maxRecDepth 100000
def RJ23 : String := "java/util/ArrayDeque"
def TJ23 : u_T := fun k => match k with
  | 0 => ("java/util/ArrayDeque", "elements", "[Ljava/lang/Object;", false)
  | 1 => ("java/util/ArrayDeque", "head", "I", false)
  | _ => ("java/util/ArrayDeque", "tail", "I", false)
def tyJ23 : Nat → FieldType := fun k => match k with
  | 0 => .array (.object "java/lang/Object")
  | 1 => .int
  | _ => .int
abbrev wsJ230 : List Cond := u_ws RJ23 TJ23 3
theorem nmJ23 : ∀ a, a < 3 → ∀ b, b < 3 → a ≠ b → (TJ23 a).2.1 ≠ (TJ23 b).2.1 := by decide +kernel
theorem tyJ23_ok : ∀ k, k < 3 → parseFieldDescriptor (TJ23 k).2.2.1 = some (tyJ23 k) := by decide +kernel
abbrev cJ23_init : ByteArray := prog_49_method_3_code
def yJ23_init : MethodName := ⟨RJ23, "<init>", "()V"⟩
def dkwJ23_init_0 : List UInt8 := [42, 183, 0, 42, 42, 16, 17, 189, 0, 47, 181, 0, 3, 177]
abbrev dktJ23_init_0 : List UInt8 := dkwJ23_init_0 ++ []
theorem dksJ23_init_0 : cJ23_init.data.toList.drop 0 = dktJ23_init_0 := by decide +kernel
theorem dJ23_init_0 : decode cJ23_init 0 = .ok (.aload_n 0, 1) := dk_42 (dk_at dksJ23_init_0 0 rfl rfl)
theorem dJ23_init_1 : decode cJ23_init 1 = .ok (.invokespecial 42, 3) := dk_183 0 42 (dk_at dksJ23_init_0 1 rfl rfl)
theorem dJ23_init_4 : decode cJ23_init 4 = .ok (.aload_n 0, 1) := dk_42 (dk_at dksJ23_init_0 4 rfl rfl)
theorem dJ23_init_5 : decode cJ23_init 5 = .ok (.bipush 17, 2) := dk_16 17 (dk_at dksJ23_init_0 5 rfl rfl)
theorem dJ23_init_7 : decode cJ23_init 7 = .ok (.anewarray 47, 3) := dk_189 0 47 (dk_at dksJ23_init_0 7 rfl rfl)
theorem dJ23_init_10 : decode cJ23_init 10 = .ok (.putfield 3, 3) := dk_181 0 3 (dk_at dksJ23_init_0 10 rfl rfl)
theorem dJ23_init_13 : decode cJ23_init 13 = .ok (.return_, 1) := dk_177 (dk_at dksJ23_init_0 13 rfl rfl)
abbrev cJ23_addLast : ByteArray := prog_49_method_13_code
def yJ23_addLast : MethodName := ⟨RJ23, "addLast", "(Ljava/lang/Object;)V"⟩
def dkwJ23_addLast_2 : List UInt8 := [182, 0, 71, 177]
abbrev dktJ23_addLast_2 : List UInt8 := dkwJ23_addLast_2 ++ []
def dkwJ23_addLast_1 : List UInt8 := [42, 180, 0, 24, 42, 42, 180, 0, 20, 44, 190, 184, 0, 74, 90, 181, 0, 20, 160, 0, 8, 42, 4]
abbrev dktJ23_addLast_1 : List UInt8 := dkwJ23_addLast_1 ++ dktJ23_addLast_2
def dkwJ23_addLast_0 : List UInt8 := [43, 199, 0, 11, 187, 0, 65, 89, 183, 0, 67, 191, 42, 180, 0, 3, 77, 44, 42, 180, 0, 20, 43, 83]
abbrev dktJ23_addLast_0 : List UInt8 := dkwJ23_addLast_0 ++ dktJ23_addLast_1
theorem dksJ23_addLast_0 : cJ23_addLast.data.toList.drop 0 = dktJ23_addLast_0 := by decide +kernel
theorem dksJ23_addLast_1 : cJ23_addLast.data.toList.drop 24 = dktJ23_addLast_1 := dk_seg dksJ23_addLast_0 24 rfl rfl
theorem dksJ23_addLast_2 : cJ23_addLast.data.toList.drop 47 = dktJ23_addLast_2 := dk_seg dksJ23_addLast_1 23 rfl rfl
theorem dJ23_addLast_0 : decode cJ23_addLast 0 = .ok (.aload_n 1, 1) := dk_43 (dk_at dksJ23_addLast_0 0 rfl rfl)
theorem dJ23_addLast_1 : decode cJ23_addLast 1 = .ok (.ifnonnull 11, 3) := dk_199 0 11 (dk_at dksJ23_addLast_0 1 rfl rfl)
theorem dJ23_addLast_4 : decode cJ23_addLast 4 = .ok (.new 65, 3) := dk_187 0 65 (dk_at dksJ23_addLast_0 4 rfl rfl)
theorem dJ23_addLast_7 : decode cJ23_addLast 7 = .ok (.dup, 1) := dk_89 (dk_at dksJ23_addLast_0 7 rfl rfl)
theorem dJ23_addLast_8 : decode cJ23_addLast 8 = .ok (.invokespecial 67, 3) := dk_183 0 67 (dk_at dksJ23_addLast_0 8 rfl rfl)
theorem dJ23_addLast_11 : decode cJ23_addLast 11 = .ok (.athrow, 1) := dk_191 (dk_at dksJ23_addLast_0 11 rfl rfl)
theorem dJ23_addLast_12 : decode cJ23_addLast 12 = .ok (.aload_n 0, 1) := dk_42 (dk_at dksJ23_addLast_0 12 rfl rfl)
theorem dJ23_addLast_13 : decode cJ23_addLast 13 = .ok (.getfield 3, 3) := dk_180 0 3 (dk_at dksJ23_addLast_0 13 rfl rfl)
theorem dJ23_addLast_16 : decode cJ23_addLast 16 = .ok (.astore_n 2, 1) := dk_77 (dk_at dksJ23_addLast_0 16 rfl rfl)
theorem dJ23_addLast_17 : decode cJ23_addLast 17 = .ok (.aload_n 2, 1) := dk_44 (dk_at dksJ23_addLast_0 17 rfl rfl)
theorem dJ23_addLast_18 : decode cJ23_addLast 18 = .ok (.aload_n 0, 1) := dk_42 (dk_at dksJ23_addLast_0 18 rfl rfl)
theorem dJ23_addLast_19 : decode cJ23_addLast 19 = .ok (.getfield 20, 3) := dk_180 0 20 (dk_at dksJ23_addLast_0 19 rfl rfl)
theorem dJ23_addLast_22 : decode cJ23_addLast 22 = .ok (.aload_n 1, 1) := dk_43 (dk_at dksJ23_addLast_0 22 rfl rfl)
theorem dJ23_addLast_23 : decode cJ23_addLast 23 = .ok (.aastore, 1) := dk_83 (dk_at dksJ23_addLast_0 23 rfl rfl)
theorem dJ23_addLast_24 : decode cJ23_addLast 24 = .ok (.aload_n 0, 1) := dk_42 (dk_at dksJ23_addLast_1 0 rfl rfl)
theorem dJ23_addLast_25 : decode cJ23_addLast 25 = .ok (.getfield 24, 3) := dk_180 0 24 (dk_at dksJ23_addLast_1 1 rfl rfl)
theorem dJ23_addLast_28 : decode cJ23_addLast 28 = .ok (.aload_n 0, 1) := dk_42 (dk_at dksJ23_addLast_1 4 rfl rfl)
theorem dJ23_addLast_29 : decode cJ23_addLast 29 = .ok (.aload_n 0, 1) := dk_42 (dk_at dksJ23_addLast_1 5 rfl rfl)
theorem dJ23_addLast_30 : decode cJ23_addLast 30 = .ok (.getfield 20, 3) := dk_180 0 20 (dk_at dksJ23_addLast_1 6 rfl rfl)
theorem dJ23_addLast_33 : decode cJ23_addLast 33 = .ok (.aload_n 2, 1) := dk_44 (dk_at dksJ23_addLast_1 9 rfl rfl)
theorem dJ23_addLast_34 : decode cJ23_addLast 34 = .ok (.arraylength, 1) := dk_190 (dk_at dksJ23_addLast_1 10 rfl rfl)
theorem dJ23_addLast_35 : decode cJ23_addLast 35 = .ok (.invokestatic 74, 3) := dk_184 0 74 (dk_at dksJ23_addLast_1 11 rfl rfl)
theorem dJ23_addLast_38 : decode cJ23_addLast 38 = .ok (.dup_x1, 1) := dk_90 (dk_at dksJ23_addLast_1 14 rfl rfl)
theorem dJ23_addLast_39 : decode cJ23_addLast 39 = .ok (.putfield 20, 3) := dk_181 0 20 (dk_at dksJ23_addLast_1 15 rfl rfl)
theorem dJ23_addLast_42 : decode cJ23_addLast 42 = .ok (.if_icmp .ne 8, 3) := dk_160 0 8 (dk_at dksJ23_addLast_1 18 rfl rfl)
theorem dJ23_addLast_45 : decode cJ23_addLast 45 = .ok (.aload_n 0, 1) := dk_42 (dk_at dksJ23_addLast_1 21 rfl rfl)
theorem dJ23_addLast_46 : decode cJ23_addLast 46 = .ok (.iconst 1, 1) := dk_4 (dk_at dksJ23_addLast_1 22 rfl rfl)
theorem dJ23_addLast_47 : decode cJ23_addLast 47 = .ok (.invokevirtual 71, 3) := dk_182 0 71 (dk_at dksJ23_addLast_2 0 rfl rfl)
theorem dJ23_addLast_50 : decode cJ23_addLast 50 = .ok (.return_, 1) := dk_177 (dk_at dksJ23_addLast_2 3 rfl rfl)
abbrev cJ23_inc : ByteArray := prog_49_method_6_code
def yJ23_inc : MethodName := ⟨RJ23, "inc", "(II)I"⟩
def dkwJ23_inc_0 : List UInt8 := [132, 0, 1, 26, 27, 161, 0, 5, 3, 59, 26, 172]
abbrev dktJ23_inc_0 : List UInt8 := dkwJ23_inc_0 ++ []
theorem dksJ23_inc_0 : cJ23_inc.data.toList.drop 0 = dktJ23_inc_0 := by decide +kernel
theorem dJ23_inc_0 : decode cJ23_inc 0 = .ok (.iinc 0 1, 3) := dk_132 0 1 (dk_at dksJ23_inc_0 0 rfl rfl)
theorem dJ23_inc_3 : decode cJ23_inc 3 = .ok (.iload_n 0, 1) := dk_26 (dk_at dksJ23_inc_0 3 rfl rfl)
theorem dJ23_inc_4 : decode cJ23_inc 4 = .ok (.iload_n 1, 1) := dk_27 (dk_at dksJ23_inc_0 4 rfl rfl)
theorem dJ23_inc_5 : decode cJ23_inc 5 = .ok (.if_icmp .lt 5, 3) := dk_161 0 5 (dk_at dksJ23_inc_0 5 rfl rfl)
theorem dJ23_inc_8 : decode cJ23_inc 8 = .ok (.iconst 0, 1) := dk_3 (dk_at dksJ23_inc_0 8 rfl rfl)
theorem dJ23_inc_9 : decode cJ23_inc 9 = .ok (.istore_n 0, 1) := dk_59 (dk_at dksJ23_inc_0 9 rfl rfl)
theorem dJ23_inc_10 : decode cJ23_inc 10 = .ok (.iload_n 0, 1) := dk_26 (dk_at dksJ23_inc_0 10 rfl rfl)
theorem dJ23_inc_11 : decode cJ23_inc 11 = .ok (.ireturn, 1) := dk_172 (dk_at dksJ23_inc_0 11 rfl rfl)
abbrev cJ23_grow : ByteArray := prog_49_method_1_code
def yJ23_grow : MethodName := ⟨RJ23, "grow", "(I)V"⟩
def dkwJ23_grow_7 : List UInt8 := [177]
abbrev dktJ23_grow_7 : List UInt8 := dkwJ23_grow_7 ++ []
def dkwJ23_grow_6 : List UInt8 := [181, 0, 24, 54, 8, 21, 7, 21, 8, 162, 0, 15, 25, 5, 21, 7, 1, 83, 132, 7, 1, 167, 255, 240]
abbrev dktJ23_grow_6 : List UInt8 := dkwJ23_grow_6 ++ dktJ23_grow_7
def dkwJ23_grow_5 : List UInt8 := [42, 180, 0, 24, 100, 184, 0, 27, 42, 180, 0, 24, 54, 7, 42, 89, 180, 0, 24, 21, 6, 96, 90]
abbrev dktJ23_grow_5 : List UInt8 := dkwJ23_grow_5 ++ dktJ23_grow_6
def dkwJ23_grow_4 : List UInt8 := [198, 0, 71, 29, 28, 100, 54, 6, 25, 5, 42, 180, 0, 24, 25, 5, 42, 180, 0, 24, 21, 6, 96, 28]
abbrev dktJ23_grow_4 : List UInt8 := dkwJ23_grow_4 ++ dktJ23_grow_5
def dkwJ23_grow_3 : List UInt8 := [180, 0, 24, 161, 0, 24, 42, 180, 0, 20, 42, 180, 0, 24, 160, 0, 81, 25, 5, 42, 180, 0, 24, 50]
abbrev dktJ23_grow_3 : List UInt8 := dkwJ23_grow_3 ++ dktJ23_grow_4
def dkwJ23_grow_2 : List UInt8 := [182, 0, 10, 62, 42, 42, 180, 0, 3, 29, 184, 0, 14, 90, 181, 0, 3, 58, 5, 42, 180, 0, 20, 42]
abbrev dktJ23_grow_2 : List UInt8 := dkwJ23_grow_2 ++ dktJ23_grow_3
def dkwJ23_grow_1 : List UInt8 := [21, 4, 27, 161, 0, 15, 28, 21, 4, 96, 89, 62, 18, 9, 100, 158, 0, 11, 42, 27, 21, 4]
abbrev dktJ23_grow_1 : List UInt8 := dkwJ23_grow_1 ++ dktJ23_grow_2
def dkwJ23_grow_0 : List UInt8 := [42, 180, 0, 3, 190, 61, 28, 16, 64, 162, 0, 9, 28, 5, 96, 167, 0, 6, 28, 4, 122, 54, 4]
abbrev dktJ23_grow_0 : List UInt8 := dkwJ23_grow_0 ++ dktJ23_grow_1
theorem dksJ23_grow_0 : cJ23_grow.data.toList.drop 0 = dktJ23_grow_0 := by decide +kernel
theorem dksJ23_grow_1 : cJ23_grow.data.toList.drop 23 = dktJ23_grow_1 := dk_seg dksJ23_grow_0 23 rfl rfl
theorem dksJ23_grow_2 : cJ23_grow.data.toList.drop 45 = dktJ23_grow_2 := dk_seg dksJ23_grow_1 22 rfl rfl
theorem dksJ23_grow_3 : cJ23_grow.data.toList.drop 69 = dktJ23_grow_3 := dk_seg dksJ23_grow_2 24 rfl rfl
theorem dksJ23_grow_4 : cJ23_grow.data.toList.drop 93 = dktJ23_grow_4 := dk_seg dksJ23_grow_3 24 rfl rfl
theorem dksJ23_grow_5 : cJ23_grow.data.toList.drop 117 = dktJ23_grow_5 := dk_seg dksJ23_grow_4 24 rfl rfl
theorem dksJ23_grow_6 : cJ23_grow.data.toList.drop 140 = dktJ23_grow_6 := dk_seg dksJ23_grow_5 23 rfl rfl
theorem dksJ23_grow_7 : cJ23_grow.data.toList.drop 164 = dktJ23_grow_7 := dk_seg dksJ23_grow_6 24 rfl rfl
theorem dJ23_grow_0 : decode cJ23_grow 0 = .ok (.aload_n 0, 1) := dk_42 (dk_at dksJ23_grow_0 0 rfl rfl)
theorem dJ23_grow_1 : decode cJ23_grow 1 = .ok (.getfield 3, 3) := dk_180 0 3 (dk_at dksJ23_grow_0 1 rfl rfl)
theorem dJ23_grow_4 : decode cJ23_grow 4 = .ok (.arraylength, 1) := dk_190 (dk_at dksJ23_grow_0 4 rfl rfl)
theorem dJ23_grow_5 : decode cJ23_grow 5 = .ok (.istore_n 2, 1) := dk_61 (dk_at dksJ23_grow_0 5 rfl rfl)
theorem dJ23_grow_6 : decode cJ23_grow 6 = .ok (.iload_n 2, 1) := dk_28 (dk_at dksJ23_grow_0 6 rfl rfl)
theorem dJ23_grow_7 : decode cJ23_grow 7 = .ok (.bipush 64, 2) := dk_16 64 (dk_at dksJ23_grow_0 7 rfl rfl)
theorem dJ23_grow_9 : decode cJ23_grow 9 = .ok (.if_icmp .ge 9, 3) := dk_162 0 9 (dk_at dksJ23_grow_0 9 rfl rfl)
theorem dJ23_grow_12 : decode cJ23_grow 12 = .ok (.iload_n 2, 1) := dk_28 (dk_at dksJ23_grow_0 12 rfl rfl)
theorem dJ23_grow_13 : decode cJ23_grow 13 = .ok (.iconst 2, 1) := dk_5 (dk_at dksJ23_grow_0 13 rfl rfl)
theorem dJ23_grow_14 : decode cJ23_grow 14 = .ok (.iadd, 1) := dk_96 (dk_at dksJ23_grow_0 14 rfl rfl)
theorem dJ23_grow_15 : decode cJ23_grow 15 = .ok (.goto 6, 3) := dk_167 0 6 (dk_at dksJ23_grow_0 15 rfl rfl)
theorem dJ23_grow_18 : decode cJ23_grow 18 = .ok (.iload_n 2, 1) := dk_28 (dk_at dksJ23_grow_0 18 rfl rfl)
theorem dJ23_grow_19 : decode cJ23_grow 19 = .ok (.iconst 1, 1) := dk_4 (dk_at dksJ23_grow_0 19 rfl rfl)
theorem dJ23_grow_20 : decode cJ23_grow 20 = .ok (.ishr, 1) := dk_122 (dk_at dksJ23_grow_0 20 rfl rfl)
theorem dJ23_grow_21 : decode cJ23_grow 21 = .ok (.istore 4, 2) := dk_54 4 (dk_at dksJ23_grow_0 21 rfl rfl)
theorem dJ23_grow_23 : decode cJ23_grow 23 = .ok (.iload 4, 2) := dk_21 4 (dk_at dksJ23_grow_1 0 rfl rfl)
theorem dJ23_grow_25 : decode cJ23_grow 25 = .ok (.iload_n 1, 1) := dk_27 (dk_at dksJ23_grow_1 2 rfl rfl)
theorem dJ23_grow_26 : decode cJ23_grow 26 = .ok (.if_icmp .lt 15, 3) := dk_161 0 15 (dk_at dksJ23_grow_1 3 rfl rfl)
theorem dJ23_grow_29 : decode cJ23_grow 29 = .ok (.iload_n 2, 1) := dk_28 (dk_at dksJ23_grow_1 6 rfl rfl)
theorem dJ23_grow_30 : decode cJ23_grow 30 = .ok (.iload 4, 2) := dk_21 4 (dk_at dksJ23_grow_1 7 rfl rfl)
theorem dJ23_grow_32 : decode cJ23_grow 32 = .ok (.iadd, 1) := dk_96 (dk_at dksJ23_grow_1 9 rfl rfl)
theorem dJ23_grow_33 : decode cJ23_grow 33 = .ok (.dup, 1) := dk_89 (dk_at dksJ23_grow_1 10 rfl rfl)
theorem dJ23_grow_34 : decode cJ23_grow 34 = .ok (.istore_n 3, 1) := dk_62 (dk_at dksJ23_grow_1 11 rfl rfl)
theorem dJ23_grow_35 : decode cJ23_grow 35 = .ok (.ldc 9, 2) := dk_18 9 (dk_at dksJ23_grow_1 12 rfl rfl)
theorem dJ23_grow_37 : decode cJ23_grow 37 = .ok (.isub, 1) := dk_100 (dk_at dksJ23_grow_1 14 rfl rfl)
theorem dJ23_grow_38 : decode cJ23_grow 38 = .ok (.ifCond .le 11, 3) := dk_158 0 11 (dk_at dksJ23_grow_1 15 rfl rfl)
theorem dJ23_grow_41 : decode cJ23_grow 41 = .ok (.aload_n 0, 1) := dk_42 (dk_at dksJ23_grow_1 18 rfl rfl)
theorem dJ23_grow_42 : decode cJ23_grow 42 = .ok (.iload_n 1, 1) := dk_27 (dk_at dksJ23_grow_1 19 rfl rfl)
theorem dJ23_grow_43 : decode cJ23_grow 43 = .ok (.iload 4, 2) := dk_21 4 (dk_at dksJ23_grow_1 20 rfl rfl)
theorem dJ23_grow_45 : decode cJ23_grow 45 = .ok (.invokevirtual 10, 3) := dk_182 0 10 (dk_at dksJ23_grow_2 0 rfl rfl)
theorem dJ23_grow_48 : decode cJ23_grow 48 = .ok (.istore_n 3, 1) := dk_62 (dk_at dksJ23_grow_2 3 rfl rfl)
theorem dJ23_grow_49 : decode cJ23_grow 49 = .ok (.aload_n 0, 1) := dk_42 (dk_at dksJ23_grow_2 4 rfl rfl)
theorem dJ23_grow_50 : decode cJ23_grow 50 = .ok (.aload_n 0, 1) := dk_42 (dk_at dksJ23_grow_2 5 rfl rfl)
theorem dJ23_grow_51 : decode cJ23_grow 51 = .ok (.getfield 3, 3) := dk_180 0 3 (dk_at dksJ23_grow_2 6 rfl rfl)
theorem dJ23_grow_54 : decode cJ23_grow 54 = .ok (.iload_n 3, 1) := dk_29 (dk_at dksJ23_grow_2 9 rfl rfl)
theorem dJ23_grow_55 : decode cJ23_grow 55 = .ok (.invokestatic 14, 3) := dk_184 0 14 (dk_at dksJ23_grow_2 10 rfl rfl)
theorem dJ23_grow_58 : decode cJ23_grow 58 = .ok (.dup_x1, 1) := dk_90 (dk_at dksJ23_grow_2 13 rfl rfl)
theorem dJ23_grow_59 : decode cJ23_grow 59 = .ok (.putfield 3, 3) := dk_181 0 3 (dk_at dksJ23_grow_2 14 rfl rfl)
theorem dJ23_grow_62 : decode cJ23_grow 62 = .ok (.astore 5, 2) := dk_58 5 (dk_at dksJ23_grow_2 17 rfl rfl)
theorem dJ23_grow_64 : decode cJ23_grow 64 = .ok (.aload_n 0, 1) := dk_42 (dk_at dksJ23_grow_2 19 rfl rfl)
theorem dJ23_grow_65 : decode cJ23_grow 65 = .ok (.getfield 20, 3) := dk_180 0 20 (dk_at dksJ23_grow_2 20 rfl rfl)
theorem dJ23_grow_68 : decode cJ23_grow 68 = .ok (.aload_n 0, 1) := dk_42 (dk_at dksJ23_grow_2 23 rfl rfl)
theorem dJ23_grow_69 : decode cJ23_grow 69 = .ok (.getfield 24, 3) := dk_180 0 24 (dk_at dksJ23_grow_3 0 rfl rfl)
theorem dJ23_grow_72 : decode cJ23_grow 72 = .ok (.if_icmp .lt 24, 3) := dk_161 0 24 (dk_at dksJ23_grow_3 3 rfl rfl)
theorem dJ23_grow_75 : decode cJ23_grow 75 = .ok (.aload_n 0, 1) := dk_42 (dk_at dksJ23_grow_3 6 rfl rfl)
theorem dJ23_grow_76 : decode cJ23_grow 76 = .ok (.getfield 20, 3) := dk_180 0 20 (dk_at dksJ23_grow_3 7 rfl rfl)
theorem dJ23_grow_79 : decode cJ23_grow 79 = .ok (.aload_n 0, 1) := dk_42 (dk_at dksJ23_grow_3 10 rfl rfl)
theorem dJ23_grow_80 : decode cJ23_grow 80 = .ok (.getfield 24, 3) := dk_180 0 24 (dk_at dksJ23_grow_3 11 rfl rfl)
theorem dJ23_grow_83 : decode cJ23_grow 83 = .ok (.if_icmp .ne 81, 3) := dk_160 0 81 (dk_at dksJ23_grow_3 14 rfl rfl)
theorem dJ23_grow_86 : decode cJ23_grow 86 = .ok (.aload 5, 2) := dk_25 5 (dk_at dksJ23_grow_3 17 rfl rfl)
theorem dJ23_grow_88 : decode cJ23_grow 88 = .ok (.aload_n 0, 1) := dk_42 (dk_at dksJ23_grow_3 19 rfl rfl)
theorem dJ23_grow_89 : decode cJ23_grow 89 = .ok (.getfield 24, 3) := dk_180 0 24 (dk_at dksJ23_grow_3 20 rfl rfl)
theorem dJ23_grow_92 : decode cJ23_grow 92 = .ok (.aaload, 1) := dk_50 (dk_at dksJ23_grow_3 23 rfl rfl)
theorem dJ23_grow_93 : decode cJ23_grow 93 = .ok (.ifnull 71, 3) := dk_198 0 71 (dk_at dksJ23_grow_4 0 rfl rfl)
theorem dJ23_grow_96 : decode cJ23_grow 96 = .ok (.iload_n 3, 1) := dk_29 (dk_at dksJ23_grow_4 3 rfl rfl)
theorem dJ23_grow_97 : decode cJ23_grow 97 = .ok (.iload_n 2, 1) := dk_28 (dk_at dksJ23_grow_4 4 rfl rfl)
theorem dJ23_grow_98 : decode cJ23_grow 98 = .ok (.isub, 1) := dk_100 (dk_at dksJ23_grow_4 5 rfl rfl)
theorem dJ23_grow_99 : decode cJ23_grow 99 = .ok (.istore 6, 2) := dk_54 6 (dk_at dksJ23_grow_4 6 rfl rfl)
theorem dJ23_grow_101 : decode cJ23_grow 101 = .ok (.aload 5, 2) := dk_25 5 (dk_at dksJ23_grow_4 8 rfl rfl)
theorem dJ23_grow_103 : decode cJ23_grow 103 = .ok (.aload_n 0, 1) := dk_42 (dk_at dksJ23_grow_4 10 rfl rfl)
theorem dJ23_grow_104 : decode cJ23_grow 104 = .ok (.getfield 24, 3) := dk_180 0 24 (dk_at dksJ23_grow_4 11 rfl rfl)
theorem dJ23_grow_107 : decode cJ23_grow 107 = .ok (.aload 5, 2) := dk_25 5 (dk_at dksJ23_grow_4 14 rfl rfl)
theorem dJ23_grow_109 : decode cJ23_grow 109 = .ok (.aload_n 0, 1) := dk_42 (dk_at dksJ23_grow_4 16 rfl rfl)
theorem dJ23_grow_110 : decode cJ23_grow 110 = .ok (.getfield 24, 3) := dk_180 0 24 (dk_at dksJ23_grow_4 17 rfl rfl)
theorem dJ23_grow_113 : decode cJ23_grow 113 = .ok (.iload 6, 2) := dk_21 6 (dk_at dksJ23_grow_4 20 rfl rfl)
theorem dJ23_grow_115 : decode cJ23_grow 115 = .ok (.iadd, 1) := dk_96 (dk_at dksJ23_grow_4 22 rfl rfl)
theorem dJ23_grow_116 : decode cJ23_grow 116 = .ok (.iload_n 2, 1) := dk_28 (dk_at dksJ23_grow_4 23 rfl rfl)
theorem dJ23_grow_117 : decode cJ23_grow 117 = .ok (.aload_n 0, 1) := dk_42 (dk_at dksJ23_grow_5 0 rfl rfl)
theorem dJ23_grow_118 : decode cJ23_grow 118 = .ok (.getfield 24, 3) := dk_180 0 24 (dk_at dksJ23_grow_5 1 rfl rfl)
theorem dJ23_grow_121 : decode cJ23_grow 121 = .ok (.isub, 1) := dk_100 (dk_at dksJ23_grow_5 4 rfl rfl)
theorem dJ23_grow_122 : decode cJ23_grow 122 = .ok (.invokestatic 27, 3) := dk_184 0 27 (dk_at dksJ23_grow_5 5 rfl rfl)
theorem dJ23_grow_125 : decode cJ23_grow 125 = .ok (.aload_n 0, 1) := dk_42 (dk_at dksJ23_grow_5 8 rfl rfl)
theorem dJ23_grow_126 : decode cJ23_grow 126 = .ok (.getfield 24, 3) := dk_180 0 24 (dk_at dksJ23_grow_5 9 rfl rfl)
theorem dJ23_grow_129 : decode cJ23_grow 129 = .ok (.istore 7, 2) := dk_54 7 (dk_at dksJ23_grow_5 12 rfl rfl)
theorem dJ23_grow_131 : decode cJ23_grow 131 = .ok (.aload_n 0, 1) := dk_42 (dk_at dksJ23_grow_5 14 rfl rfl)
theorem dJ23_grow_132 : decode cJ23_grow 132 = .ok (.dup, 1) := dk_89 (dk_at dksJ23_grow_5 15 rfl rfl)
theorem dJ23_grow_133 : decode cJ23_grow 133 = .ok (.getfield 24, 3) := dk_180 0 24 (dk_at dksJ23_grow_5 16 rfl rfl)
theorem dJ23_grow_136 : decode cJ23_grow 136 = .ok (.iload 6, 2) := dk_21 6 (dk_at dksJ23_grow_5 19 rfl rfl)
theorem dJ23_grow_138 : decode cJ23_grow 138 = .ok (.iadd, 1) := dk_96 (dk_at dksJ23_grow_5 21 rfl rfl)
theorem dJ23_grow_139 : decode cJ23_grow 139 = .ok (.dup_x1, 1) := dk_90 (dk_at dksJ23_grow_5 22 rfl rfl)
theorem dJ23_grow_140 : decode cJ23_grow 140 = .ok (.putfield 24, 3) := dk_181 0 24 (dk_at dksJ23_grow_6 0 rfl rfl)
theorem dJ23_grow_143 : decode cJ23_grow 143 = .ok (.istore 8, 2) := dk_54 8 (dk_at dksJ23_grow_6 3 rfl rfl)
theorem dJ23_grow_145 : decode cJ23_grow 145 = .ok (.iload 7, 2) := dk_21 7 (dk_at dksJ23_grow_6 5 rfl rfl)
theorem dJ23_grow_147 : decode cJ23_grow 147 = .ok (.iload 8, 2) := dk_21 8 (dk_at dksJ23_grow_6 7 rfl rfl)
theorem dJ23_grow_149 : decode cJ23_grow 149 = .ok (.if_icmp .ge 15, 3) := dk_162 0 15 (dk_at dksJ23_grow_6 9 rfl rfl)
theorem dJ23_grow_152 : decode cJ23_grow 152 = .ok (.aload 5, 2) := dk_25 5 (dk_at dksJ23_grow_6 12 rfl rfl)
theorem dJ23_grow_154 : decode cJ23_grow 154 = .ok (.iload 7, 2) := dk_21 7 (dk_at dksJ23_grow_6 14 rfl rfl)
theorem dJ23_grow_156 : decode cJ23_grow 156 = .ok (.aconst_null, 1) := dk_1 (dk_at dksJ23_grow_6 16 rfl rfl)
theorem dJ23_grow_157 : decode cJ23_grow 157 = .ok (.aastore, 1) := dk_83 (dk_at dksJ23_grow_6 17 rfl rfl)
theorem dJ23_grow_158 : decode cJ23_grow 158 = .ok (.iinc 7 1, 3) := dk_132 7 1 (dk_at dksJ23_grow_6 18 rfl rfl)
theorem dJ23_grow_161 : decode cJ23_grow 161 = .ok (.goto (-16), 3) := dk_167 255 240 (dk_at dksJ23_grow_6 21 rfl rfl)
theorem dJ23_grow_164 : decode cJ23_grow 164 = .ok (.return_, 1) := dk_177 (dk_at dksJ23_grow_7 0 rfl rfl)
abbrev cJ23_newCapacity : ByteArray := prog_49_method_2_code
def yJ23_newCapacity : MethodName := ⟨RJ23, "newCapacity", "(II)I"⟩
def dkwJ23_newCapacity_2 : List UInt8 := [18, 9, 100, 156, 0, 9, 29, 28, 96, 167, 0, 5, 18, 9, 172]
abbrev dktJ23_newCapacity_2 : List UInt8 := dkwJ23_newCapacity_2 ++ []
def dkwJ23_newCapacity_1 : List UInt8 := [187, 0, 33, 89, 18, 35, 183, 0, 37, 191, 18, 41, 172, 27, 28, 164, 0, 6, 21, 4, 172, 29, 28, 96]
abbrev dktJ23_newCapacity_1 : List UInt8 := dkwJ23_newCapacity_1 ++ dktJ23_newCapacity_2
def dkwJ23_newCapacity_0 : List UInt8 := [42, 180, 0, 3, 190, 62, 29, 27, 96, 89, 54, 4, 18, 9, 100, 158, 0, 21, 21, 4, 156, 0, 13]
abbrev dktJ23_newCapacity_0 : List UInt8 := dkwJ23_newCapacity_0 ++ dktJ23_newCapacity_1
theorem dksJ23_newCapacity_0 : cJ23_newCapacity.data.toList.drop 0 = dktJ23_newCapacity_0 := by decide +kernel
theorem dksJ23_newCapacity_1 : cJ23_newCapacity.data.toList.drop 23 = dktJ23_newCapacity_1 := dk_seg dksJ23_newCapacity_0 23 rfl rfl
theorem dksJ23_newCapacity_2 : cJ23_newCapacity.data.toList.drop 47 = dktJ23_newCapacity_2 := dk_seg dksJ23_newCapacity_1 24 rfl rfl
theorem dJ23_newCapacity_0 : decode cJ23_newCapacity 0 = .ok (.aload_n 0, 1) := dk_42 (dk_at dksJ23_newCapacity_0 0 rfl rfl)
theorem dJ23_newCapacity_1 : decode cJ23_newCapacity 1 = .ok (.getfield 3, 3) := dk_180 0 3 (dk_at dksJ23_newCapacity_0 1 rfl rfl)
theorem dJ23_newCapacity_4 : decode cJ23_newCapacity 4 = .ok (.arraylength, 1) := dk_190 (dk_at dksJ23_newCapacity_0 4 rfl rfl)
theorem dJ23_newCapacity_5 : decode cJ23_newCapacity 5 = .ok (.istore_n 3, 1) := dk_62 (dk_at dksJ23_newCapacity_0 5 rfl rfl)
theorem dJ23_newCapacity_6 : decode cJ23_newCapacity 6 = .ok (.iload_n 3, 1) := dk_29 (dk_at dksJ23_newCapacity_0 6 rfl rfl)
theorem dJ23_newCapacity_7 : decode cJ23_newCapacity 7 = .ok (.iload_n 1, 1) := dk_27 (dk_at dksJ23_newCapacity_0 7 rfl rfl)
theorem dJ23_newCapacity_8 : decode cJ23_newCapacity 8 = .ok (.iadd, 1) := dk_96 (dk_at dksJ23_newCapacity_0 8 rfl rfl)
theorem dJ23_newCapacity_9 : decode cJ23_newCapacity 9 = .ok (.dup, 1) := dk_89 (dk_at dksJ23_newCapacity_0 9 rfl rfl)
theorem dJ23_newCapacity_10 : decode cJ23_newCapacity 10 = .ok (.istore 4, 2) := dk_54 4 (dk_at dksJ23_newCapacity_0 10 rfl rfl)
theorem dJ23_newCapacity_12 : decode cJ23_newCapacity 12 = .ok (.ldc 9, 2) := dk_18 9 (dk_at dksJ23_newCapacity_0 12 rfl rfl)
theorem dJ23_newCapacity_14 : decode cJ23_newCapacity 14 = .ok (.isub, 1) := dk_100 (dk_at dksJ23_newCapacity_0 14 rfl rfl)
theorem dJ23_newCapacity_15 : decode cJ23_newCapacity 15 = .ok (.ifCond .le 21, 3) := dk_158 0 21 (dk_at dksJ23_newCapacity_0 15 rfl rfl)
theorem dJ23_newCapacity_18 : decode cJ23_newCapacity 18 = .ok (.iload 4, 2) := dk_21 4 (dk_at dksJ23_newCapacity_0 18 rfl rfl)
theorem dJ23_newCapacity_20 : decode cJ23_newCapacity 20 = .ok (.ifCond .ge 13, 3) := dk_156 0 13 (dk_at dksJ23_newCapacity_0 20 rfl rfl)
theorem dJ23_newCapacity_23 : decode cJ23_newCapacity 23 = .ok (.new 33, 3) := dk_187 0 33 (dk_at dksJ23_newCapacity_1 0 rfl rfl)
theorem dJ23_newCapacity_26 : decode cJ23_newCapacity 26 = .ok (.dup, 1) := dk_89 (dk_at dksJ23_newCapacity_1 3 rfl rfl)
theorem dJ23_newCapacity_27 : decode cJ23_newCapacity 27 = .ok (.ldc 35, 2) := dk_18 35 (dk_at dksJ23_newCapacity_1 4 rfl rfl)
theorem dJ23_newCapacity_29 : decode cJ23_newCapacity 29 = .ok (.invokespecial 37, 3) := dk_183 0 37 (dk_at dksJ23_newCapacity_1 6 rfl rfl)
theorem dJ23_newCapacity_32 : decode cJ23_newCapacity 32 = .ok (.athrow, 1) := dk_191 (dk_at dksJ23_newCapacity_1 9 rfl rfl)
theorem dJ23_newCapacity_33 : decode cJ23_newCapacity 33 = .ok (.ldc 41, 2) := dk_18 41 (dk_at dksJ23_newCapacity_1 10 rfl rfl)
theorem dJ23_newCapacity_35 : decode cJ23_newCapacity 35 = .ok (.ireturn, 1) := dk_172 (dk_at dksJ23_newCapacity_1 12 rfl rfl)
theorem dJ23_newCapacity_36 : decode cJ23_newCapacity 36 = .ok (.iload_n 1, 1) := dk_27 (dk_at dksJ23_newCapacity_1 13 rfl rfl)
theorem dJ23_newCapacity_37 : decode cJ23_newCapacity 37 = .ok (.iload_n 2, 1) := dk_28 (dk_at dksJ23_newCapacity_1 14 rfl rfl)
theorem dJ23_newCapacity_38 : decode cJ23_newCapacity 38 = .ok (.if_icmp .le 6, 3) := dk_164 0 6 (dk_at dksJ23_newCapacity_1 15 rfl rfl)
theorem dJ23_newCapacity_41 : decode cJ23_newCapacity 41 = .ok (.iload 4, 2) := dk_21 4 (dk_at dksJ23_newCapacity_1 18 rfl rfl)
theorem dJ23_newCapacity_43 : decode cJ23_newCapacity 43 = .ok (.ireturn, 1) := dk_172 (dk_at dksJ23_newCapacity_1 20 rfl rfl)
theorem dJ23_newCapacity_44 : decode cJ23_newCapacity 44 = .ok (.iload_n 3, 1) := dk_29 (dk_at dksJ23_newCapacity_1 21 rfl rfl)
theorem dJ23_newCapacity_45 : decode cJ23_newCapacity 45 = .ok (.iload_n 2, 1) := dk_28 (dk_at dksJ23_newCapacity_1 22 rfl rfl)
theorem dJ23_newCapacity_46 : decode cJ23_newCapacity 46 = .ok (.iadd, 1) := dk_96 (dk_at dksJ23_newCapacity_1 23 rfl rfl)
theorem dJ23_newCapacity_47 : decode cJ23_newCapacity 47 = .ok (.ldc 9, 2) := dk_18 9 (dk_at dksJ23_newCapacity_2 0 rfl rfl)
theorem dJ23_newCapacity_49 : decode cJ23_newCapacity 49 = .ok (.isub, 1) := dk_100 (dk_at dksJ23_newCapacity_2 2 rfl rfl)
theorem dJ23_newCapacity_50 : decode cJ23_newCapacity 50 = .ok (.ifCond .ge 9, 3) := dk_156 0 9 (dk_at dksJ23_newCapacity_2 3 rfl rfl)
theorem dJ23_newCapacity_53 : decode cJ23_newCapacity 53 = .ok (.iload_n 3, 1) := dk_29 (dk_at dksJ23_newCapacity_2 6 rfl rfl)
theorem dJ23_newCapacity_54 : decode cJ23_newCapacity 54 = .ok (.iload_n 2, 1) := dk_28 (dk_at dksJ23_newCapacity_2 7 rfl rfl)
theorem dJ23_newCapacity_55 : decode cJ23_newCapacity 55 = .ok (.iadd, 1) := dk_96 (dk_at dksJ23_newCapacity_2 8 rfl rfl)
theorem dJ23_newCapacity_56 : decode cJ23_newCapacity 56 = .ok (.goto 5, 3) := dk_167 0 5 (dk_at dksJ23_newCapacity_2 9 rfl rfl)
theorem dJ23_newCapacity_59 : decode cJ23_newCapacity 59 = .ok (.ldc 9, 2) := dk_18 9 (dk_at dksJ23_newCapacity_2 12 rfl rfl)
theorem dJ23_newCapacity_61 : decode cJ23_newCapacity 61 = .ok (.ireturn, 1) := dk_172 (dk_at dksJ23_newCapacity_2 14 rfl rfl)
abbrev cJ23_isEmpty : ByteArray := prog_49_method_38_code
def yJ23_isEmpty : MethodName := ⟨RJ23, "isEmpty", "()Z"⟩
def dkwJ23_isEmpty_0 : List UInt8 := [42, 180, 0, 24, 42, 180, 0, 20, 160, 0, 7, 4, 167, 0, 4, 3, 172]
abbrev dktJ23_isEmpty_0 : List UInt8 := dkwJ23_isEmpty_0 ++ []
theorem dksJ23_isEmpty_0 : cJ23_isEmpty.data.toList.drop 0 = dktJ23_isEmpty_0 := by decide +kernel
theorem dJ23_isEmpty_0 : decode cJ23_isEmpty 0 = .ok (.aload_n 0, 1) := dk_42 (dk_at dksJ23_isEmpty_0 0 rfl rfl)
theorem dJ23_isEmpty_1 : decode cJ23_isEmpty 1 = .ok (.getfield 24, 3) := dk_180 0 24 (dk_at dksJ23_isEmpty_0 1 rfl rfl)
theorem dJ23_isEmpty_4 : decode cJ23_isEmpty 4 = .ok (.aload_n 0, 1) := dk_42 (dk_at dksJ23_isEmpty_0 4 rfl rfl)
theorem dJ23_isEmpty_5 : decode cJ23_isEmpty 5 = .ok (.getfield 20, 3) := dk_180 0 20 (dk_at dksJ23_isEmpty_0 5 rfl rfl)
theorem dJ23_isEmpty_8 : decode cJ23_isEmpty 8 = .ok (.if_icmp .ne 7, 3) := dk_160 0 7 (dk_at dksJ23_isEmpty_0 8 rfl rfl)
theorem dJ23_isEmpty_11 : decode cJ23_isEmpty 11 = .ok (.iconst 1, 1) := dk_4 (dk_at dksJ23_isEmpty_0 11 rfl rfl)
theorem dJ23_isEmpty_12 : decode cJ23_isEmpty 12 = .ok (.goto 4, 3) := dk_167 0 4 (dk_at dksJ23_isEmpty_0 12 rfl rfl)
theorem dJ23_isEmpty_15 : decode cJ23_isEmpty 15 = .ok (.iconst 0, 1) := dk_3 (dk_at dksJ23_isEmpty_0 15 rfl rfl)
theorem dJ23_isEmpty_16 : decode cJ23_isEmpty 16 = .ok (.ireturn, 1) := dk_172 (dk_at dksJ23_isEmpty_0 16 rfl rfl)
abbrev cJ23_removeFirst : ByteArray := prog_49_method_18_code
def yJ23_removeFirst : MethodName := ⟨RJ23, "removeFirst", "()Ljava/lang/Object;"⟩
def dkwJ23_removeFirst_0 : List UInt8 := [42, 182, 0, 93, 76, 43, 199, 0, 11, 187, 0, 97, 89, 183, 0, 99, 191, 43, 176]
abbrev dktJ23_removeFirst_0 : List UInt8 := dkwJ23_removeFirst_0 ++ []
theorem dksJ23_removeFirst_0 : cJ23_removeFirst.data.toList.drop 0 = dktJ23_removeFirst_0 := by decide +kernel
theorem dJ23_removeFirst_0 : decode cJ23_removeFirst 0 = .ok (.aload_n 0, 1) := dk_42 (dk_at dksJ23_removeFirst_0 0 rfl rfl)
theorem dJ23_removeFirst_1 : decode cJ23_removeFirst 1 = .ok (.invokevirtual 93, 3) := dk_182 0 93 (dk_at dksJ23_removeFirst_0 1 rfl rfl)
theorem dJ23_removeFirst_4 : decode cJ23_removeFirst 4 = .ok (.astore_n 1, 1) := dk_76 (dk_at dksJ23_removeFirst_0 4 rfl rfl)
theorem dJ23_removeFirst_5 : decode cJ23_removeFirst 5 = .ok (.aload_n 1, 1) := dk_43 (dk_at dksJ23_removeFirst_0 5 rfl rfl)
theorem dJ23_removeFirst_6 : decode cJ23_removeFirst 6 = .ok (.ifnonnull 11, 3) := dk_199 0 11 (dk_at dksJ23_removeFirst_0 6 rfl rfl)
theorem dJ23_removeFirst_9 : decode cJ23_removeFirst 9 = .ok (.new 97, 3) := dk_187 0 97 (dk_at dksJ23_removeFirst_0 9 rfl rfl)
theorem dJ23_removeFirst_12 : decode cJ23_removeFirst 12 = .ok (.dup, 1) := dk_89 (dk_at dksJ23_removeFirst_0 12 rfl rfl)
theorem dJ23_removeFirst_13 : decode cJ23_removeFirst 13 = .ok (.invokespecial 99, 3) := dk_183 0 99 (dk_at dksJ23_removeFirst_0 13 rfl rfl)
theorem dJ23_removeFirst_16 : decode cJ23_removeFirst 16 = .ok (.athrow, 1) := dk_191 (dk_at dksJ23_removeFirst_0 16 rfl rfl)
theorem dJ23_removeFirst_17 : decode cJ23_removeFirst 17 = .ok (.aload_n 1, 1) := dk_43 (dk_at dksJ23_removeFirst_0 17 rfl rfl)
theorem dJ23_removeFirst_18 : decode cJ23_removeFirst 18 = .ok (.areturn, 1) := dk_176 (dk_at dksJ23_removeFirst_0 18 rfl rfl)
abbrev cJ23_pollFirst : ByteArray := prog_49_method_20_code
def yJ23_pollFirst : MethodName := ⟨RJ23, "pollFirst", "()Ljava/lang/Object;"⟩
def dkwJ23_pollFirst_1 : List UInt8 := [42, 28, 43, 190, 184, 0, 74, 181, 0, 24, 45, 176]
abbrev dktJ23_pollFirst_1 : List UInt8 := dkwJ23_pollFirst_1 ++ []
def dkwJ23_pollFirst_0 : List UInt8 := [42, 180, 0, 3, 89, 76, 42, 180, 0, 24, 89, 61, 184, 0, 103, 78, 45, 198, 0, 17, 43, 28, 1, 83]
abbrev dktJ23_pollFirst_0 : List UInt8 := dkwJ23_pollFirst_0 ++ dktJ23_pollFirst_1
theorem dksJ23_pollFirst_0 : cJ23_pollFirst.data.toList.drop 0 = dktJ23_pollFirst_0 := by decide +kernel
theorem dksJ23_pollFirst_1 : cJ23_pollFirst.data.toList.drop 24 = dktJ23_pollFirst_1 := dk_seg dksJ23_pollFirst_0 24 rfl rfl
theorem dJ23_pollFirst_0 : decode cJ23_pollFirst 0 = .ok (.aload_n 0, 1) := dk_42 (dk_at dksJ23_pollFirst_0 0 rfl rfl)
theorem dJ23_pollFirst_1 : decode cJ23_pollFirst 1 = .ok (.getfield 3, 3) := dk_180 0 3 (dk_at dksJ23_pollFirst_0 1 rfl rfl)
theorem dJ23_pollFirst_4 : decode cJ23_pollFirst 4 = .ok (.dup, 1) := dk_89 (dk_at dksJ23_pollFirst_0 4 rfl rfl)
theorem dJ23_pollFirst_5 : decode cJ23_pollFirst 5 = .ok (.astore_n 1, 1) := dk_76 (dk_at dksJ23_pollFirst_0 5 rfl rfl)
theorem dJ23_pollFirst_6 : decode cJ23_pollFirst 6 = .ok (.aload_n 0, 1) := dk_42 (dk_at dksJ23_pollFirst_0 6 rfl rfl)
theorem dJ23_pollFirst_7 : decode cJ23_pollFirst 7 = .ok (.getfield 24, 3) := dk_180 0 24 (dk_at dksJ23_pollFirst_0 7 rfl rfl)
theorem dJ23_pollFirst_10 : decode cJ23_pollFirst 10 = .ok (.dup, 1) := dk_89 (dk_at dksJ23_pollFirst_0 10 rfl rfl)
theorem dJ23_pollFirst_11 : decode cJ23_pollFirst 11 = .ok (.istore_n 2, 1) := dk_61 (dk_at dksJ23_pollFirst_0 11 rfl rfl)
theorem dJ23_pollFirst_12 : decode cJ23_pollFirst 12 = .ok (.invokestatic 103, 3) := dk_184 0 103 (dk_at dksJ23_pollFirst_0 12 rfl rfl)
theorem dJ23_pollFirst_15 : decode cJ23_pollFirst 15 = .ok (.astore_n 3, 1) := dk_78 (dk_at dksJ23_pollFirst_0 15 rfl rfl)
theorem dJ23_pollFirst_16 : decode cJ23_pollFirst 16 = .ok (.aload_n 3, 1) := dk_45 (dk_at dksJ23_pollFirst_0 16 rfl rfl)
theorem dJ23_pollFirst_17 : decode cJ23_pollFirst 17 = .ok (.ifnull 17, 3) := dk_198 0 17 (dk_at dksJ23_pollFirst_0 17 rfl rfl)
theorem dJ23_pollFirst_20 : decode cJ23_pollFirst 20 = .ok (.aload_n 1, 1) := dk_43 (dk_at dksJ23_pollFirst_0 20 rfl rfl)
theorem dJ23_pollFirst_21 : decode cJ23_pollFirst 21 = .ok (.iload_n 2, 1) := dk_28 (dk_at dksJ23_pollFirst_0 21 rfl rfl)
theorem dJ23_pollFirst_22 : decode cJ23_pollFirst 22 = .ok (.aconst_null, 1) := dk_1 (dk_at dksJ23_pollFirst_0 22 rfl rfl)
theorem dJ23_pollFirst_23 : decode cJ23_pollFirst 23 = .ok (.aastore, 1) := dk_83 (dk_at dksJ23_pollFirst_0 23 rfl rfl)
theorem dJ23_pollFirst_24 : decode cJ23_pollFirst 24 = .ok (.aload_n 0, 1) := dk_42 (dk_at dksJ23_pollFirst_1 0 rfl rfl)
theorem dJ23_pollFirst_25 : decode cJ23_pollFirst 25 = .ok (.iload_n 2, 1) := dk_28 (dk_at dksJ23_pollFirst_1 1 rfl rfl)
theorem dJ23_pollFirst_26 : decode cJ23_pollFirst 26 = .ok (.aload_n 1, 1) := dk_43 (dk_at dksJ23_pollFirst_1 2 rfl rfl)
theorem dJ23_pollFirst_27 : decode cJ23_pollFirst 27 = .ok (.arraylength, 1) := dk_190 (dk_at dksJ23_pollFirst_1 3 rfl rfl)
theorem dJ23_pollFirst_28 : decode cJ23_pollFirst 28 = .ok (.invokestatic 74, 3) := dk_184 0 74 (dk_at dksJ23_pollFirst_1 4 rfl rfl)
theorem dJ23_pollFirst_31 : decode cJ23_pollFirst 31 = .ok (.putfield 24, 3) := dk_181 0 24 (dk_at dksJ23_pollFirst_1 7 rfl rfl)
theorem dJ23_pollFirst_34 : decode cJ23_pollFirst 34 = .ok (.aload_n 3, 1) := dk_45 (dk_at dksJ23_pollFirst_1 10 rfl rfl)
theorem dJ23_pollFirst_35 : decode cJ23_pollFirst 35 = .ok (.areturn, 1) := dk_176 (dk_at dksJ23_pollFirst_1 11 rfl rfl)
abbrev cJ23_elementAt : ByteArray := prog_49_method_10_code
def yJ23_elementAt : MethodName := ⟨RJ23, "elementAt", "([Ljava/lang/Object;I)Ljava/lang/Object;"⟩
def dkwJ23_elementAt_0 : List UInt8 := [42, 27, 50, 176]
abbrev dktJ23_elementAt_0 : List UInt8 := dkwJ23_elementAt_0 ++ []
theorem dksJ23_elementAt_0 : cJ23_elementAt.data.toList.drop 0 = dktJ23_elementAt_0 := by decide +kernel
theorem dJ23_elementAt_0 : decode cJ23_elementAt 0 = .ok (.aload_n 0, 1) := dk_42 (dk_at dksJ23_elementAt_0 0 rfl rfl)
theorem dJ23_elementAt_1 : decode cJ23_elementAt 1 = .ok (.iload_n 1, 1) := dk_27 (dk_at dksJ23_elementAt_0 1 rfl rfl)
theorem dJ23_elementAt_2 : decode cJ23_elementAt 2 = .ok (.aaload, 1) := dk_50 (dk_at dksJ23_elementAt_0 2 rfl rfl)
theorem dJ23_elementAt_3 : decode cJ23_elementAt 3 = .ok (.areturn, 1) := dk_176 (dk_at dksJ23_elementAt_0 3 rfl rfl)
abbrev cJ23_size : ByteArray := prog_49_method_37_code
def yJ23_size : MethodName := ⟨RJ23, "size", "()I"⟩
def dkwJ23_size_0 : List UInt8 := [42, 180, 0, 20, 42, 180, 0, 24, 42, 180, 0, 3, 190, 184, 0, 127, 172]
abbrev dktJ23_size_0 : List UInt8 := dkwJ23_size_0 ++ []
theorem dksJ23_size_0 : cJ23_size.data.toList.drop 0 = dktJ23_size_0 := by decide +kernel
theorem dJ23_size_0 : decode cJ23_size 0 = .ok (.aload_n 0, 1) := dk_42 (dk_at dksJ23_size_0 0 rfl rfl)
theorem dJ23_size_1 : decode cJ23_size 1 = .ok (.getfield 20, 3) := dk_180 0 20 (dk_at dksJ23_size_0 1 rfl rfl)
theorem dJ23_size_4 : decode cJ23_size 4 = .ok (.aload_n 0, 1) := dk_42 (dk_at dksJ23_size_0 4 rfl rfl)
theorem dJ23_size_5 : decode cJ23_size 5 = .ok (.getfield 24, 3) := dk_180 0 24 (dk_at dksJ23_size_0 5 rfl rfl)
theorem dJ23_size_8 : decode cJ23_size 8 = .ok (.aload_n 0, 1) := dk_42 (dk_at dksJ23_size_0 8 rfl rfl)
theorem dJ23_size_9 : decode cJ23_size 9 = .ok (.getfield 3, 3) := dk_180 0 3 (dk_at dksJ23_size_0 9 rfl rfl)
theorem dJ23_size_12 : decode cJ23_size 12 = .ok (.arraylength, 1) := dk_190 (dk_at dksJ23_size_0 12 rfl rfl)
theorem dJ23_size_13 : decode cJ23_size 13 = .ok (.invokestatic 127, 3) := dk_184 0 127 (dk_at dksJ23_size_0 13 rfl rfl)
theorem dJ23_size_16 : decode cJ23_size 16 = .ok (.ireturn, 1) := dk_172 (dk_at dksJ23_size_0 16 rfl rfl)
abbrev cJ23_sub : ByteArray := prog_49_method_9_code
def yJ23_sub : MethodName := ⟨RJ23, "sub", "(III)I"⟩
def dkwJ23_sub_0 : List UInt8 := [26, 27, 100, 89, 59, 156, 0, 7, 26, 28, 96, 59, 26, 172]
abbrev dktJ23_sub_0 : List UInt8 := dkwJ23_sub_0 ++ []
theorem dksJ23_sub_0 : cJ23_sub.data.toList.drop 0 = dktJ23_sub_0 := by decide +kernel
theorem dJ23_sub_0 : decode cJ23_sub 0 = .ok (.iload_n 0, 1) := dk_26 (dk_at dksJ23_sub_0 0 rfl rfl)
theorem dJ23_sub_1 : decode cJ23_sub 1 = .ok (.iload_n 1, 1) := dk_27 (dk_at dksJ23_sub_0 1 rfl rfl)
theorem dJ23_sub_2 : decode cJ23_sub 2 = .ok (.isub, 1) := dk_100 (dk_at dksJ23_sub_0 2 rfl rfl)
theorem dJ23_sub_3 : decode cJ23_sub 3 = .ok (.dup, 1) := dk_89 (dk_at dksJ23_sub_0 3 rfl rfl)
theorem dJ23_sub_4 : decode cJ23_sub 4 = .ok (.istore_n 0, 1) := dk_59 (dk_at dksJ23_sub_0 4 rfl rfl)
theorem dJ23_sub_5 : decode cJ23_sub 5 = .ok (.ifCond .ge 7, 3) := dk_156 0 7 (dk_at dksJ23_sub_0 5 rfl rfl)
theorem dJ23_sub_8 : decode cJ23_sub 8 = .ok (.iload_n 0, 1) := dk_26 (dk_at dksJ23_sub_0 8 rfl rfl)
theorem dJ23_sub_9 : decode cJ23_sub 9 = .ok (.iload_n 2, 1) := dk_28 (dk_at dksJ23_sub_0 9 rfl rfl)
theorem dJ23_sub_10 : decode cJ23_sub 10 = .ok (.iadd, 1) := dk_96 (dk_at dksJ23_sub_0 10 rfl rfl)
theorem dJ23_sub_11 : decode cJ23_sub 11 = .ok (.istore_n 0, 1) := dk_59 (dk_at dksJ23_sub_0 11 rfl rfl)
theorem dJ23_sub_12 : decode cJ23_sub 12 = .ok (.iload_n 0, 1) := dk_26 (dk_at dksJ23_sub_0 12 rfl rfl)
theorem dJ23_sub_13 : decode cJ23_sub 13 = .ok (.ireturn, 1) := dk_172 (dk_at dksJ23_sub_0 13 rfl rfl)
abbrev cJ23_clear : ByteArray := prog_49_method_53_code
def yJ23_clear : MethodName := ⟨RJ23, "clear", "()V"⟩
def dkwJ23_clear_1 : List UInt8 := [181, 0, 24, 177]
abbrev dktJ23_clear_1 : List UInt8 := dkwJ23_clear_1 ++ []
def dkwJ23_clear_0 : List UInt8 := [42, 180, 0, 3, 42, 180, 0, 24, 42, 180, 0, 20, 184, 0, 181, 42, 42, 3, 90, 181, 0, 20]
abbrev dktJ23_clear_0 : List UInt8 := dkwJ23_clear_0 ++ dktJ23_clear_1
theorem dksJ23_clear_0 : cJ23_clear.data.toList.drop 0 = dktJ23_clear_0 := by decide +kernel
theorem dksJ23_clear_1 : cJ23_clear.data.toList.drop 22 = dktJ23_clear_1 := dk_seg dksJ23_clear_0 22 rfl rfl
theorem dJ23_clear_0 : decode cJ23_clear 0 = .ok (.aload_n 0, 1) := dk_42 (dk_at dksJ23_clear_0 0 rfl rfl)
theorem dJ23_clear_1 : decode cJ23_clear 1 = .ok (.getfield 3, 3) := dk_180 0 3 (dk_at dksJ23_clear_0 1 rfl rfl)
theorem dJ23_clear_4 : decode cJ23_clear 4 = .ok (.aload_n 0, 1) := dk_42 (dk_at dksJ23_clear_0 4 rfl rfl)
theorem dJ23_clear_5 : decode cJ23_clear 5 = .ok (.getfield 24, 3) := dk_180 0 24 (dk_at dksJ23_clear_0 5 rfl rfl)
theorem dJ23_clear_8 : decode cJ23_clear 8 = .ok (.aload_n 0, 1) := dk_42 (dk_at dksJ23_clear_0 8 rfl rfl)
theorem dJ23_clear_9 : decode cJ23_clear 9 = .ok (.getfield 20, 3) := dk_180 0 20 (dk_at dksJ23_clear_0 9 rfl rfl)
theorem dJ23_clear_12 : decode cJ23_clear 12 = .ok (.invokestatic 181, 3) := dk_184 0 181 (dk_at dksJ23_clear_0 12 rfl rfl)
theorem dJ23_clear_15 : decode cJ23_clear 15 = .ok (.aload_n 0, 1) := dk_42 (dk_at dksJ23_clear_0 15 rfl rfl)
theorem dJ23_clear_16 : decode cJ23_clear 16 = .ok (.aload_n 0, 1) := dk_42 (dk_at dksJ23_clear_0 16 rfl rfl)
theorem dJ23_clear_17 : decode cJ23_clear 17 = .ok (.iconst 0, 1) := dk_3 (dk_at dksJ23_clear_0 17 rfl rfl)
theorem dJ23_clear_18 : decode cJ23_clear 18 = .ok (.dup_x1, 1) := dk_90 (dk_at dksJ23_clear_0 18 rfl rfl)
theorem dJ23_clear_19 : decode cJ23_clear 19 = .ok (.putfield 20, 3) := dk_181 0 20 (dk_at dksJ23_clear_0 19 rfl rfl)
theorem dJ23_clear_22 : decode cJ23_clear 22 = .ok (.putfield 24, 3) := dk_181 0 24 (dk_at dksJ23_clear_1 0 rfl rfl)
theorem dJ23_clear_25 : decode cJ23_clear 25 = .ok (.return_, 1) := dk_177 (dk_at dksJ23_clear_1 3 rfl rfl)
abbrev cJ23_circularClear : ByteArray := prog_49_method_54_code
def yJ23_circularClear : MethodName := ⟨RJ23, "circularClear", "([Ljava/lang/Object;II)V"⟩
def dkwJ23_circularClear_1 : List UInt8 := [167, 255, 244, 29, 28, 160, 0, 6, 167, 0, 10, 3, 60, 28, 62, 167, 255, 229, 177]
abbrev dktJ23_circularClear_1 : List UInt8 := dkwJ23_circularClear_1 ++ []
def dkwJ23_circularClear_0 : List UInt8 := [27, 28, 163, 0, 7, 28, 167, 0, 5, 42, 190, 62, 27, 29, 162, 0, 13, 42, 27, 1, 83, 132, 1, 1]
abbrev dktJ23_circularClear_0 : List UInt8 := dkwJ23_circularClear_0 ++ dktJ23_circularClear_1
theorem dksJ23_circularClear_0 : cJ23_circularClear.data.toList.drop 0 = dktJ23_circularClear_0 := by decide +kernel
theorem dksJ23_circularClear_1 : cJ23_circularClear.data.toList.drop 24 = dktJ23_circularClear_1 := dk_seg dksJ23_circularClear_0 24 rfl rfl
theorem dJ23_circularClear_0 : decode cJ23_circularClear 0 = .ok (.iload_n 1, 1) := dk_27 (dk_at dksJ23_circularClear_0 0 rfl rfl)
theorem dJ23_circularClear_1 : decode cJ23_circularClear 1 = .ok (.iload_n 2, 1) := dk_28 (dk_at dksJ23_circularClear_0 1 rfl rfl)
theorem dJ23_circularClear_2 : decode cJ23_circularClear 2 = .ok (.if_icmp .gt 7, 3) := dk_163 0 7 (dk_at dksJ23_circularClear_0 2 rfl rfl)
theorem dJ23_circularClear_5 : decode cJ23_circularClear 5 = .ok (.iload_n 2, 1) := dk_28 (dk_at dksJ23_circularClear_0 5 rfl rfl)
theorem dJ23_circularClear_6 : decode cJ23_circularClear 6 = .ok (.goto 5, 3) := dk_167 0 5 (dk_at dksJ23_circularClear_0 6 rfl rfl)
theorem dJ23_circularClear_9 : decode cJ23_circularClear 9 = .ok (.aload_n 0, 1) := dk_42 (dk_at dksJ23_circularClear_0 9 rfl rfl)
theorem dJ23_circularClear_10 : decode cJ23_circularClear 10 = .ok (.arraylength, 1) := dk_190 (dk_at dksJ23_circularClear_0 10 rfl rfl)
theorem dJ23_circularClear_11 : decode cJ23_circularClear 11 = .ok (.istore_n 3, 1) := dk_62 (dk_at dksJ23_circularClear_0 11 rfl rfl)
theorem dJ23_circularClear_12 : decode cJ23_circularClear 12 = .ok (.iload_n 1, 1) := dk_27 (dk_at dksJ23_circularClear_0 12 rfl rfl)
theorem dJ23_circularClear_13 : decode cJ23_circularClear 13 = .ok (.iload_n 3, 1) := dk_29 (dk_at dksJ23_circularClear_0 13 rfl rfl)
theorem dJ23_circularClear_14 : decode cJ23_circularClear 14 = .ok (.if_icmp .ge 13, 3) := dk_162 0 13 (dk_at dksJ23_circularClear_0 14 rfl rfl)
theorem dJ23_circularClear_17 : decode cJ23_circularClear 17 = .ok (.aload_n 0, 1) := dk_42 (dk_at dksJ23_circularClear_0 17 rfl rfl)
theorem dJ23_circularClear_18 : decode cJ23_circularClear 18 = .ok (.iload_n 1, 1) := dk_27 (dk_at dksJ23_circularClear_0 18 rfl rfl)
theorem dJ23_circularClear_19 : decode cJ23_circularClear 19 = .ok (.aconst_null, 1) := dk_1 (dk_at dksJ23_circularClear_0 19 rfl rfl)
theorem dJ23_circularClear_20 : decode cJ23_circularClear 20 = .ok (.aastore, 1) := dk_83 (dk_at dksJ23_circularClear_0 20 rfl rfl)
theorem dJ23_circularClear_21 : decode cJ23_circularClear 21 = .ok (.iinc 1 1, 3) := dk_132 1 1 (dk_at dksJ23_circularClear_0 21 rfl rfl)
theorem dJ23_circularClear_24 : decode cJ23_circularClear 24 = .ok (.goto (-12), 3) := dk_167 255 244 (dk_at dksJ23_circularClear_1 0 rfl rfl)
theorem dJ23_circularClear_27 : decode cJ23_circularClear 27 = .ok (.iload_n 3, 1) := dk_29 (dk_at dksJ23_circularClear_1 3 rfl rfl)
theorem dJ23_circularClear_28 : decode cJ23_circularClear 28 = .ok (.iload_n 2, 1) := dk_28 (dk_at dksJ23_circularClear_1 4 rfl rfl)
theorem dJ23_circularClear_29 : decode cJ23_circularClear 29 = .ok (.if_icmp .ne 6, 3) := dk_160 0 6 (dk_at dksJ23_circularClear_1 5 rfl rfl)
theorem dJ23_circularClear_32 : decode cJ23_circularClear 32 = .ok (.goto 10, 3) := dk_167 0 10 (dk_at dksJ23_circularClear_1 8 rfl rfl)
theorem dJ23_circularClear_35 : decode cJ23_circularClear 35 = .ok (.iconst 0, 1) := dk_3 (dk_at dksJ23_circularClear_1 11 rfl rfl)
theorem dJ23_circularClear_36 : decode cJ23_circularClear 36 = .ok (.istore_n 1, 1) := dk_60 (dk_at dksJ23_circularClear_1 12 rfl rfl)
theorem dJ23_circularClear_37 : decode cJ23_circularClear 37 = .ok (.iload_n 2, 1) := dk_28 (dk_at dksJ23_circularClear_1 13 rfl rfl)
theorem dJ23_circularClear_38 : decode cJ23_circularClear 38 = .ok (.istore_n 3, 1) := dk_62 (dk_at dksJ23_circularClear_1 14 rfl rfl)
theorem dJ23_circularClear_39 : decode cJ23_circularClear 39 = .ok (.goto (-27), 3) := dk_167 255 229 (dk_at dksJ23_circularClear_1 15 rfl rfl)
theorem dJ23_circularClear_42 : decode cJ23_circularClear 42 = .ok (.return_, 1) := dk_177 (dk_at dksJ23_circularClear_1 18 rfl rfl)
abbrev cJ23_removeLast : ByteArray := prog_49_method_19_code
def yJ23_removeLast : MethodName := ⟨RJ23, "removeLast", "()Ljava/lang/Object;"⟩
def dkwJ23_removeLast_0 : List UInt8 := [42, 182, 0, 100, 76, 43, 199, 0, 11, 187, 0, 97, 89, 183, 0, 99, 191, 43, 176]
abbrev dktJ23_removeLast_0 : List UInt8 := dkwJ23_removeLast_0 ++ []
theorem dksJ23_removeLast_0 : cJ23_removeLast.data.toList.drop 0 = dktJ23_removeLast_0 := by decide +kernel
theorem dJ23_removeLast_0 : decode cJ23_removeLast 0 = .ok (.aload_n 0, 1) := dk_42 (dk_at dksJ23_removeLast_0 0 rfl rfl)
theorem dJ23_removeLast_1 : decode cJ23_removeLast 1 = .ok (.invokevirtual 100, 3) := dk_182 0 100 (dk_at dksJ23_removeLast_0 1 rfl rfl)
theorem dJ23_removeLast_4 : decode cJ23_removeLast 4 = .ok (.astore_n 1, 1) := dk_76 (dk_at dksJ23_removeLast_0 4 rfl rfl)
theorem dJ23_removeLast_5 : decode cJ23_removeLast 5 = .ok (.aload_n 1, 1) := dk_43 (dk_at dksJ23_removeLast_0 5 rfl rfl)
theorem dJ23_removeLast_6 : decode cJ23_removeLast 6 = .ok (.ifnonnull 11, 3) := dk_199 0 11 (dk_at dksJ23_removeLast_0 6 rfl rfl)
theorem dJ23_removeLast_9 : decode cJ23_removeLast 9 = .ok (.new 97, 3) := dk_187 0 97 (dk_at dksJ23_removeLast_0 9 rfl rfl)
theorem dJ23_removeLast_12 : decode cJ23_removeLast 12 = .ok (.dup, 1) := dk_89 (dk_at dksJ23_removeLast_0 12 rfl rfl)
theorem dJ23_removeLast_13 : decode cJ23_removeLast 13 = .ok (.invokespecial 99, 3) := dk_183 0 99 (dk_at dksJ23_removeLast_0 13 rfl rfl)
theorem dJ23_removeLast_16 : decode cJ23_removeLast 16 = .ok (.athrow, 1) := dk_191 (dk_at dksJ23_removeLast_0 16 rfl rfl)
theorem dJ23_removeLast_17 : decode cJ23_removeLast 17 = .ok (.aload_n 1, 1) := dk_43 (dk_at dksJ23_removeLast_0 17 rfl rfl)
theorem dJ23_removeLast_18 : decode cJ23_removeLast 18 = .ok (.areturn, 1) := dk_176 (dk_at dksJ23_removeLast_0 18 rfl rfl)
abbrev cJ23_pollLast : ByteArray := prog_49_method_21_code
def yJ23_pollLast : MethodName := ⟨RJ23, "pollLast", "()Ljava/lang/Object;"⟩
def dkwJ23_pollLast_1 : List UInt8 := [198, 0, 12, 43, 42, 28, 90, 181, 0, 20, 1, 83, 45, 176]
abbrev dktJ23_pollLast_1 : List UInt8 := dkwJ23_pollLast_1 ++ []
def dkwJ23_pollLast_0 : List UInt8 := [42, 180, 0, 3, 89, 76, 42, 180, 0, 20, 43, 190, 184, 0, 68, 89, 61, 184, 0, 103, 78, 45]
abbrev dktJ23_pollLast_0 : List UInt8 := dkwJ23_pollLast_0 ++ dktJ23_pollLast_1
theorem dksJ23_pollLast_0 : cJ23_pollLast.data.toList.drop 0 = dktJ23_pollLast_0 := by decide +kernel
theorem dksJ23_pollLast_1 : cJ23_pollLast.data.toList.drop 22 = dktJ23_pollLast_1 := dk_seg dksJ23_pollLast_0 22 rfl rfl
theorem dJ23_pollLast_0 : decode cJ23_pollLast 0 = .ok (.aload_n 0, 1) := dk_42 (dk_at dksJ23_pollLast_0 0 rfl rfl)
theorem dJ23_pollLast_1 : decode cJ23_pollLast 1 = .ok (.getfield 3, 3) := dk_180 0 3 (dk_at dksJ23_pollLast_0 1 rfl rfl)
theorem dJ23_pollLast_4 : decode cJ23_pollLast 4 = .ok (.dup, 1) := dk_89 (dk_at dksJ23_pollLast_0 4 rfl rfl)
theorem dJ23_pollLast_5 : decode cJ23_pollLast 5 = .ok (.astore_n 1, 1) := dk_76 (dk_at dksJ23_pollLast_0 5 rfl rfl)
theorem dJ23_pollLast_6 : decode cJ23_pollLast 6 = .ok (.aload_n 0, 1) := dk_42 (dk_at dksJ23_pollLast_0 6 rfl rfl)
theorem dJ23_pollLast_7 : decode cJ23_pollLast 7 = .ok (.getfield 20, 3) := dk_180 0 20 (dk_at dksJ23_pollLast_0 7 rfl rfl)
theorem dJ23_pollLast_10 : decode cJ23_pollLast 10 = .ok (.aload_n 1, 1) := dk_43 (dk_at dksJ23_pollLast_0 10 rfl rfl)
theorem dJ23_pollLast_11 : decode cJ23_pollLast 11 = .ok (.arraylength, 1) := dk_190 (dk_at dksJ23_pollLast_0 11 rfl rfl)
theorem dJ23_pollLast_12 : decode cJ23_pollLast 12 = .ok (.invokestatic 68, 3) := dk_184 0 68 (dk_at dksJ23_pollLast_0 12 rfl rfl)
theorem dJ23_pollLast_15 : decode cJ23_pollLast 15 = .ok (.dup, 1) := dk_89 (dk_at dksJ23_pollLast_0 15 rfl rfl)
theorem dJ23_pollLast_16 : decode cJ23_pollLast 16 = .ok (.istore_n 2, 1) := dk_61 (dk_at dksJ23_pollLast_0 16 rfl rfl)
theorem dJ23_pollLast_17 : decode cJ23_pollLast 17 = .ok (.invokestatic 103, 3) := dk_184 0 103 (dk_at dksJ23_pollLast_0 17 rfl rfl)
theorem dJ23_pollLast_20 : decode cJ23_pollLast 20 = .ok (.astore_n 3, 1) := dk_78 (dk_at dksJ23_pollLast_0 20 rfl rfl)
theorem dJ23_pollLast_21 : decode cJ23_pollLast 21 = .ok (.aload_n 3, 1) := dk_45 (dk_at dksJ23_pollLast_0 21 rfl rfl)
theorem dJ23_pollLast_22 : decode cJ23_pollLast 22 = .ok (.ifnull 12, 3) := dk_198 0 12 (dk_at dksJ23_pollLast_1 0 rfl rfl)
theorem dJ23_pollLast_25 : decode cJ23_pollLast 25 = .ok (.aload_n 1, 1) := dk_43 (dk_at dksJ23_pollLast_1 3 rfl rfl)
theorem dJ23_pollLast_26 : decode cJ23_pollLast 26 = .ok (.aload_n 0, 1) := dk_42 (dk_at dksJ23_pollLast_1 4 rfl rfl)
theorem dJ23_pollLast_27 : decode cJ23_pollLast 27 = .ok (.iload_n 2, 1) := dk_28 (dk_at dksJ23_pollLast_1 5 rfl rfl)
theorem dJ23_pollLast_28 : decode cJ23_pollLast 28 = .ok (.dup_x1, 1) := dk_90 (dk_at dksJ23_pollLast_1 6 rfl rfl)
theorem dJ23_pollLast_29 : decode cJ23_pollLast 29 = .ok (.putfield 20, 3) := dk_181 0 20 (dk_at dksJ23_pollLast_1 7 rfl rfl)
theorem dJ23_pollLast_32 : decode cJ23_pollLast 32 = .ok (.aconst_null, 1) := dk_1 (dk_at dksJ23_pollLast_1 10 rfl rfl)
theorem dJ23_pollLast_33 : decode cJ23_pollLast 33 = .ok (.aastore, 1) := dk_83 (dk_at dksJ23_pollLast_1 11 rfl rfl)
theorem dJ23_pollLast_34 : decode cJ23_pollLast 34 = .ok (.aload_n 3, 1) := dk_45 (dk_at dksJ23_pollLast_1 12 rfl rfl)
theorem dJ23_pollLast_35 : decode cJ23_pollLast 35 = .ok (.areturn, 1) := dk_176 (dk_at dksJ23_pollLast_1 13 rfl rfl)
abbrev cJ23_dec : ByteArray := prog_49_method_7_code
def yJ23_dec : MethodName := ⟨RJ23, "dec", "(II)I"⟩
def dkwJ23_dec_0 : List UInt8 := [132, 0, 255, 26, 156, 0, 7, 27, 4, 100, 59, 26, 172]
abbrev dktJ23_dec_0 : List UInt8 := dkwJ23_dec_0 ++ []
theorem dksJ23_dec_0 : cJ23_dec.data.toList.drop 0 = dktJ23_dec_0 := by decide +kernel
theorem dJ23_dec_0 : decode cJ23_dec 0 = .ok (.iinc 0 (-1), 3) := dk_132 0 255 (dk_at dksJ23_dec_0 0 rfl rfl)
theorem dJ23_dec_3 : decode cJ23_dec 3 = .ok (.iload_n 0, 1) := dk_26 (dk_at dksJ23_dec_0 3 rfl rfl)
theorem dJ23_dec_4 : decode cJ23_dec 4 = .ok (.ifCond .ge 7, 3) := dk_156 0 7 (dk_at dksJ23_dec_0 4 rfl rfl)
theorem dJ23_dec_7 : decode cJ23_dec 7 = .ok (.iload_n 1, 1) := dk_27 (dk_at dksJ23_dec_0 7 rfl rfl)
theorem dJ23_dec_8 : decode cJ23_dec 8 = .ok (.iconst 1, 1) := dk_4 (dk_at dksJ23_dec_0 8 rfl rfl)
theorem dJ23_dec_9 : decode cJ23_dec 9 = .ok (.isub, 1) := dk_100 (dk_at dksJ23_dec_0 9 rfl rfl)
theorem dJ23_dec_10 : decode cJ23_dec 10 = .ok (.istore_n 0, 1) := dk_59 (dk_at dksJ23_dec_0 10 rfl rfl)
theorem dJ23_dec_11 : decode cJ23_dec 11 = .ok (.iload_n 0, 1) := dk_26 (dk_at dksJ23_dec_0 11 rfl rfl)
theorem dJ23_dec_12 : decode cJ23_dec 12 = .ok (.ireturn, 1) := dk_172 (dk_at dksJ23_dec_0 12 rfl rfl)
theorem q130 : (Jvm.Cond.initialized "java/util/ArrayDeque") ∈ lw_all := lw_g (lw_at lw_m1 29 rfl) rfl
theorem q308 : (Jvm.Cond.selects "java/util/ArrayDeque" ({ cls := "java/lang/Object", name := "getClass", desc := "()Ljava/lang/Class;" } : Jvm.MethodName) ({ cls := "java/lang/Object", name := "getClass", desc := "()Ljava/lang/Class;" } : Jvm.MethodName)) ∈ lw_all := lw_g (lw_at lw_m1 207 rfl) rfl
theorem q897 : (Jvm.Cond.instantiable "java/util/ArrayDeque" (3 : Nat)) ∈ lw_all := lw_g (lw_at lw_m4 76 rfl) rfl
theorem q899 : (Jvm.Cond.instanceMethod ({ cls := "java/util/ArrayDeque", name := "<init>", desc := "()V" } : Jvm.MethodName)) ∈ lw_all := lw_g (lw_at lw_m4 78 rfl) rfl
theorem q900 : (Jvm.Cond.code ({ cls := "java/util/ArrayDeque", name := "<init>", desc := "()V" } : Jvm.MethodName) prog_49_method_3_code (1 : Nat) (Option.none : Option Jvm.ClassFile.FieldType)) ∈ lw_all := lw_g (lw_at lw_m4 79 rfl) rfl
theorem q901 : (Jvm.Cond.methodLink "java/util/ArrayDeque" (42 : Nat) ({ cls := "java/util/AbstractCollection", name := "<init>", desc := "()V" } : Jvm.MethodName)) ∈ lw_all := lw_g (lw_at lw_m4 80 rfl) rfl
theorem q902 : (Jvm.Cond.classLink "java/util/ArrayDeque" (47 : Nat) "java/lang/Object") ∈ lw_all := lw_g (lw_at lw_m4 81 rfl) rfl
theorem q903 : (Jvm.Cond.fieldLink "java/util/ArrayDeque" (3 : Nat) "java/util/ArrayDeque" "elements" "[Ljava/lang/Object;") ∈ lw_all := lw_g (lw_at lw_m4 82 rfl) rfl
theorem q906 : (Jvm.Cond.fieldLink "java/util/ArrayDeque" (24 : Nat) "java/util/ArrayDeque" "head" "I") ∈ lw_all := lw_g (lw_at lw_m4 85 rfl) rfl
theorem q907 : (Jvm.Cond.fieldLink "java/util/ArrayDeque" (20 : Nat) "java/util/ArrayDeque" "tail" "I") ∈ lw_all := lw_g (lw_at lw_m4 86 rfl) rfl
theorem q908 : (Jvm.Cond.lays "java/util/ArrayDeque" "java/util/ArrayDeque" "elements" "[Ljava/lang/Object;") ∈ lw_all := lw_g (lw_at lw_m4 87 rfl) rfl
theorem q909 : (Jvm.Cond.soleField "java/util/ArrayDeque" "elements") ∈ lw_all := lw_g (lw_at lw_m4 88 rfl) rfl
theorem q910 : (Jvm.Cond.lays "java/util/ArrayDeque" "java/util/ArrayDeque" "head" "I") ∈ lw_all := lw_g (lw_at lw_m4 89 rfl) rfl
theorem q911 : (Jvm.Cond.soleField "java/util/ArrayDeque" "head") ∈ lw_all := lw_g (lw_at lw_m4 90 rfl) rfl
theorem q912 : (Jvm.Cond.lays "java/util/ArrayDeque" "java/util/ArrayDeque" "tail" "I") ∈ lw_all := lw_g (lw_at lw_m4 91 rfl) rfl
theorem q913 : (Jvm.Cond.soleField "java/util/ArrayDeque" "tail") ∈ lw_all := lw_g (lw_at lw_m4 92 rfl) rfl
theorem q914 : (Jvm.Cond.superclass "java/util/ArrayDeque" "java/util/AbstractCollection") ∈ lw_all := lw_g (lw_at lw_m4 93 rfl) rfl
theorem q917 : (Jvm.Cond.instanceMethod ({ cls := "java/util/ArrayDeque", name := "addLast", desc := "(Ljava/lang/Object;)V" } : Jvm.MethodName)) ∈ lw_all := lw_g (lw_at lw_m4 96 rfl) rfl
theorem q918 : (Jvm.Cond.selects "java/util/ArrayDeque" ({ cls := "java/util/ArrayDeque", name := "addLast", desc := "(Ljava/lang/Object;)V" } : Jvm.MethodName) ({ cls := "java/util/ArrayDeque", name := "addLast", desc := "(Ljava/lang/Object;)V" } : Jvm.MethodName)) ∈ lw_all := lw_g (lw_at lw_m4 97 rfl) rfl
theorem q919 : (Jvm.Cond.code ({ cls := "java/util/ArrayDeque", name := "addLast", desc := "(Ljava/lang/Object;)V" } : Jvm.MethodName) prog_49_method_13_code (3 : Nat) (Option.none : Option Jvm.ClassFile.FieldType)) ∈ lw_all := lw_g (lw_at lw_m4 98 rfl) rfl
theorem q920 : (Jvm.Cond.methodLink "java/util/ArrayDeque" (74 : Nat) ({ cls := "java/util/ArrayDeque", name := "inc", desc := "(II)I" } : Jvm.MethodName)) ∈ lw_all := lw_g (lw_at lw_m4 99 rfl) rfl
theorem q921 : (Jvm.Cond.static ({ cls := "java/util/ArrayDeque", name := "inc", desc := "(II)I" } : Jvm.MethodName)) ∈ lw_all := lw_g (lw_at lw_m4 100 rfl) rfl
theorem q922 : (Jvm.Cond.code ({ cls := "java/util/ArrayDeque", name := "inc", desc := "(II)I" } : Jvm.MethodName) prog_49_method_6_code (2 : Nat) (Option.some Jvm.ClassFile.FieldType.int)) ∈ lw_all := lw_g (lw_at lw_m4 101 rfl) rfl
theorem q923 : (Jvm.Cond.methodLink "java/util/ArrayDeque" (71 : Nat) ({ cls := "java/util/ArrayDeque", name := "grow", desc := "(I)V" } : Jvm.MethodName)) ∈ lw_all := lw_g (lw_at lw_m4 102 rfl) rfl
theorem q924 : (Jvm.Cond.privateMethod ({ cls := "java/util/ArrayDeque", name := "grow", desc := "(I)V" } : Jvm.MethodName)) ∈ lw_tbl := lw_at lw_m4 103 rfl
theorem q925 : (Jvm.Cond.instanceMethod ({ cls := "java/util/ArrayDeque", name := "grow", desc := "(I)V" } : Jvm.MethodName)) ∈ lw_all := lw_g (lw_at lw_m4 104 rfl) rfl
theorem q926 : (Jvm.Cond.code ({ cls := "java/util/ArrayDeque", name := "grow", desc := "(I)V" } : Jvm.MethodName) prog_49_method_1_code (9 : Nat) (Option.none : Option Jvm.ClassFile.FieldType)) ∈ lw_all := lw_g (lw_at lw_m4 105 rfl) rfl
theorem q927 : (Jvm.Cond.constant "java/util/ArrayDeque" (9 : Nat) (2147483639 : Int32)) ∈ lw_all := lw_g (lw_at lw_m4 106 rfl) rfl
theorem q928 : (Jvm.Cond.methodLink "java/util/ArrayDeque" (10 : Nat) ({ cls := "java/util/ArrayDeque", name := "newCapacity", desc := "(II)I" } : Jvm.MethodName)) ∈ lw_all := lw_g (lw_at lw_m4 107 rfl) rfl
theorem q929 : (Jvm.Cond.privateMethod ({ cls := "java/util/ArrayDeque", name := "newCapacity", desc := "(II)I" } : Jvm.MethodName)) ∈ lw_tbl := lw_at lw_m4 108 rfl
theorem q930 : (Jvm.Cond.instanceMethod ({ cls := "java/util/ArrayDeque", name := "newCapacity", desc := "(II)I" } : Jvm.MethodName)) ∈ lw_all := lw_g (lw_at lw_m4 109 rfl) rfl
theorem q931 : (Jvm.Cond.code ({ cls := "java/util/ArrayDeque", name := "newCapacity", desc := "(II)I" } : Jvm.MethodName) prog_49_method_2_code (5 : Nat) (Option.some Jvm.ClassFile.FieldType.int)) ∈ lw_all := lw_g (lw_at lw_m4 110 rfl) rfl
theorem q932 : (Jvm.Cond.classLink "java/util/ArrayDeque" (33 : Nat) "java/lang/IllegalStateException") ∈ lw_all := lw_g (lw_at lw_m4 111 rfl) rfl
theorem q941 : (Jvm.Cond.stringRef "java/util/ArrayDeque" (35 : Nat) "Sorry, deque too big") ∈ lw_tbl := lw_at lw_m4 120 rfl
theorem q942 : (Jvm.Cond.methodLink "java/util/ArrayDeque" (37 : Nat) ({ cls := "java/lang/IllegalStateException", name := "<init>", desc := "(Ljava/lang/String;)V" } : Jvm.MethodName)) ∈ lw_all := lw_g (lw_at lw_m4 121 rfl) rfl
theorem q948 : (Jvm.Cond.constant "java/util/ArrayDeque" (41 : Nat) (2147483647 : Int32)) ∈ lw_all := lw_g (lw_at lw_m4 127 rfl) rfl
theorem q949 : (Jvm.Cond.methodLink "java/util/ArrayDeque" (14 : Nat) ({ cls := "java/util/Arrays", name := "copyOf", desc := "([Ljava/lang/Object;I)[Ljava/lang/Object;" } : Jvm.MethodName)) ∈ lw_all := lw_g (lw_at lw_m4 128 rfl) rfl
theorem q950 : (Jvm.Cond.methodLink "java/util/ArrayDeque" (27 : Nat) ({ cls := "java/lang/System", name := "arraycopy", desc := "(Ljava/lang/Object;ILjava/lang/Object;II)V" } : Jvm.MethodName)) ∈ lw_all := lw_g (lw_at lw_m4 129 rfl) rfl
theorem q952 : (Jvm.Cond.instanceMethod ({ cls := "java/util/ArrayDeque", name := "isEmpty", desc := "()Z" } : Jvm.MethodName)) ∈ lw_all := lw_g (lw_at lw_m4 131 rfl) rfl
theorem q953 : (Jvm.Cond.selects "java/util/ArrayDeque" ({ cls := "java/util/ArrayDeque", name := "isEmpty", desc := "()Z" } : Jvm.MethodName) ({ cls := "java/util/ArrayDeque", name := "isEmpty", desc := "()Z" } : Jvm.MethodName)) ∈ lw_all := lw_g (lw_at lw_m4 132 rfl) rfl
theorem q954 : (Jvm.Cond.code ({ cls := "java/util/ArrayDeque", name := "isEmpty", desc := "()Z" } : Jvm.MethodName) prog_49_method_38_code (1 : Nat) (Option.some Jvm.ClassFile.FieldType.boolean)) ∈ lw_all := lw_g (lw_at lw_m4 133 rfl) rfl
theorem q956 : (Jvm.Cond.instanceMethod ({ cls := "java/util/ArrayDeque", name := "removeFirst", desc := "()Ljava/lang/Object;" } : Jvm.MethodName)) ∈ lw_all := lw_g (lw_at lw_m4 135 rfl) rfl
theorem q957 : (Jvm.Cond.selects "java/util/ArrayDeque" ({ cls := "java/util/ArrayDeque", name := "removeFirst", desc := "()Ljava/lang/Object;" } : Jvm.MethodName) ({ cls := "java/util/ArrayDeque", name := "removeFirst", desc := "()Ljava/lang/Object;" } : Jvm.MethodName)) ∈ lw_all := lw_g (lw_at lw_m4 136 rfl) rfl
theorem q958 : (Jvm.Cond.code ({ cls := "java/util/ArrayDeque", name := "removeFirst", desc := "()Ljava/lang/Object;" } : Jvm.MethodName) prog_49_method_18_code (2 : Nat) (Option.some (Jvm.ClassFile.FieldType.object "java/lang/Object"))) ∈ lw_all := lw_g (lw_at lw_m4 137 rfl) rfl
theorem q959 : (Jvm.Cond.methodLink "java/util/ArrayDeque" (93 : Nat) ({ cls := "java/util/ArrayDeque", name := "pollFirst", desc := "()Ljava/lang/Object;" } : Jvm.MethodName)) ∈ lw_all := lw_g (lw_at lw_m4 138 rfl) rfl
theorem q960 : (Jvm.Cond.instanceMethod ({ cls := "java/util/ArrayDeque", name := "pollFirst", desc := "()Ljava/lang/Object;" } : Jvm.MethodName)) ∈ lw_all := lw_g (lw_at lw_m4 139 rfl) rfl
theorem q961 : (Jvm.Cond.selects "java/util/ArrayDeque" ({ cls := "java/util/ArrayDeque", name := "pollFirst", desc := "()Ljava/lang/Object;" } : Jvm.MethodName) ({ cls := "java/util/ArrayDeque", name := "pollFirst", desc := "()Ljava/lang/Object;" } : Jvm.MethodName)) ∈ lw_all := lw_g (lw_at lw_m4 140 rfl) rfl
theorem q962 : (Jvm.Cond.code ({ cls := "java/util/ArrayDeque", name := "pollFirst", desc := "()Ljava/lang/Object;" } : Jvm.MethodName) prog_49_method_20_code (4 : Nat) (Option.some (Jvm.ClassFile.FieldType.object "java/lang/Object"))) ∈ lw_all := lw_g (lw_at lw_m4 141 rfl) rfl
theorem q963 : (Jvm.Cond.methodLink "java/util/ArrayDeque" (103 : Nat) ({ cls := "java/util/ArrayDeque", name := "elementAt", desc := "([Ljava/lang/Object;I)Ljava/lang/Object;" } : Jvm.MethodName)) ∈ lw_all := lw_g (lw_at lw_m4 142 rfl) rfl
theorem q964 : (Jvm.Cond.static ({ cls := "java/util/ArrayDeque", name := "elementAt", desc := "([Ljava/lang/Object;I)Ljava/lang/Object;" } : Jvm.MethodName)) ∈ lw_all := lw_g (lw_at lw_m4 143 rfl) rfl
theorem q965 : (Jvm.Cond.code ({ cls := "java/util/ArrayDeque", name := "elementAt", desc := "([Ljava/lang/Object;I)Ljava/lang/Object;" } : Jvm.MethodName) prog_49_method_10_code (2 : Nat) (Option.some (Jvm.ClassFile.FieldType.object "java/lang/Object"))) ∈ lw_all := lw_g (lw_at lw_m4 144 rfl) rfl
theorem q966 : (Jvm.Cond.classLink "java/util/ArrayDeque" (97 : Nat) "java/util/NoSuchElementException") ∈ lw_all := lw_g (lw_at lw_m4 145 rfl) rfl
theorem q975 : (Jvm.Cond.methodLink "java/util/ArrayDeque" (99 : Nat) ({ cls := "java/util/NoSuchElementException", name := "<init>", desc := "()V" } : Jvm.MethodName)) ∈ lw_all := lw_g (lw_at lw_m4 154 rfl) rfl
theorem q1337 : (Jvm.Cond.static ({ cls := "java/util/ArrayDeque", name := "nonNullElementAt", desc := "([Ljava/lang/Object;I)Ljava/lang/Object;" } : Jvm.MethodName)) ∈ lw_all := lw_g (lw_at lw_m6 36 rfl) rfl
theorem q1338 : (Jvm.Cond.code ({ cls := "java/util/ArrayDeque", name := "nonNullElementAt", desc := "([Ljava/lang/Object;I)Ljava/lang/Object;" } : Jvm.MethodName) prog_49_method_11_code (3 : Nat) (Option.some (Jvm.ClassFile.FieldType.object "java/lang/Object"))) ∈ lw_all := lw_g (lw_at lw_m6 37 rfl) rfl
theorem q1357 : (Jvm.Cond.instanceMethod ({ cls := "java/util/ArrayDeque", name := "poll", desc := "()Ljava/lang/Object;" } : Jvm.MethodName)) ∈ lw_all := lw_g (lw_at lw_m6 56 rfl) rfl
theorem q1358 : (Jvm.Cond.selects "java/util/ArrayDeque" ({ cls := "java/util/ArrayDeque", name := "poll", desc := "()Ljava/lang/Object;" } : Jvm.MethodName) ({ cls := "java/util/ArrayDeque", name := "poll", desc := "()Ljava/lang/Object;" } : Jvm.MethodName)) ∈ lw_all := lw_g (lw_at lw_m6 57 rfl) rfl
theorem q1359 : (Jvm.Cond.code ({ cls := "java/util/ArrayDeque", name := "poll", desc := "()Ljava/lang/Object;" } : Jvm.MethodName) prog_49_method_31_code (1 : Nat) (Option.some (Jvm.ClassFile.FieldType.object "java/lang/Object"))) ∈ lw_all := lw_g (lw_at lw_m6 58 rfl) rfl
theorem q1679 : (Jvm.Cond.selects "java/util/ArrayDeque" ({ cls := "java/util/AbstractCollection", name := "size", desc := "()I" } : Jvm.MethodName) ({ cls := "java/util/ArrayDeque", name := "size", desc := "()I" } : Jvm.MethodName)) ∈ lw_all := lw_g (lw_at lw_m7 138 rfl) rfl
theorem q1680 : (Jvm.Cond.instanceMethod ({ cls := "java/util/ArrayDeque", name := "size", desc := "()I" } : Jvm.MethodName)) ∈ lw_all := lw_g (lw_at lw_m7 139 rfl) rfl
theorem q1681 : (Jvm.Cond.code ({ cls := "java/util/ArrayDeque", name := "size", desc := "()I" } : Jvm.MethodName) prog_49_method_37_code (1 : Nat) (Option.some Jvm.ClassFile.FieldType.int)) ∈ lw_all := lw_g (lw_at lw_m7 140 rfl) rfl
theorem q1682 : (Jvm.Cond.methodLink "java/util/ArrayDeque" (127 : Nat) ({ cls := "java/util/ArrayDeque", name := "sub", desc := "(III)I" } : Jvm.MethodName)) ∈ lw_all := lw_g (lw_at lw_m7 141 rfl) rfl
theorem q1683 : (Jvm.Cond.static ({ cls := "java/util/ArrayDeque", name := "sub", desc := "(III)I" } : Jvm.MethodName)) ∈ lw_all := lw_g (lw_at lw_m7 142 rfl) rfl
theorem q1684 : (Jvm.Cond.code ({ cls := "java/util/ArrayDeque", name := "sub", desc := "(III)I" } : Jvm.MethodName) prog_49_method_9_code (3 : Nat) (Option.some Jvm.ClassFile.FieldType.int)) ∈ lw_all := lw_g (lw_at lw_m7 143 rfl) rfl
theorem q2027 : (Jvm.Cond.instanceMethod ({ cls := "java/util/ArrayDeque", name := "clear", desc := "()V" } : Jvm.MethodName)) ∈ lw_all := lw_g (lw_at lw_m9 6 rfl) rfl
theorem q2028 : (Jvm.Cond.selects "java/util/ArrayDeque" ({ cls := "java/util/ArrayDeque", name := "clear", desc := "()V" } : Jvm.MethodName) ({ cls := "java/util/ArrayDeque", name := "clear", desc := "()V" } : Jvm.MethodName)) ∈ lw_all := lw_g (lw_at lw_m9 7 rfl) rfl
theorem q2029 : (Jvm.Cond.code ({ cls := "java/util/ArrayDeque", name := "clear", desc := "()V" } : Jvm.MethodName) prog_49_method_53_code (1 : Nat) (Option.none : Option Jvm.ClassFile.FieldType)) ∈ lw_all := lw_g (lw_at lw_m9 8 rfl) rfl
theorem q2030 : (Jvm.Cond.methodLink "java/util/ArrayDeque" (181 : Nat) ({ cls := "java/util/ArrayDeque", name := "circularClear", desc := "([Ljava/lang/Object;II)V" } : Jvm.MethodName)) ∈ lw_all := lw_g (lw_at lw_m9 9 rfl) rfl
theorem q2031 : (Jvm.Cond.static ({ cls := "java/util/ArrayDeque", name := "circularClear", desc := "([Ljava/lang/Object;II)V" } : Jvm.MethodName)) ∈ lw_all := lw_g (lw_at lw_m9 10 rfl) rfl
theorem q2032 : (Jvm.Cond.code ({ cls := "java/util/ArrayDeque", name := "circularClear", desc := "([Ljava/lang/Object;II)V" } : Jvm.MethodName) prog_49_method_54_code (4 : Nat) (Option.none : Option Jvm.ClassFile.FieldType)) ∈ lw_all := lw_g (lw_at lw_m9 11 rfl) rfl
theorem q2145 : (Jvm.Cond.instanceMethod ({ cls := "java/util/ArrayDeque", name := "removeLast", desc := "()Ljava/lang/Object;" } : Jvm.MethodName)) ∈ lw_all := lw_g (lw_at lw_m9 124 rfl) rfl
theorem q2146 : (Jvm.Cond.selects "java/util/ArrayDeque" ({ cls := "java/util/ArrayDeque", name := "removeLast", desc := "()Ljava/lang/Object;" } : Jvm.MethodName) ({ cls := "java/util/ArrayDeque", name := "removeLast", desc := "()Ljava/lang/Object;" } : Jvm.MethodName)) ∈ lw_all := lw_g (lw_at lw_m9 125 rfl) rfl
theorem q2147 : (Jvm.Cond.code ({ cls := "java/util/ArrayDeque", name := "removeLast", desc := "()Ljava/lang/Object;" } : Jvm.MethodName) prog_49_method_19_code (2 : Nat) (Option.some (Jvm.ClassFile.FieldType.object "java/lang/Object"))) ∈ lw_all := lw_g (lw_at lw_m9 126 rfl) rfl
theorem q2148 : (Jvm.Cond.methodLink "java/util/ArrayDeque" (100 : Nat) ({ cls := "java/util/ArrayDeque", name := "pollLast", desc := "()Ljava/lang/Object;" } : Jvm.MethodName)) ∈ lw_all := lw_g (lw_at lw_m9 127 rfl) rfl
theorem q2149 : (Jvm.Cond.instanceMethod ({ cls := "java/util/ArrayDeque", name := "pollLast", desc := "()Ljava/lang/Object;" } : Jvm.MethodName)) ∈ lw_all := lw_g (lw_at lw_m9 128 rfl) rfl
theorem q2150 : (Jvm.Cond.selects "java/util/ArrayDeque" ({ cls := "java/util/ArrayDeque", name := "pollLast", desc := "()Ljava/lang/Object;" } : Jvm.MethodName) ({ cls := "java/util/ArrayDeque", name := "pollLast", desc := "()Ljava/lang/Object;" } : Jvm.MethodName)) ∈ lw_all := lw_g (lw_at lw_m9 129 rfl) rfl
theorem q2151 : (Jvm.Cond.code ({ cls := "java/util/ArrayDeque", name := "pollLast", desc := "()Ljava/lang/Object;" } : Jvm.MethodName) prog_49_method_21_code (4 : Nat) (Option.some (Jvm.ClassFile.FieldType.object "java/lang/Object"))) ∈ lw_all := lw_g (lw_at lw_m9 130 rfl) rfl
theorem q2152 : (Jvm.Cond.methodLink "java/util/ArrayDeque" (68 : Nat) ({ cls := "java/util/ArrayDeque", name := "dec", desc := "(II)I" } : Jvm.MethodName)) ∈ lw_all := lw_g (lw_at lw_m9 131 rfl) rfl
theorem q2153 : (Jvm.Cond.static ({ cls := "java/util/ArrayDeque", name := "dec", desc := "(II)I" } : Jvm.MethodName)) ∈ lw_all := lw_g (lw_at lw_m9 132 rfl) rfl
theorem q2154 : (Jvm.Cond.code ({ cls := "java/util/ArrayDeque", name := "dec", desc := "(II)I" } : Jvm.MethodName) prog_49_method_7_code (2 : Nat) (Option.some Jvm.ClassFile.FieldType.int)) ∈ lw_all := lw_g (lw_at lw_m9 133 rfl) rfl
theorem q2229 : (Jvm.Cond.castable "java/util/ArrayDeque" "java/util/Collection") ∈ lw_tbl := lw_at lw_m9 208 rfl
theorem q2230 : (Jvm.Cond.selects "java/util/ArrayDeque" ({ cls := "java/util/Collection", name := "toArray", desc := "()[Ljava/lang/Object;" } : Jvm.MethodName) ({ cls := "java/util/ArrayDeque", name := "toArray", desc := "()[Ljava/lang/Object;" } : Jvm.MethodName)) ∈ lw_all := lw_g (lw_at lw_m9 209 rfl) rfl
theorem q2231 : (Jvm.Cond.unhidden "java/util/ArrayDeque" "toArray" "()[Ljava/lang/Object;") ∈ lw_tbl := lw_at lw_m9 210 rfl
theorem q2232 : (Jvm.Cond.instanceMethod ({ cls := "java/util/ArrayDeque", name := "toArray", desc := "()[Ljava/lang/Object;" } : Jvm.MethodName)) ∈ lw_all := lw_g (lw_at lw_m9 211 rfl) rfl
theorem q2233 : (Jvm.Cond.publicMethod ({ cls := "java/util/ArrayDeque", name := "toArray", desc := "()[Ljava/lang/Object;" } : Jvm.MethodName)) ∈ lw_tbl := lw_at lw_m9 212 rfl
theorem q2234 : (Jvm.Cond.code ({ cls := "java/util/ArrayDeque", name := "toArray", desc := "()[Ljava/lang/Object;" } : Jvm.MethodName) prog_49_method_55_code (1 : Nat) (Option.some (Jvm.ClassFile.FieldType.array (Jvm.ClassFile.FieldType.object "java/lang/Object")))) ∈ lw_all := lw_g (lw_at lw_m9 213 rfl) rfl
theorem q2235 : (Jvm.Cond.classLink "java/util/ArrayDeque" (188 : Nat) "[Ljava/lang/Object;") ∈ lw_all := lw_g (lw_at lw_m9 214 rfl) rfl
theorem q2236 : (Jvm.Cond.methodLink "java/util/ArrayDeque" (189 : Nat) ({ cls := "java/util/ArrayDeque", name := "toArray", desc := "(Ljava/lang/Class;)[Ljava/lang/Object;" } : Jvm.MethodName)) ∈ lw_all := lw_g (lw_at lw_m9 215 rfl) rfl
theorem q2237 : (Jvm.Cond.privateMethod ({ cls := "java/util/ArrayDeque", name := "toArray", desc := "(Ljava/lang/Class;)[Ljava/lang/Object;" } : Jvm.MethodName)) ∈ lw_tbl := lw_at lw_m9 216 rfl
theorem q2238 : (Jvm.Cond.instanceMethod ({ cls := "java/util/ArrayDeque", name := "toArray", desc := "(Ljava/lang/Class;)[Ljava/lang/Object;" } : Jvm.MethodName)) ∈ lw_all := lw_g (lw_at lw_m9 217 rfl) rfl
theorem q2239 : (Jvm.Cond.code ({ cls := "java/util/ArrayDeque", name := "toArray", desc := "(Ljava/lang/Class;)[Ljava/lang/Object;" } : Jvm.MethodName) prog_49_method_56_code (7 : Nat) (Option.some (Jvm.ClassFile.FieldType.array (Jvm.ClassFile.FieldType.object "java/lang/Object")))) ∈ lw_all := lw_g (lw_at lw_m9 218 rfl) rfl
theorem q2240 : (Jvm.Cond.methodLink "java/util/ArrayDeque" (193 : Nat) ({ cls := "java/util/Arrays", name := "copyOfRange", desc := "([Ljava/lang/Object;IILjava/lang/Class;)[Ljava/lang/Object;" } : Jvm.MethodName)) ∈ lw_all := lw_g (lw_at lw_m9 219 rfl) rfl
theorem q2265 : (Jvm.Cond.selects "java/util/ArrayDeque" ({ cls := "java/util/AbstractCollection", name := "iterator", desc := "()Ljava/util/Iterator;" } : Jvm.MethodName) ({ cls := "java/util/ArrayDeque", name := "iterator", desc := "()Ljava/util/Iterator;" } : Jvm.MethodName)) ∈ lw_all := lw_g (lw_at lw_m10 4 rfl) rfl
theorem q2266 : (Jvm.Cond.instanceMethod ({ cls := "java/util/ArrayDeque", name := "iterator", desc := "()Ljava/util/Iterator;" } : Jvm.MethodName)) ∈ lw_all := lw_g (lw_at lw_m10 5 rfl) rfl
theorem q2267 : (Jvm.Cond.code ({ cls := "java/util/ArrayDeque", name := "iterator", desc := "()Ljava/util/Iterator;" } : Jvm.MethodName) prog_49_method_39_code (1 : Nat) (Option.some (Jvm.ClassFile.FieldType.object "java/util/Iterator"))) ∈ lw_all := lw_g (lw_at lw_m10 6 rfl) rfl
theorem q2268 : (Jvm.Cond.classLink "java/util/ArrayDeque" (131 : Nat) "java/util/ArrayDeque$DeqIterator") ∈ lw_all := lw_g (lw_at lw_m10 7 rfl) rfl
theorem q2270 : (Jvm.Cond.methodLink "java/util/ArrayDeque" (133 : Nat) ({ cls := "java/util/ArrayDeque$DeqIterator", name := "<init>", desc := "(Ljava/util/ArrayDeque;)V" } : Jvm.MethodName)) ∈ lw_all := lw_g (lw_at lw_m10 9 rfl) rfl
theorem q3291 : (Jvm.Cond.selects "java/util/ArrayDeque" ({ cls := "java/util/ArrayDeque", name := "size", desc := "()I" } : Jvm.MethodName) ({ cls := "java/util/ArrayDeque", name := "size", desc := "()I" } : Jvm.MethodName)) ∈ lw_all := lw_g (lw_at lw_m14 70 rfl) rfl
theorem q3305 : (Jvm.Cond.castable "java/util/ArrayDeque" "java/lang/Object") ∈ lw_tbl := lw_at lw_m14 84 rfl
theorem in_J23 : ∀ w ∈ wsJ230, w ∈ lw_all := lw_in wsJ230 [908, 910, 912] (by decide +kernel) (by decide +kernel)
/-! java/lang/IllegalStateException -/
set_option maxRecDepth 100000
def RJ24 : String := "java/lang/IllegalStateException"
def TJ24 : u_T := fun k => match k with
  | 0 => ("java/lang/Throwable", "cause", "Ljava/lang/Throwable;", false)
  | 1 => ("java/lang/Throwable", "stackTrace", "[Ljava/lang/StackTraceElement;", false)
  | 2 => ("java/lang/Throwable", "suppressedExceptions", "Ljava/util/List;", false)
  | 3 => ("java/lang/Throwable", "detailMessage", "Ljava/lang/String;", false)
  | 4 => ("java/lang/Throwable", "backtrace", "Ljava/lang/Object;", false)
  | _ => ("java/lang/Throwable", "depth", "I", false)
def tyJ24 : Nat → FieldType := fun k => match k with
  | 0 => .object "java/lang/Throwable"
  | 1 => .array (.object "java/lang/StackTraceElement")
  | 2 => .object "java/util/List"
  | 3 => .object "java/lang/String"
  | 4 => .object "java/lang/Object"
  | _ => .int
abbrev wsJ240 : List Cond := u_ws RJ24 TJ24 6
theorem nmJ24 : ∀ a, a < 6 → ∀ b, b < 6 → a ≠ b → (TJ24 a).2.1 ≠ (TJ24 b).2.1 := by decide +kernel
theorem tyJ24_ok : ∀ k, k < 6 → parseFieldDescriptor (TJ24 k).2.2.1 = some (tyJ24 k) := by decide +kernel
theorem q131 : (Jvm.Cond.initialized "java/lang/IllegalStateException") ∈ lw_all := lw_g (lw_at lw_m1 30 rfl) rfl
theorem q302 : (Jvm.Cond.selects "java/lang/IllegalStateException" ({ cls := "java/lang/Object", name := "getClass", desc := "()Ljava/lang/Class;" } : Jvm.MethodName) ({ cls := "java/lang/Object", name := "getClass", desc := "()Ljava/lang/Class;" } : Jvm.MethodName)) ∈ lw_all := lw_g (lw_at lw_m1 201 rfl) rfl
theorem q377 : (Jvm.Cond.selects "java/lang/IllegalStateException" ({ cls := "java/lang/Throwable", name := "fillInStackTrace", desc := "()Ljava/lang/Throwable;" } : Jvm.MethodName) ({ cls := "java/lang/Throwable", name := "fillInStackTrace", desc := "()Ljava/lang/Throwable;" } : Jvm.MethodName)) ∈ lw_all := lw_g (lw_at lw_m2 36 rfl) rfl
theorem q865 : (Jvm.Cond.selects "java/lang/IllegalStateException" ({ cls := "java/lang/Object", name := "equals", desc := "(Ljava/lang/Object;)Z" } : Jvm.MethodName) ({ cls := "java/lang/Object", name := "equals", desc := "(Ljava/lang/Object;)Z" } : Jvm.MethodName)) ∈ lw_all := lw_g (lw_at lw_m4 44 rfl) rfl
theorem q933 : (Jvm.Cond.instantiable "java/lang/IllegalStateException" (6 : Nat)) ∈ lw_all := lw_g (lw_at lw_m4 112 rfl) rfl
theorem q934 : (Jvm.Cond.castable "java/lang/IllegalStateException" "java/lang/IllegalStateException") ∈ lw_tbl := lw_at lw_m4 113 rfl
theorem q935 : (Jvm.Cond.selects "java/lang/IllegalStateException" ({ cls := "java/lang/Throwable", name := "fillInStackTrace", desc := "(I)Ljava/lang/Throwable;" } : Jvm.MethodName) ({ cls := "java/lang/Throwable", name := "fillInStackTrace", desc := "(I)Ljava/lang/Throwable;" } : Jvm.MethodName)) ∈ lw_all := lw_g (lw_at lw_m4 114 rfl) rfl
theorem q936 : (Jvm.Cond.lays "java/lang/IllegalStateException" "java/lang/Throwable" "cause" "Ljava/lang/Throwable;") ∈ lw_all := lw_g (lw_at lw_m4 115 rfl) rfl
theorem q937 : (Jvm.Cond.lays "java/lang/IllegalStateException" "java/lang/Throwable" "stackTrace" "[Ljava/lang/StackTraceElement;") ∈ lw_all := lw_g (lw_at lw_m4 116 rfl) rfl
theorem q938 : (Jvm.Cond.lays "java/lang/IllegalStateException" "java/lang/Throwable" "suppressedExceptions" "Ljava/util/List;") ∈ lw_all := lw_g (lw_at lw_m4 117 rfl) rfl
theorem q939 : (Jvm.Cond.lays "java/lang/IllegalStateException" "java/lang/Throwable" "detailMessage" "Ljava/lang/String;") ∈ lw_all := lw_g (lw_at lw_m4 118 rfl) rfl
theorem q940 : (Jvm.Cond.lays "java/lang/IllegalStateException" "java/lang/Throwable" "backtrace" "Ljava/lang/Object;") ∈ lw_all := lw_g (lw_at lw_m4 119 rfl) rfl
theorem q943 : (Jvm.Cond.instanceMethod ({ cls := "java/lang/IllegalStateException", name := "<init>", desc := "(Ljava/lang/String;)V" } : Jvm.MethodName)) ∈ lw_all := lw_g (lw_at lw_m4 122 rfl) rfl
theorem q944 : (Jvm.Cond.code ({ cls := "java/lang/IllegalStateException", name := "<init>", desc := "(Ljava/lang/String;)V" } : Jvm.MethodName) prog_26_method_2_code (2 : Nat) (Option.none : Option Jvm.ClassFile.FieldType)) ∈ lw_all := lw_g (lw_at lw_m4 123 rfl) rfl
theorem q945 : (Jvm.Cond.methodLink "java/lang/IllegalStateException" (7 : Nat) ({ cls := "java/lang/RuntimeException", name := "<init>", desc := "(Ljava/lang/String;)V" } : Jvm.MethodName)) ∈ lw_all := lw_g (lw_at lw_m4 124 rfl) rfl
theorem q946 : (Jvm.Cond.lays "java/lang/IllegalStateException" "java/lang/Throwable" "depth" "I") ∈ lw_all := lw_g (lw_at lw_m4 125 rfl) rfl
theorem q947 : (Jvm.Cond.superclass "java/lang/IllegalStateException" "java/lang/RuntimeException") ∈ lw_all := lw_g (lw_at lw_m4 126 rfl) rfl
theorem q2126 : (Jvm.Cond.instanceMethod ({ cls := "java/lang/IllegalStateException", name := "<init>", desc := "()V" } : Jvm.MethodName)) ∈ lw_all := lw_g (lw_at lw_m9 105 rfl) rfl
theorem q2127 : (Jvm.Cond.code ({ cls := "java/lang/IllegalStateException", name := "<init>", desc := "()V" } : Jvm.MethodName) prog_26_method_1_code (1 : Nat) (Option.none : Option Jvm.ClassFile.FieldType)) ∈ lw_all := lw_g (lw_at lw_m9 106 rfl) rfl
theorem q2128 : (Jvm.Cond.methodLink "java/lang/IllegalStateException" (1 : Nat) ({ cls := "java/lang/RuntimeException", name := "<init>", desc := "()V" } : Jvm.MethodName)) ∈ lw_all := lw_g (lw_at lw_m9 107 rfl) rfl
theorem q3306 : (Jvm.Cond.castable "java/lang/IllegalStateException" "java/lang/Object") ∈ lw_tbl := lw_at lw_m14 85 rfl
theorem in_J24 : ∀ w ∈ wsJ240, w ∈ lw_all := lw_in wsJ240 [936, 937, 938, 939, 940, 946] (by decide +kernel) (by decide +kernel)
/-! java/util/NoSuchElementException -/
set_option maxRecDepth 100000
def RJ25 : String := "java/util/NoSuchElementException"
def TJ25 : u_T := fun k => match k with
  | 0 => ("java/lang/Throwable", "cause", "Ljava/lang/Throwable;", false)
  | 1 => ("java/lang/Throwable", "stackTrace", "[Ljava/lang/StackTraceElement;", false)
  | 2 => ("java/lang/Throwable", "suppressedExceptions", "Ljava/util/List;", false)
  | 3 => ("java/lang/Throwable", "detailMessage", "Ljava/lang/String;", false)
  | 4 => ("java/lang/Throwable", "backtrace", "Ljava/lang/Object;", false)
  | _ => ("java/lang/Throwable", "depth", "I", false)
def tyJ25 : Nat → FieldType := fun k => match k with
  | 0 => .object "java/lang/Throwable"
  | 1 => .array (.object "java/lang/StackTraceElement")
  | 2 => .object "java/util/List"
  | 3 => .object "java/lang/String"
  | 4 => .object "java/lang/Object"
  | _ => .int
abbrev wsJ250 : List Cond := u_ws RJ25 TJ25 6
theorem nmJ25 : ∀ a, a < 6 → ∀ b, b < 6 → a ≠ b → (TJ25 a).2.1 ≠ (TJ25 b).2.1 := by decide +kernel
theorem tyJ25_ok : ∀ k, k < 6 → parseFieldDescriptor (TJ25 k).2.2.1 = some (tyJ25 k) := by decide +kernel
theorem q132 : (Jvm.Cond.initialized "java/util/NoSuchElementException") ∈ lw_all := lw_g (lw_at lw_m1 31 rfl) rfl
theorem q313 : (Jvm.Cond.selects "java/util/NoSuchElementException" ({ cls := "java/lang/Object", name := "getClass", desc := "()Ljava/lang/Class;" } : Jvm.MethodName) ({ cls := "java/lang/Object", name := "getClass", desc := "()Ljava/lang/Class;" } : Jvm.MethodName)) ∈ lw_all := lw_g (lw_at lw_m1 212 rfl) rfl
theorem q378 : (Jvm.Cond.selects "java/util/NoSuchElementException" ({ cls := "java/lang/Throwable", name := "fillInStackTrace", desc := "()Ljava/lang/Throwable;" } : Jvm.MethodName) ({ cls := "java/lang/Throwable", name := "fillInStackTrace", desc := "()Ljava/lang/Throwable;" } : Jvm.MethodName)) ∈ lw_all := lw_g (lw_at lw_m2 37 rfl) rfl
theorem q967 : (Jvm.Cond.instantiable "java/util/NoSuchElementException" (6 : Nat)) ∈ lw_all := lw_g (lw_at lw_m4 146 rfl) rfl
theorem q968 : (Jvm.Cond.castable "java/util/NoSuchElementException" "java/util/NoSuchElementException") ∈ lw_tbl := lw_at lw_m4 147 rfl
theorem q969 : (Jvm.Cond.selects "java/util/NoSuchElementException" ({ cls := "java/lang/Throwable", name := "fillInStackTrace", desc := "(I)Ljava/lang/Throwable;" } : Jvm.MethodName) ({ cls := "java/lang/Throwable", name := "fillInStackTrace", desc := "(I)Ljava/lang/Throwable;" } : Jvm.MethodName)) ∈ lw_all := lw_g (lw_at lw_m4 148 rfl) rfl
theorem q970 : (Jvm.Cond.lays "java/util/NoSuchElementException" "java/lang/Throwable" "cause" "Ljava/lang/Throwable;") ∈ lw_all := lw_g (lw_at lw_m4 149 rfl) rfl
theorem q971 : (Jvm.Cond.lays "java/util/NoSuchElementException" "java/lang/Throwable" "stackTrace" "[Ljava/lang/StackTraceElement;") ∈ lw_all := lw_g (lw_at lw_m4 150 rfl) rfl
theorem q972 : (Jvm.Cond.lays "java/util/NoSuchElementException" "java/lang/Throwable" "suppressedExceptions" "Ljava/util/List;") ∈ lw_all := lw_g (lw_at lw_m4 151 rfl) rfl
theorem q973 : (Jvm.Cond.lays "java/util/NoSuchElementException" "java/lang/Throwable" "detailMessage" "Ljava/lang/String;") ∈ lw_all := lw_g (lw_at lw_m4 152 rfl) rfl
theorem q974 : (Jvm.Cond.lays "java/util/NoSuchElementException" "java/lang/Throwable" "backtrace" "Ljava/lang/Object;") ∈ lw_all := lw_g (lw_at lw_m4 153 rfl) rfl
theorem q976 : (Jvm.Cond.instanceMethod ({ cls := "java/util/NoSuchElementException", name := "<init>", desc := "()V" } : Jvm.MethodName)) ∈ lw_all := lw_g (lw_at lw_m4 155 rfl) rfl
theorem q977 : (Jvm.Cond.code ({ cls := "java/util/NoSuchElementException", name := "<init>", desc := "()V" } : Jvm.MethodName) prog_64_method_1_code (1 : Nat) (Option.none : Option Jvm.ClassFile.FieldType)) ∈ lw_all := lw_g (lw_at lw_m4 156 rfl) rfl
theorem q978 : (Jvm.Cond.methodLink "java/util/NoSuchElementException" (1 : Nat) ({ cls := "java/lang/RuntimeException", name := "<init>", desc := "()V" } : Jvm.MethodName)) ∈ lw_all := lw_g (lw_at lw_m4 157 rfl) rfl
theorem q985 : (Jvm.Cond.lays "java/util/NoSuchElementException" "java/lang/Throwable" "depth" "I") ∈ lw_all := lw_g (lw_at lw_m4 164 rfl) rfl
theorem q986 : (Jvm.Cond.superclass "java/util/NoSuchElementException" "java/lang/RuntimeException") ∈ lw_all := lw_g (lw_at lw_m4 165 rfl) rfl
theorem q3307 : (Jvm.Cond.castable "java/util/NoSuchElementException" "java/lang/Object") ∈ lw_tbl := lw_at lw_m14 86 rfl
theorem in_J25 : ∀ w ∈ wsJ250, w ∈ lw_all := lw_in wsJ250 [970, 971, 972, 973, 974, 985] (by decide +kernel) (by decide +kernel)
/-! java/util/ArrayList$Itr -/
set_option maxRecDepth 100000
def RJ26 : String := "java/util/ArrayList$Itr"
def TJ26 : u_T := fun k => match k with
  | 0 => ("java/util/ArrayList$Itr", "cursor", "I", false)
  | 1 => ("java/util/ArrayList$Itr", "lastRet", "I", false)
  | 2 => ("java/util/ArrayList$Itr", "expectedModCount", "I", false)
  | _ => ("java/util/ArrayList$Itr", "this$0", "Ljava/util/ArrayList;", true)
def tyJ26 : Nat → FieldType := fun k => match k with
  | 0 => .int
  | 1 => .int
  | 2 => .int
  | _ => .object "java/util/ArrayList"
abbrev wsJ260 : List Cond := u_ws RJ26 TJ26 4
theorem nmJ26 : ∀ a, a < 4 → ∀ b, b < 4 → a ≠ b → (TJ26 a).2.1 ≠ (TJ26 b).2.1 := by decide +kernel
theorem tyJ26_ok : ∀ k, k < 4 → parseFieldDescriptor (TJ26 k).2.2.1 = some (tyJ26 k) := by decide +kernel
abbrev cJ26_init : ByteArray := prog_52_method_1_code
def yJ26_init : MethodName := ⟨RJ26, "<init>", "(Ljava/util/ArrayList;)V"⟩
def dkwJ26_init_1 : List UInt8 := [181, 0, 22, 177]
abbrev dktJ26_init_1 : List UInt8 := dkwJ26_init_1 ++ []
def dkwJ26_init_0 : List UInt8 := [42, 43, 181, 0, 1, 42, 183, 0, 7, 42, 2, 181, 0, 13, 42, 42, 180, 0, 1, 180, 0, 17]
abbrev dktJ26_init_0 : List UInt8 := dkwJ26_init_0 ++ dktJ26_init_1
theorem dksJ26_init_0 : cJ26_init.data.toList.drop 0 = dktJ26_init_0 := by decide +kernel
theorem dksJ26_init_1 : cJ26_init.data.toList.drop 22 = dktJ26_init_1 := dk_seg dksJ26_init_0 22 rfl rfl
theorem dJ26_init_0 : decode cJ26_init 0 = .ok (.aload_n 0, 1) := dk_42 (dk_at dksJ26_init_0 0 rfl rfl)
theorem dJ26_init_1 : decode cJ26_init 1 = .ok (.aload_n 1, 1) := dk_43 (dk_at dksJ26_init_0 1 rfl rfl)
theorem dJ26_init_2 : decode cJ26_init 2 = .ok (.putfield 1, 3) := dk_181 0 1 (dk_at dksJ26_init_0 2 rfl rfl)
theorem dJ26_init_5 : decode cJ26_init 5 = .ok (.aload_n 0, 1) := dk_42 (dk_at dksJ26_init_0 5 rfl rfl)
theorem dJ26_init_6 : decode cJ26_init 6 = .ok (.invokespecial 7, 3) := dk_183 0 7 (dk_at dksJ26_init_0 6 rfl rfl)
theorem dJ26_init_9 : decode cJ26_init 9 = .ok (.aload_n 0, 1) := dk_42 (dk_at dksJ26_init_0 9 rfl rfl)
theorem dJ26_init_10 : decode cJ26_init 10 = .ok (.iconst (-1), 1) := dk_2 (dk_at dksJ26_init_0 10 rfl rfl)
theorem dJ26_init_11 : decode cJ26_init 11 = .ok (.putfield 13, 3) := dk_181 0 13 (dk_at dksJ26_init_0 11 rfl rfl)
theorem dJ26_init_14 : decode cJ26_init 14 = .ok (.aload_n 0, 1) := dk_42 (dk_at dksJ26_init_0 14 rfl rfl)
theorem dJ26_init_15 : decode cJ26_init 15 = .ok (.aload_n 0, 1) := dk_42 (dk_at dksJ26_init_0 15 rfl rfl)
theorem dJ26_init_16 : decode cJ26_init 16 = .ok (.getfield 1, 3) := dk_180 0 1 (dk_at dksJ26_init_0 16 rfl rfl)
theorem dJ26_init_19 : decode cJ26_init 19 = .ok (.getfield 17, 3) := dk_180 0 17 (dk_at dksJ26_init_0 19 rfl rfl)
theorem dJ26_init_22 : decode cJ26_init 22 = .ok (.putfield 22, 3) := dk_181 0 22 (dk_at dksJ26_init_1 0 rfl rfl)
theorem dJ26_init_25 : decode cJ26_init 25 = .ok (.return_, 1) := dk_177 (dk_at dksJ26_init_1 3 rfl rfl)
abbrev cJ26_hasNext : ByteArray := prog_52_method_2_code
def yJ26_hasNext : MethodName := ⟨RJ26, "hasNext", "()Z"⟩
def dkwJ26_hasNext_0 : List UInt8 := [42, 180, 0, 25, 42, 180, 0, 1, 180, 0, 28, 159, 0, 7, 4, 167, 0, 4, 3, 172]
abbrev dktJ26_hasNext_0 : List UInt8 := dkwJ26_hasNext_0 ++ []
theorem dksJ26_hasNext_0 : cJ26_hasNext.data.toList.drop 0 = dktJ26_hasNext_0 := by decide +kernel
theorem dJ26_hasNext_0 : decode cJ26_hasNext 0 = .ok (.aload_n 0, 1) := dk_42 (dk_at dksJ26_hasNext_0 0 rfl rfl)
theorem dJ26_hasNext_1 : decode cJ26_hasNext 1 = .ok (.getfield 25, 3) := dk_180 0 25 (dk_at dksJ26_hasNext_0 1 rfl rfl)
theorem dJ26_hasNext_4 : decode cJ26_hasNext 4 = .ok (.aload_n 0, 1) := dk_42 (dk_at dksJ26_hasNext_0 4 rfl rfl)
theorem dJ26_hasNext_5 : decode cJ26_hasNext 5 = .ok (.getfield 1, 3) := dk_180 0 1 (dk_at dksJ26_hasNext_0 5 rfl rfl)
theorem dJ26_hasNext_8 : decode cJ26_hasNext 8 = .ok (.getfield 28, 3) := dk_180 0 28 (dk_at dksJ26_hasNext_0 8 rfl rfl)
theorem dJ26_hasNext_11 : decode cJ26_hasNext 11 = .ok (.if_icmp .eq 7, 3) := dk_159 0 7 (dk_at dksJ26_hasNext_0 11 rfl rfl)
theorem dJ26_hasNext_14 : decode cJ26_hasNext 14 = .ok (.iconst 1, 1) := dk_4 (dk_at dksJ26_hasNext_0 14 rfl rfl)
theorem dJ26_hasNext_15 : decode cJ26_hasNext 15 = .ok (.goto 4, 3) := dk_167 0 4 (dk_at dksJ26_hasNext_0 15 rfl rfl)
theorem dJ26_hasNext_18 : decode cJ26_hasNext 18 = .ok (.iconst 0, 1) := dk_3 (dk_at dksJ26_hasNext_0 18 rfl rfl)
theorem dJ26_hasNext_19 : decode cJ26_hasNext 19 = .ok (.ireturn, 1) := dk_172 (dk_at dksJ26_hasNext_0 19 rfl rfl)
abbrev cJ26_next : ByteArray := prog_52_method_3_code
def yJ26_next : MethodName := ⟨RJ26, "next", "()Ljava/lang/Object;"⟩
def dkwJ26_next_2 : List UInt8 := [183, 0, 43, 191, 42, 27, 4, 96, 181, 0, 25, 44, 42, 27, 90, 181, 0, 13, 50, 176]
abbrev dktJ26_next_2 : List UInt8 := dkwJ26_next_2 ++ []
def dkwJ26_next_1 : List UInt8 := [183, 0, 36, 191, 42, 180, 0, 1, 180, 0, 37, 77, 27, 44, 190, 161, 0, 11, 187, 0, 41, 89]
abbrev dktJ26_next_1 : List UInt8 := dkwJ26_next_1 ++ dktJ26_next_2
def dkwJ26_next_0 : List UInt8 := [42, 182, 0, 31, 42, 180, 0, 25, 60, 27, 42, 180, 0, 1, 180, 0, 28, 161, 0, 11, 187, 0, 34, 89]
abbrev dktJ26_next_0 : List UInt8 := dkwJ26_next_0 ++ dktJ26_next_1
theorem dksJ26_next_0 : cJ26_next.data.toList.drop 0 = dktJ26_next_0 := by decide +kernel
theorem dksJ26_next_1 : cJ26_next.data.toList.drop 24 = dktJ26_next_1 := dk_seg dksJ26_next_0 24 rfl rfl
theorem dksJ26_next_2 : cJ26_next.data.toList.drop 46 = dktJ26_next_2 := dk_seg dksJ26_next_1 22 rfl rfl
theorem dJ26_next_0 : decode cJ26_next 0 = .ok (.aload_n 0, 1) := dk_42 (dk_at dksJ26_next_0 0 rfl rfl)
theorem dJ26_next_1 : decode cJ26_next 1 = .ok (.invokevirtual 31, 3) := dk_182 0 31 (dk_at dksJ26_next_0 1 rfl rfl)
theorem dJ26_next_4 : decode cJ26_next 4 = .ok (.aload_n 0, 1) := dk_42 (dk_at dksJ26_next_0 4 rfl rfl)
theorem dJ26_next_5 : decode cJ26_next 5 = .ok (.getfield 25, 3) := dk_180 0 25 (dk_at dksJ26_next_0 5 rfl rfl)
theorem dJ26_next_8 : decode cJ26_next 8 = .ok (.istore_n 1, 1) := dk_60 (dk_at dksJ26_next_0 8 rfl rfl)
theorem dJ26_next_9 : decode cJ26_next 9 = .ok (.iload_n 1, 1) := dk_27 (dk_at dksJ26_next_0 9 rfl rfl)
theorem dJ26_next_10 : decode cJ26_next 10 = .ok (.aload_n 0, 1) := dk_42 (dk_at dksJ26_next_0 10 rfl rfl)
theorem dJ26_next_11 : decode cJ26_next 11 = .ok (.getfield 1, 3) := dk_180 0 1 (dk_at dksJ26_next_0 11 rfl rfl)
theorem dJ26_next_14 : decode cJ26_next 14 = .ok (.getfield 28, 3) := dk_180 0 28 (dk_at dksJ26_next_0 14 rfl rfl)
theorem dJ26_next_17 : decode cJ26_next 17 = .ok (.if_icmp .lt 11, 3) := dk_161 0 11 (dk_at dksJ26_next_0 17 rfl rfl)
theorem dJ26_next_20 : decode cJ26_next 20 = .ok (.new 34, 3) := dk_187 0 34 (dk_at dksJ26_next_0 20 rfl rfl)
theorem dJ26_next_23 : decode cJ26_next 23 = .ok (.dup, 1) := dk_89 (dk_at dksJ26_next_0 23 rfl rfl)
theorem dJ26_next_24 : decode cJ26_next 24 = .ok (.invokespecial 36, 3) := dk_183 0 36 (dk_at dksJ26_next_1 0 rfl rfl)
theorem dJ26_next_27 : decode cJ26_next 27 = .ok (.athrow, 1) := dk_191 (dk_at dksJ26_next_1 3 rfl rfl)
theorem dJ26_next_28 : decode cJ26_next 28 = .ok (.aload_n 0, 1) := dk_42 (dk_at dksJ26_next_1 4 rfl rfl)
theorem dJ26_next_29 : decode cJ26_next 29 = .ok (.getfield 1, 3) := dk_180 0 1 (dk_at dksJ26_next_1 5 rfl rfl)
theorem dJ26_next_32 : decode cJ26_next 32 = .ok (.getfield 37, 3) := dk_180 0 37 (dk_at dksJ26_next_1 8 rfl rfl)
theorem dJ26_next_35 : decode cJ26_next 35 = .ok (.astore_n 2, 1) := dk_77 (dk_at dksJ26_next_1 11 rfl rfl)
theorem dJ26_next_36 : decode cJ26_next 36 = .ok (.iload_n 1, 1) := dk_27 (dk_at dksJ26_next_1 12 rfl rfl)
theorem dJ26_next_37 : decode cJ26_next 37 = .ok (.aload_n 2, 1) := dk_44 (dk_at dksJ26_next_1 13 rfl rfl)
theorem dJ26_next_38 : decode cJ26_next 38 = .ok (.arraylength, 1) := dk_190 (dk_at dksJ26_next_1 14 rfl rfl)
theorem dJ26_next_39 : decode cJ26_next 39 = .ok (.if_icmp .lt 11, 3) := dk_161 0 11 (dk_at dksJ26_next_1 15 rfl rfl)
theorem dJ26_next_42 : decode cJ26_next 42 = .ok (.new 41, 3) := dk_187 0 41 (dk_at dksJ26_next_1 18 rfl rfl)
theorem dJ26_next_45 : decode cJ26_next 45 = .ok (.dup, 1) := dk_89 (dk_at dksJ26_next_1 21 rfl rfl)
theorem dJ26_next_46 : decode cJ26_next 46 = .ok (.invokespecial 43, 3) := dk_183 0 43 (dk_at dksJ26_next_2 0 rfl rfl)
theorem dJ26_next_49 : decode cJ26_next 49 = .ok (.athrow, 1) := dk_191 (dk_at dksJ26_next_2 3 rfl rfl)
theorem dJ26_next_50 : decode cJ26_next 50 = .ok (.aload_n 0, 1) := dk_42 (dk_at dksJ26_next_2 4 rfl rfl)
theorem dJ26_next_51 : decode cJ26_next 51 = .ok (.iload_n 1, 1) := dk_27 (dk_at dksJ26_next_2 5 rfl rfl)
theorem dJ26_next_52 : decode cJ26_next 52 = .ok (.iconst 1, 1) := dk_4 (dk_at dksJ26_next_2 6 rfl rfl)
theorem dJ26_next_53 : decode cJ26_next 53 = .ok (.iadd, 1) := dk_96 (dk_at dksJ26_next_2 7 rfl rfl)
theorem dJ26_next_54 : decode cJ26_next 54 = .ok (.putfield 25, 3) := dk_181 0 25 (dk_at dksJ26_next_2 8 rfl rfl)
theorem dJ26_next_57 : decode cJ26_next 57 = .ok (.aload_n 2, 1) := dk_44 (dk_at dksJ26_next_2 11 rfl rfl)
theorem dJ26_next_58 : decode cJ26_next 58 = .ok (.aload_n 0, 1) := dk_42 (dk_at dksJ26_next_2 12 rfl rfl)
theorem dJ26_next_59 : decode cJ26_next 59 = .ok (.iload_n 1, 1) := dk_27 (dk_at dksJ26_next_2 13 rfl rfl)
theorem dJ26_next_60 : decode cJ26_next 60 = .ok (.dup_x1, 1) := dk_90 (dk_at dksJ26_next_2 14 rfl rfl)
theorem dJ26_next_61 : decode cJ26_next 61 = .ok (.putfield 13, 3) := dk_181 0 13 (dk_at dksJ26_next_2 15 rfl rfl)
theorem dJ26_next_64 : decode cJ26_next 64 = .ok (.aaload, 1) := dk_50 (dk_at dksJ26_next_2 18 rfl rfl)
theorem dJ26_next_65 : decode cJ26_next 65 = .ok (.areturn, 1) := dk_176 (dk_at dksJ26_next_2 19 rfl rfl)
abbrev cJ26_checkForComodification : ByteArray := prog_52_method_6_code
def yJ26_checkForComodification : MethodName := ⟨RJ26, "checkForComodification", "()V"⟩
def dkwJ26_checkForComodification_0 : List UInt8 := [42, 180, 0, 1, 180, 0, 17, 42, 180, 0, 22, 159, 0, 11, 187, 0, 41, 89, 183, 0, 43, 191, 177]
abbrev dktJ26_checkForComodification_0 : List UInt8 := dkwJ26_checkForComodification_0 ++ []
theorem dksJ26_checkForComodification_0 : cJ26_checkForComodification.data.toList.drop 0 = dktJ26_checkForComodification_0 := by decide +kernel
theorem dJ26_checkForComodification_0 : decode cJ26_checkForComodification 0 = .ok (.aload_n 0, 1) := dk_42 (dk_at dksJ26_checkForComodification_0 0 rfl rfl)
theorem dJ26_checkForComodification_1 : decode cJ26_checkForComodification 1 = .ok (.getfield 1, 3) := dk_180 0 1 (dk_at dksJ26_checkForComodification_0 1 rfl rfl)
theorem dJ26_checkForComodification_4 : decode cJ26_checkForComodification 4 = .ok (.getfield 17, 3) := dk_180 0 17 (dk_at dksJ26_checkForComodification_0 4 rfl rfl)
theorem dJ26_checkForComodification_7 : decode cJ26_checkForComodification 7 = .ok (.aload_n 0, 1) := dk_42 (dk_at dksJ26_checkForComodification_0 7 rfl rfl)
theorem dJ26_checkForComodification_8 : decode cJ26_checkForComodification 8 = .ok (.getfield 22, 3) := dk_180 0 22 (dk_at dksJ26_checkForComodification_0 8 rfl rfl)
theorem dJ26_checkForComodification_11 : decode cJ26_checkForComodification 11 = .ok (.if_icmp .eq 11, 3) := dk_159 0 11 (dk_at dksJ26_checkForComodification_0 11 rfl rfl)
theorem dJ26_checkForComodification_14 : decode cJ26_checkForComodification 14 = .ok (.new 41, 3) := dk_187 0 41 (dk_at dksJ26_checkForComodification_0 14 rfl rfl)
theorem dJ26_checkForComodification_17 : decode cJ26_checkForComodification 17 = .ok (.dup, 1) := dk_89 (dk_at dksJ26_checkForComodification_0 17 rfl rfl)
theorem dJ26_checkForComodification_18 : decode cJ26_checkForComodification 18 = .ok (.invokespecial 43, 3) := dk_183 0 43 (dk_at dksJ26_checkForComodification_0 18 rfl rfl)
theorem dJ26_checkForComodification_21 : decode cJ26_checkForComodification 21 = .ok (.athrow, 1) := dk_191 (dk_at dksJ26_checkForComodification_0 21 rfl rfl)
theorem dJ26_checkForComodification_22 : decode cJ26_checkForComodification 22 = .ok (.return_, 1) := dk_177 (dk_at dksJ26_checkForComodification_0 22 rfl rfl)
theorem q137 : (Jvm.Cond.initialized "java/util/ArrayList$Itr") ∈ lw_all := lw_g (lw_at lw_m1 36 rfl) rfl
theorem q190 : (Jvm.Cond.fieldLink "java/util/ArrayList$Itr" (37 : Nat) "java/util/ArrayList" "elementData" "[Ljava/lang/Object;") ∈ lw_all := lw_g (lw_at lw_m1 89 rfl) rfl
theorem q191 : (Jvm.Cond.fieldLinkNest "java/util/ArrayList$Itr" (28 : Nat) "java/util/ArrayList" "size" "I" "java/util/ArrayList") ∈ lw_tbl := lw_at lw_m1 90 rfl
theorem q194 : (Jvm.Cond.fieldLink "java/util/ArrayList$Itr" (17 : Nat) "java/util/ArrayList" "modCount" "I") ∈ lw_all := lw_g (lw_at lw_m1 93 rfl) rfl
theorem q311 : (Jvm.Cond.selects "java/util/ArrayList$Itr" ({ cls := "java/lang/Object", name := "getClass", desc := "()Ljava/lang/Class;" } : Jvm.MethodName) ({ cls := "java/lang/Object", name := "getClass", desc := "()Ljava/lang/Class;" } : Jvm.MethodName)) ∈ lw_all := lw_g (lw_at lw_m1 210 rfl) rfl
theorem q1278 : (Jvm.Cond.instantiable "java/util/ArrayList$Itr" (4 : Nat)) ∈ lw_all := lw_g (lw_at lw_m5 217 rfl) rfl
theorem q1280 : (Jvm.Cond.instanceMethod ({ cls := "java/util/ArrayList$Itr", name := "<init>", desc := "(Ljava/util/ArrayList;)V" } : Jvm.MethodName)) ∈ lw_all := lw_g (lw_at lw_m5 219 rfl) rfl
theorem q1281 : (Jvm.Cond.code ({ cls := "java/util/ArrayList$Itr", name := "<init>", desc := "(Ljava/util/ArrayList;)V" } : Jvm.MethodName) prog_52_method_1_code (2 : Nat) (Option.none : Option Jvm.ClassFile.FieldType)) ∈ lw_all := lw_g (lw_at lw_m5 220 rfl) rfl
theorem q1282 : (Jvm.Cond.methodLink "java/util/ArrayList$Itr" (7 : Nat) ({ cls := "java/lang/Object", name := "<init>", desc := "()V" } : Jvm.MethodName)) ∈ lw_all := lw_g (lw_at lw_m5 221 rfl) rfl
theorem q1283 : (Jvm.Cond.fieldLink "java/util/ArrayList$Itr" (25 : Nat) "java/util/ArrayList$Itr" "cursor" "I") ∈ lw_all := lw_g (lw_at lw_m5 222 rfl) rfl
theorem q1284 : (Jvm.Cond.fieldLink "java/util/ArrayList$Itr" (13 : Nat) "java/util/ArrayList$Itr" "lastRet" "I") ∈ lw_all := lw_g (lw_at lw_m5 223 rfl) rfl
theorem q1285 : (Jvm.Cond.fieldLink "java/util/ArrayList$Itr" (22 : Nat) "java/util/ArrayList$Itr" "expectedModCount" "I") ∈ lw_all := lw_g (lw_at lw_m5 224 rfl) rfl
theorem q1286 : (Jvm.Cond.fieldLink "java/util/ArrayList$Itr" (1 : Nat) "java/util/ArrayList$Itr" "this$0" "Ljava/util/ArrayList;") ∈ lw_all := lw_g (lw_at lw_m5 225 rfl) rfl
theorem q1287 : (Jvm.Cond.lays "java/util/ArrayList$Itr" "java/util/ArrayList$Itr" "cursor" "I") ∈ lw_all := lw_g (lw_at lw_m5 226 rfl) rfl
theorem q1288 : (Jvm.Cond.soleField "java/util/ArrayList$Itr" "cursor") ∈ lw_all := lw_g (lw_at lw_m5 227 rfl) rfl
theorem q1289 : (Jvm.Cond.lays "java/util/ArrayList$Itr" "java/util/ArrayList$Itr" "lastRet" "I") ∈ lw_all := lw_g (lw_at lw_m5 228 rfl) rfl
theorem q1290 : (Jvm.Cond.soleField "java/util/ArrayList$Itr" "lastRet") ∈ lw_all := lw_g (lw_at lw_m5 229 rfl) rfl
theorem q1291 : (Jvm.Cond.lays "java/util/ArrayList$Itr" "java/util/ArrayList$Itr" "expectedModCount" "I") ∈ lw_all := lw_g (lw_at lw_m5 230 rfl) rfl
theorem q1292 : (Jvm.Cond.soleField "java/util/ArrayList$Itr" "expectedModCount") ∈ lw_all := lw_g (lw_at lw_m5 231 rfl) rfl
theorem q1293 : (Jvm.Cond.laysFinal "java/util/ArrayList$Itr" "java/util/ArrayList$Itr" "this$0" "Ljava/util/ArrayList;") ∈ lw_all := lw_g (lw_at lw_m5 232 rfl) rfl
theorem q1294 : (Jvm.Cond.soleField "java/util/ArrayList$Itr" "this$0") ∈ lw_all := lw_g (lw_at lw_m5 233 rfl) rfl
theorem q1295 : (Jvm.Cond.superclass "java/util/ArrayList$Itr" "java/lang/Object") ∈ lw_all := lw_g (lw_at lw_m5 234 rfl) rfl
theorem q1306 : (Jvm.Cond.castable "java/util/ArrayList$Itr" "java/util/Iterator") ∈ lw_tbl := lw_at lw_m6 5 rfl
theorem q1307 : (Jvm.Cond.selects "java/util/ArrayList$Itr" ({ cls := "java/util/Iterator", name := "hasNext", desc := "()Z" } : Jvm.MethodName) ({ cls := "java/util/ArrayList$Itr", name := "hasNext", desc := "()Z" } : Jvm.MethodName)) ∈ lw_all := lw_g (lw_at lw_m6 6 rfl) rfl
theorem q1308 : (Jvm.Cond.unhidden "java/util/ArrayList$Itr" "hasNext" "()Z") ∈ lw_tbl := lw_at lw_m6 7 rfl
theorem q1309 : (Jvm.Cond.instanceMethod ({ cls := "java/util/ArrayList$Itr", name := "hasNext", desc := "()Z" } : Jvm.MethodName)) ∈ lw_all := lw_g (lw_at lw_m6 8 rfl) rfl
theorem q1310 : (Jvm.Cond.publicMethod ({ cls := "java/util/ArrayList$Itr", name := "hasNext", desc := "()Z" } : Jvm.MethodName)) ∈ lw_tbl := lw_at lw_m6 9 rfl
theorem q1311 : (Jvm.Cond.code ({ cls := "java/util/ArrayList$Itr", name := "hasNext", desc := "()Z" } : Jvm.MethodName) prog_52_method_2_code (1 : Nat) (Option.some Jvm.ClassFile.FieldType.boolean)) ∈ lw_all := lw_g (lw_at lw_m6 10 rfl) rfl
theorem q1340 : (Jvm.Cond.selects "java/util/ArrayList$Itr" ({ cls := "java/util/Iterator", name := "next", desc := "()Ljava/lang/Object;" } : Jvm.MethodName) ({ cls := "java/util/ArrayList$Itr", name := "next", desc := "()Ljava/lang/Object;" } : Jvm.MethodName)) ∈ lw_all := lw_g (lw_at lw_m6 39 rfl) rfl
theorem q1341 : (Jvm.Cond.unhidden "java/util/ArrayList$Itr" "next" "()Ljava/lang/Object;") ∈ lw_tbl := lw_at lw_m6 40 rfl
theorem q1342 : (Jvm.Cond.instanceMethod ({ cls := "java/util/ArrayList$Itr", name := "next", desc := "()Ljava/lang/Object;" } : Jvm.MethodName)) ∈ lw_all := lw_g (lw_at lw_m6 41 rfl) rfl
theorem q1343 : (Jvm.Cond.publicMethod ({ cls := "java/util/ArrayList$Itr", name := "next", desc := "()Ljava/lang/Object;" } : Jvm.MethodName)) ∈ lw_tbl := lw_at lw_m6 42 rfl
theorem q1344 : (Jvm.Cond.code ({ cls := "java/util/ArrayList$Itr", name := "next", desc := "()Ljava/lang/Object;" } : Jvm.MethodName) prog_52_method_3_code (3 : Nat) (Option.some (Jvm.ClassFile.FieldType.object "java/lang/Object"))) ∈ lw_all := lw_g (lw_at lw_m6 43 rfl) rfl
theorem q1345 : (Jvm.Cond.methodLink "java/util/ArrayList$Itr" (31 : Nat) ({ cls := "java/util/ArrayList$Itr", name := "checkForComodification", desc := "()V" } : Jvm.MethodName)) ∈ lw_all := lw_g (lw_at lw_m6 44 rfl) rfl
theorem q1346 : (Jvm.Cond.instanceMethod ({ cls := "java/util/ArrayList$Itr", name := "checkForComodification", desc := "()V" } : Jvm.MethodName)) ∈ lw_all := lw_g (lw_at lw_m6 45 rfl) rfl
theorem q1347 : (Jvm.Cond.selects "java/util/ArrayList$Itr" ({ cls := "java/util/ArrayList$Itr", name := "checkForComodification", desc := "()V" } : Jvm.MethodName) ({ cls := "java/util/ArrayList$Itr", name := "checkForComodification", desc := "()V" } : Jvm.MethodName)) ∈ lw_all := lw_g (lw_at lw_m6 46 rfl) rfl
theorem q1348 : (Jvm.Cond.code ({ cls := "java/util/ArrayList$Itr", name := "checkForComodification", desc := "()V" } : Jvm.MethodName) prog_52_method_6_code (1 : Nat) (Option.none : Option Jvm.ClassFile.FieldType)) ∈ lw_all := lw_g (lw_at lw_m6 47 rfl) rfl
theorem q1349 : (Jvm.Cond.classLink "java/util/ArrayList$Itr" (34 : Nat) "java/util/NoSuchElementException") ∈ lw_all := lw_g (lw_at lw_m6 48 rfl) rfl
theorem q1350 : (Jvm.Cond.methodLink "java/util/ArrayList$Itr" (36 : Nat) ({ cls := "java/util/NoSuchElementException", name := "<init>", desc := "()V" } : Jvm.MethodName)) ∈ lw_all := lw_g (lw_at lw_m6 49 rfl) rfl
theorem q3312 : (Jvm.Cond.castable "java/util/ArrayList$Itr" "java/lang/Object") ∈ lw_tbl := lw_at lw_m14 91 rfl
theorem in_J26 : ∀ w ∈ wsJ260, w ∈ lw_all := lw_in wsJ260 [1287, 1289, 1291, 1293] (by decide +kernel) (by decide +kernel)
/-! java/util/AbstractMap -/
set_option maxRecDepth 100000
def RJ27 : String := "java/util/AbstractMap"
abbrev cJ27_init : ByteArray := prog_46_method_1_code
def yJ27_init : MethodName := ⟨RJ27, "<init>", "()V"⟩
theorem dJ27_init_0 : decode cJ27_init 0 = .ok (.aload_n 0, 1) := by decide +kernel
theorem dJ27_init_1 : decode cJ27_init 1 = .ok (.invokespecial 1, 3) := by decide +kernel
theorem dJ27_init_4 : decode cJ27_init 4 = .ok (.return_, 1) := by decide +kernel
theorem q138 : (Jvm.Cond.initialized "java/util/AbstractMap") ∈ lw_all := lw_g (lw_at lw_m1 37 rfl) rfl
theorem q1760 : (Jvm.Cond.instanceMethod ({ cls := "java/util/AbstractMap", name := "<init>", desc := "()V" } : Jvm.MethodName)) ∈ lw_all := lw_g (lw_at lw_m7 219 rfl) rfl
theorem q1761 : (Jvm.Cond.code ({ cls := "java/util/AbstractMap", name := "<init>", desc := "()V" } : Jvm.MethodName) prog_46_method_1_code (1 : Nat) (Option.none : Option Jvm.ClassFile.FieldType)) ∈ lw_all := lw_g (lw_at lw_m7 220 rfl) rfl
theorem q1762 : (Jvm.Cond.methodLink "java/util/AbstractMap" (1 : Nat) ({ cls := "java/lang/Object", name := "<init>", desc := "()V" } : Jvm.MethodName)) ∈ lw_all := lw_g (lw_at lw_m7 221 rfl) rfl
theorem q1784 : (Jvm.Cond.soleField "java/util/AbstractMap" "keySet") ∈ lw_all := lw_g (lw_at lw_m8 3 rfl) rfl
theorem q1786 : (Jvm.Cond.soleField "java/util/AbstractMap" "values") ∈ lw_all := lw_g (lw_at lw_m8 5 rfl) rfl
/-! java/util/TreeMap -/
set_option maxRecDepth 100000
def RJ28 : String := "java/util/TreeMap"
def TJ28 : u_T := fun k => match k with
  | 0 => ("java/util/AbstractMap", "keySet", "Ljava/util/Set;", false)
  | 1 => ("java/util/AbstractMap", "values", "Ljava/util/Collection;", false)
  | 2 => ("java/util/TreeMap", "comparator", "Ljava/util/Comparator;", true)
  | 3 => ("java/util/TreeMap", "root", "Ljava/util/TreeMap$Entry;", false)
  | 4 => ("java/util/TreeMap", "size", "I", false)
  | 5 => ("java/util/TreeMap", "modCount", "I", false)
  | 6 => ("java/util/TreeMap", "entrySet", "Ljava/util/TreeMap$EntrySet;", false)
  | 7 => ("java/util/TreeMap", "navigableKeySet", "Ljava/util/TreeMap$KeySet;", false)
  | _ => ("java/util/TreeMap", "descendingMap", "Ljava/util/NavigableMap;", false)
def tyJ28 : Nat → FieldType := fun k => match k with
  | 0 => .object "java/util/Set"
  | 1 => .object "java/util/Collection"
  | 2 => .object "java/util/Comparator"
  | 3 => .object "java/util/TreeMap$Entry"
  | 4 => .int
  | 5 => .int
  | 6 => .object "java/util/TreeMap$EntrySet"
  | 7 => .object "java/util/TreeMap$KeySet"
  | _ => .object "java/util/NavigableMap"
abbrev wsJ280 : List Cond := u_ws RJ28 TJ28 9
theorem nmJ28 : ∀ a, a < 9 → ∀ b, b < 9 → a ≠ b → (TJ28 a).2.1 ≠ (TJ28 b).2.1 := by decide +kernel
theorem tyJ28_ok : ∀ k, k < 9 → parseFieldDescriptor (TJ28 k).2.2.1 = some (tyJ28 k) := by decide +kernel
abbrev cJ28_init : ByteArray := prog_76_method_1_code
def yJ28_init : MethodName := ⟨RJ28, "<init>", "()V"⟩
def dkwJ28_init_0 : List UInt8 := [42, 183, 0, 1, 42, 3, 181, 0, 7, 42, 3, 181, 0, 13, 42, 1, 181, 0, 16, 177]
abbrev dktJ28_init_0 : List UInt8 := dkwJ28_init_0 ++ []
theorem dksJ28_init_0 : cJ28_init.data.toList.drop 0 = dktJ28_init_0 := by decide +kernel
theorem dJ28_init_0 : decode cJ28_init 0 = .ok (.aload_n 0, 1) := dk_42 (dk_at dksJ28_init_0 0 rfl rfl)
theorem dJ28_init_1 : decode cJ28_init 1 = .ok (.invokespecial 1, 3) := dk_183 0 1 (dk_at dksJ28_init_0 1 rfl rfl)
theorem dJ28_init_4 : decode cJ28_init 4 = .ok (.aload_n 0, 1) := dk_42 (dk_at dksJ28_init_0 4 rfl rfl)
theorem dJ28_init_5 : decode cJ28_init 5 = .ok (.iconst 0, 1) := dk_3 (dk_at dksJ28_init_0 5 rfl rfl)
theorem dJ28_init_6 : decode cJ28_init 6 = .ok (.putfield 7, 3) := dk_181 0 7 (dk_at dksJ28_init_0 6 rfl rfl)
theorem dJ28_init_9 : decode cJ28_init 9 = .ok (.aload_n 0, 1) := dk_42 (dk_at dksJ28_init_0 9 rfl rfl)
theorem dJ28_init_10 : decode cJ28_init 10 = .ok (.iconst 0, 1) := dk_3 (dk_at dksJ28_init_0 10 rfl rfl)
theorem dJ28_init_11 : decode cJ28_init 11 = .ok (.putfield 13, 3) := dk_181 0 13 (dk_at dksJ28_init_0 11 rfl rfl)
theorem dJ28_init_14 : decode cJ28_init 14 = .ok (.aload_n 0, 1) := dk_42 (dk_at dksJ28_init_0 14 rfl rfl)
theorem dJ28_init_15 : decode cJ28_init 15 = .ok (.aconst_null, 1) := dk_1 (dk_at dksJ28_init_0 15 rfl rfl)
theorem dJ28_init_16 : decode cJ28_init 16 = .ok (.putfield 16, 3) := dk_181 0 16 (dk_at dksJ28_init_0 16 rfl rfl)
theorem dJ28_init_19 : decode cJ28_init 19 = .ok (.return_, 1) := dk_177 (dk_at dksJ28_init_0 19 rfl rfl)
abbrev cJ28_put : ByteArray := prog_76_method_21_code
def yJ28_put : MethodName := ⟨RJ28, "put", "(Ljava/lang/Object;Ljava/lang/Object;)Ljava/lang/Object;"⟩
def dkwJ28_put_0 : List UInt8 := [42, 43, 44, 4, 182, 0, 127, 176]
abbrev dktJ28_put_0 : List UInt8 := dkwJ28_put_0 ++ []
theorem dksJ28_put_0 : cJ28_put.data.toList.drop 0 = dktJ28_put_0 := by decide +kernel
theorem dJ28_put_0 : decode cJ28_put 0 = .ok (.aload_n 0, 1) := dk_42 (dk_at dksJ28_put_0 0 rfl rfl)
theorem dJ28_put_1 : decode cJ28_put 1 = .ok (.aload_n 1, 1) := dk_43 (dk_at dksJ28_put_0 1 rfl rfl)
theorem dJ28_put_2 : decode cJ28_put 2 = .ok (.aload_n 2, 1) := dk_44 (dk_at dksJ28_put_0 2 rfl rfl)
theorem dJ28_put_3 : decode cJ28_put 3 = .ok (.iconst 1, 1) := dk_4 (dk_at dksJ28_put_0 3 rfl rfl)
theorem dJ28_put_4 : decode cJ28_put 4 = .ok (.invokevirtual 127, 3) := dk_182 0 127 (dk_at dksJ28_put_0 4 rfl rfl)
theorem dJ28_put_7 : decode cJ28_put 7 = .ok (.areturn, 1) := dk_176 (dk_at dksJ28_put_0 7 rfl rfl)
abbrev cJ28_put_2 : ByteArray := prog_76_method_31_code
def yJ28_put_2 : MethodName := ⟨RJ28, "put", "(Ljava/lang/Object;Ljava/lang/Object;Z)Ljava/lang/Object;"⟩
def dkwJ28_put_2_9 : List UInt8 := [4, 167, 0, 4, 3, 182, 0, 139, 1, 176]
abbrev dktJ28_put_2_9 : List UInt8 := dkwJ28_put_2_9 ++ []
def dkwJ28_put_2_8 : List UInt8 := [25, 4, 44, 181, 0, 58, 25, 9, 176, 25, 4, 199, 255, 181, 42, 43, 44, 25, 6, 21, 5, 156, 0, 7]
abbrev dktJ28_put_2_8 : List UInt8 := dkwJ28_put_2_8 ++ dktJ28_put_2_9
def dkwJ28_put_2_7 : List UInt8 := [180, 0, 114, 58, 4, 167, 0, 28, 25, 4, 180, 0, 58, 58, 9, 29, 154, 0, 8, 25, 9, 199, 0, 9]
abbrev dktJ28_put_2_7 : List UInt8 := dkwJ28_put_2_7 ++ dktJ28_put_2_8
def dkwJ28_put_2_6 : List UInt8 := [21, 5, 156, 0, 13, 25, 4, 180, 0, 111, 58, 4, 167, 0, 43, 21, 5, 158, 0, 13, 25, 4]
abbrev dktJ28_put_2_6 : List UInt8 := dkwJ28_put_2_6 ++ dktJ28_put_2_7
def dkwJ28_put_2_5 : List UInt8 := [192, 0, 99, 58, 8, 25, 4, 58, 6, 25, 8, 25, 4, 180, 0, 105, 185, 0, 107, 2, 0, 54, 5]
abbrev dktJ28_put_2_5 : List UInt8 := dkwJ28_put_2_5 ++ dktJ28_put_2_6
def dkwJ28_put_2_4 : List UInt8 := [25, 4, 44, 181, 0, 58, 25, 8, 176, 25, 4, 199, 255, 180, 167, 0, 92, 43, 184, 0, 95, 87, 43]
abbrev dktJ28_put_2_4 : List UInt8 := dkwJ28_put_2_4 ++ dktJ28_put_2_5
def dkwJ28_put_2_3 : List UInt8 := [180, 0, 114, 58, 4, 167, 0, 28, 25, 4, 180, 0, 58, 58, 8, 29, 154, 0, 8, 25, 8, 199, 0, 9]
abbrev dktJ28_put_2_3 : List UInt8 := dkwJ28_put_2_3 ++ dktJ28_put_2_4
def dkwJ28_put_2_2 : List UInt8 := [54, 5, 21, 5, 156, 0, 13, 25, 4, 180, 0, 111, 58, 4, 167, 0, 43, 21, 5, 158, 0, 13, 25, 4]
abbrev dktJ28_put_2_2 : List UInt8 := dkwJ28_put_2_2 ++ dktJ28_put_2_3
def dkwJ28_put_2_1 : List UInt8 := [58, 7, 25, 7, 198, 0, 85, 25, 4, 58, 6, 25, 7, 43, 25, 4, 180, 0, 105, 185, 0, 117, 3, 0]
abbrev dktJ28_put_2_1 : List UInt8 := dkwJ28_put_2_1 ++ dktJ28_put_2_2
def dkwJ28_put_2_0 : List UInt8 := [42, 180, 0, 101, 58, 4, 25, 4, 199, 0, 11, 42, 43, 44, 182, 0, 135, 1, 176, 42, 180, 0, 16]
abbrev dktJ28_put_2_0 : List UInt8 := dkwJ28_put_2_0 ++ dktJ28_put_2_1
theorem dksJ28_put_2_0 : cJ28_put_2.data.toList.drop 0 = dktJ28_put_2_0 := by decide +kernel
theorem dksJ28_put_2_1 : cJ28_put_2.data.toList.drop 23 = dktJ28_put_2_1 := dk_seg dksJ28_put_2_0 23 rfl rfl
theorem dksJ28_put_2_2 : cJ28_put_2.data.toList.drop 47 = dktJ28_put_2_2 := dk_seg dksJ28_put_2_1 24 rfl rfl
theorem dksJ28_put_2_3 : cJ28_put_2.data.toList.drop 71 = dktJ28_put_2_3 := dk_seg dksJ28_put_2_2 24 rfl rfl
theorem dksJ28_put_2_4 : cJ28_put_2.data.toList.drop 95 = dktJ28_put_2_4 := dk_seg dksJ28_put_2_3 24 rfl rfl
theorem dksJ28_put_2_5 : cJ28_put_2.data.toList.drop 118 = dktJ28_put_2_5 := dk_seg dksJ28_put_2_4 23 rfl rfl
theorem dksJ28_put_2_6 : cJ28_put_2.data.toList.drop 141 = dktJ28_put_2_6 := dk_seg dksJ28_put_2_5 23 rfl rfl
theorem dksJ28_put_2_7 : cJ28_put_2.data.toList.drop 163 = dktJ28_put_2_7 := dk_seg dksJ28_put_2_6 22 rfl rfl
theorem dksJ28_put_2_8 : cJ28_put_2.data.toList.drop 187 = dktJ28_put_2_8 := dk_seg dksJ28_put_2_7 24 rfl rfl
theorem dksJ28_put_2_9 : cJ28_put_2.data.toList.drop 211 = dktJ28_put_2_9 := dk_seg dksJ28_put_2_8 24 rfl rfl
theorem dJ28_put_2_0 : decode cJ28_put_2 0 = .ok (.aload_n 0, 1) := dk_42 (dk_at dksJ28_put_2_0 0 rfl rfl)
theorem dJ28_put_2_1 : decode cJ28_put_2 1 = .ok (.getfield 101, 3) := dk_180 0 101 (dk_at dksJ28_put_2_0 1 rfl rfl)
theorem dJ28_put_2_4 : decode cJ28_put_2 4 = .ok (.astore 4, 2) := dk_58 4 (dk_at dksJ28_put_2_0 4 rfl rfl)
theorem dJ28_put_2_6 : decode cJ28_put_2 6 = .ok (.aload 4, 2) := dk_25 4 (dk_at dksJ28_put_2_0 6 rfl rfl)
theorem dJ28_put_2_8 : decode cJ28_put_2 8 = .ok (.ifnonnull 11, 3) := dk_199 0 11 (dk_at dksJ28_put_2_0 8 rfl rfl)
theorem dJ28_put_2_11 : decode cJ28_put_2 11 = .ok (.aload_n 0, 1) := dk_42 (dk_at dksJ28_put_2_0 11 rfl rfl)
theorem dJ28_put_2_12 : decode cJ28_put_2 12 = .ok (.aload_n 1, 1) := dk_43 (dk_at dksJ28_put_2_0 12 rfl rfl)
theorem dJ28_put_2_13 : decode cJ28_put_2 13 = .ok (.aload_n 2, 1) := dk_44 (dk_at dksJ28_put_2_0 13 rfl rfl)
theorem dJ28_put_2_14 : decode cJ28_put_2 14 = .ok (.invokevirtual 135, 3) := dk_182 0 135 (dk_at dksJ28_put_2_0 14 rfl rfl)
theorem dJ28_put_2_17 : decode cJ28_put_2 17 = .ok (.aconst_null, 1) := dk_1 (dk_at dksJ28_put_2_0 17 rfl rfl)
theorem dJ28_put_2_18 : decode cJ28_put_2 18 = .ok (.areturn, 1) := dk_176 (dk_at dksJ28_put_2_0 18 rfl rfl)
theorem dJ28_put_2_19 : decode cJ28_put_2 19 = .ok (.aload_n 0, 1) := dk_42 (dk_at dksJ28_put_2_0 19 rfl rfl)
theorem dJ28_put_2_20 : decode cJ28_put_2 20 = .ok (.getfield 16, 3) := dk_180 0 16 (dk_at dksJ28_put_2_0 20 rfl rfl)
theorem dJ28_put_2_23 : decode cJ28_put_2 23 = .ok (.astore 7, 2) := dk_58 7 (dk_at dksJ28_put_2_1 0 rfl rfl)
theorem dJ28_put_2_25 : decode cJ28_put_2 25 = .ok (.aload 7, 2) := dk_25 7 (dk_at dksJ28_put_2_1 2 rfl rfl)
theorem dJ28_put_2_27 : decode cJ28_put_2 27 = .ok (.ifnull 85, 3) := dk_198 0 85 (dk_at dksJ28_put_2_1 4 rfl rfl)
theorem dJ28_put_2_30 : decode cJ28_put_2 30 = .ok (.aload 4, 2) := dk_25 4 (dk_at dksJ28_put_2_1 7 rfl rfl)
theorem dJ28_put_2_32 : decode cJ28_put_2 32 = .ok (.astore 6, 2) := dk_58 6 (dk_at dksJ28_put_2_1 9 rfl rfl)
theorem dJ28_put_2_34 : decode cJ28_put_2 34 = .ok (.aload 7, 2) := dk_25 7 (dk_at dksJ28_put_2_1 11 rfl rfl)
theorem dJ28_put_2_36 : decode cJ28_put_2 36 = .ok (.aload_n 1, 1) := dk_43 (dk_at dksJ28_put_2_1 13 rfl rfl)
theorem dJ28_put_2_37 : decode cJ28_put_2 37 = .ok (.aload 4, 2) := dk_25 4 (dk_at dksJ28_put_2_1 14 rfl rfl)
theorem dJ28_put_2_39 : decode cJ28_put_2 39 = .ok (.getfield 105, 3) := dk_180 0 105 (dk_at dksJ28_put_2_1 16 rfl rfl)
theorem dJ28_put_2_42 : decode cJ28_put_2 42 = .ok (.invokeinterface 117 3, 5) := by decide +kernel
theorem dJ28_put_2_47 : decode cJ28_put_2 47 = .ok (.istore 5, 2) := dk_54 5 (dk_at dksJ28_put_2_2 0 rfl rfl)
theorem dJ28_put_2_49 : decode cJ28_put_2 49 = .ok (.iload 5, 2) := dk_21 5 (dk_at dksJ28_put_2_2 2 rfl rfl)
theorem dJ28_put_2_51 : decode cJ28_put_2 51 = .ok (.ifCond .ge 13, 3) := dk_156 0 13 (dk_at dksJ28_put_2_2 4 rfl rfl)
theorem dJ28_put_2_54 : decode cJ28_put_2 54 = .ok (.aload 4, 2) := dk_25 4 (dk_at dksJ28_put_2_2 7 rfl rfl)
theorem dJ28_put_2_56 : decode cJ28_put_2 56 = .ok (.getfield 111, 3) := dk_180 0 111 (dk_at dksJ28_put_2_2 9 rfl rfl)
theorem dJ28_put_2_59 : decode cJ28_put_2 59 = .ok (.astore 4, 2) := dk_58 4 (dk_at dksJ28_put_2_2 12 rfl rfl)
theorem dJ28_put_2_61 : decode cJ28_put_2 61 = .ok (.goto 43, 3) := dk_167 0 43 (dk_at dksJ28_put_2_2 14 rfl rfl)
theorem dJ28_put_2_64 : decode cJ28_put_2 64 = .ok (.iload 5, 2) := dk_21 5 (dk_at dksJ28_put_2_2 17 rfl rfl)
theorem dJ28_put_2_66 : decode cJ28_put_2 66 = .ok (.ifCond .le 13, 3) := dk_158 0 13 (dk_at dksJ28_put_2_2 19 rfl rfl)
theorem dJ28_put_2_69 : decode cJ28_put_2 69 = .ok (.aload 4, 2) := dk_25 4 (dk_at dksJ28_put_2_2 22 rfl rfl)
theorem dJ28_put_2_71 : decode cJ28_put_2 71 = .ok (.getfield 114, 3) := dk_180 0 114 (dk_at dksJ28_put_2_3 0 rfl rfl)
theorem dJ28_put_2_74 : decode cJ28_put_2 74 = .ok (.astore 4, 2) := dk_58 4 (dk_at dksJ28_put_2_3 3 rfl rfl)
theorem dJ28_put_2_76 : decode cJ28_put_2 76 = .ok (.goto 28, 3) := dk_167 0 28 (dk_at dksJ28_put_2_3 5 rfl rfl)
theorem dJ28_put_2_79 : decode cJ28_put_2 79 = .ok (.aload 4, 2) := dk_25 4 (dk_at dksJ28_put_2_3 8 rfl rfl)
theorem dJ28_put_2_81 : decode cJ28_put_2 81 = .ok (.getfield 58, 3) := dk_180 0 58 (dk_at dksJ28_put_2_3 10 rfl rfl)
theorem dJ28_put_2_84 : decode cJ28_put_2 84 = .ok (.astore 8, 2) := dk_58 8 (dk_at dksJ28_put_2_3 13 rfl rfl)
theorem dJ28_put_2_86 : decode cJ28_put_2 86 = .ok (.iload_n 3, 1) := dk_29 (dk_at dksJ28_put_2_3 15 rfl rfl)
theorem dJ28_put_2_87 : decode cJ28_put_2 87 = .ok (.ifCond .ne 8, 3) := dk_154 0 8 (dk_at dksJ28_put_2_3 16 rfl rfl)
theorem dJ28_put_2_90 : decode cJ28_put_2 90 = .ok (.aload 8, 2) := dk_25 8 (dk_at dksJ28_put_2_3 19 rfl rfl)
theorem dJ28_put_2_92 : decode cJ28_put_2 92 = .ok (.ifnonnull 9, 3) := dk_199 0 9 (dk_at dksJ28_put_2_3 21 rfl rfl)
theorem dJ28_put_2_95 : decode cJ28_put_2 95 = .ok (.aload 4, 2) := dk_25 4 (dk_at dksJ28_put_2_4 0 rfl rfl)
theorem dJ28_put_2_97 : decode cJ28_put_2 97 = .ok (.aload_n 2, 1) := dk_44 (dk_at dksJ28_put_2_4 2 rfl rfl)
theorem dJ28_put_2_98 : decode cJ28_put_2 98 = .ok (.putfield 58, 3) := dk_181 0 58 (dk_at dksJ28_put_2_4 3 rfl rfl)
theorem dJ28_put_2_101 : decode cJ28_put_2 101 = .ok (.aload 8, 2) := dk_25 8 (dk_at dksJ28_put_2_4 6 rfl rfl)
theorem dJ28_put_2_103 : decode cJ28_put_2 103 = .ok (.areturn, 1) := dk_176 (dk_at dksJ28_put_2_4 8 rfl rfl)
theorem dJ28_put_2_104 : decode cJ28_put_2 104 = .ok (.aload 4, 2) := dk_25 4 (dk_at dksJ28_put_2_4 9 rfl rfl)
theorem dJ28_put_2_106 : decode cJ28_put_2 106 = .ok (.ifnonnull (-76), 3) := dk_199 255 180 (dk_at dksJ28_put_2_4 11 rfl rfl)
theorem dJ28_put_2_109 : decode cJ28_put_2 109 = .ok (.goto 92, 3) := dk_167 0 92 (dk_at dksJ28_put_2_4 14 rfl rfl)
theorem dJ28_put_2_112 : decode cJ28_put_2 112 = .ok (.aload_n 1, 1) := dk_43 (dk_at dksJ28_put_2_4 17 rfl rfl)
theorem dJ28_put_2_113 : decode cJ28_put_2 113 = .ok (.invokestatic 95, 3) := dk_184 0 95 (dk_at dksJ28_put_2_4 18 rfl rfl)
theorem dJ28_put_2_116 : decode cJ28_put_2 116 = .ok (.pop, 1) := dk_87 (dk_at dksJ28_put_2_4 21 rfl rfl)
theorem dJ28_put_2_117 : decode cJ28_put_2 117 = .ok (.aload_n 1, 1) := dk_43 (dk_at dksJ28_put_2_4 22 rfl rfl)
theorem dJ28_put_2_118 : decode cJ28_put_2 118 = .ok (.checkcast 99, 3) := dk_192 0 99 (dk_at dksJ28_put_2_5 0 rfl rfl)
theorem dJ28_put_2_121 : decode cJ28_put_2 121 = .ok (.astore 8, 2) := dk_58 8 (dk_at dksJ28_put_2_5 3 rfl rfl)
theorem dJ28_put_2_123 : decode cJ28_put_2 123 = .ok (.aload 4, 2) := dk_25 4 (dk_at dksJ28_put_2_5 5 rfl rfl)
theorem dJ28_put_2_125 : decode cJ28_put_2 125 = .ok (.astore 6, 2) := dk_58 6 (dk_at dksJ28_put_2_5 7 rfl rfl)
theorem dJ28_put_2_127 : decode cJ28_put_2 127 = .ok (.aload 8, 2) := dk_25 8 (dk_at dksJ28_put_2_5 9 rfl rfl)
theorem dJ28_put_2_129 : decode cJ28_put_2 129 = .ok (.aload 4, 2) := dk_25 4 (dk_at dksJ28_put_2_5 11 rfl rfl)
theorem dJ28_put_2_131 : decode cJ28_put_2 131 = .ok (.getfield 105, 3) := dk_180 0 105 (dk_at dksJ28_put_2_5 13 rfl rfl)
theorem dJ28_put_2_134 : decode cJ28_put_2 134 = .ok (.invokeinterface 107 2, 5) := by decide +kernel
theorem dJ28_put_2_139 : decode cJ28_put_2 139 = .ok (.istore 5, 2) := dk_54 5 (dk_at dksJ28_put_2_5 21 rfl rfl)
theorem dJ28_put_2_141 : decode cJ28_put_2 141 = .ok (.iload 5, 2) := dk_21 5 (dk_at dksJ28_put_2_6 0 rfl rfl)
theorem dJ28_put_2_143 : decode cJ28_put_2 143 = .ok (.ifCond .ge 13, 3) := dk_156 0 13 (dk_at dksJ28_put_2_6 2 rfl rfl)
theorem dJ28_put_2_146 : decode cJ28_put_2 146 = .ok (.aload 4, 2) := dk_25 4 (dk_at dksJ28_put_2_6 5 rfl rfl)
theorem dJ28_put_2_148 : decode cJ28_put_2 148 = .ok (.getfield 111, 3) := dk_180 0 111 (dk_at dksJ28_put_2_6 7 rfl rfl)
theorem dJ28_put_2_151 : decode cJ28_put_2 151 = .ok (.astore 4, 2) := dk_58 4 (dk_at dksJ28_put_2_6 10 rfl rfl)
theorem dJ28_put_2_153 : decode cJ28_put_2 153 = .ok (.goto 43, 3) := dk_167 0 43 (dk_at dksJ28_put_2_6 12 rfl rfl)
theorem dJ28_put_2_156 : decode cJ28_put_2 156 = .ok (.iload 5, 2) := dk_21 5 (dk_at dksJ28_put_2_6 15 rfl rfl)
theorem dJ28_put_2_158 : decode cJ28_put_2 158 = .ok (.ifCond .le 13, 3) := dk_158 0 13 (dk_at dksJ28_put_2_6 17 rfl rfl)
theorem dJ28_put_2_161 : decode cJ28_put_2 161 = .ok (.aload 4, 2) := dk_25 4 (dk_at dksJ28_put_2_6 20 rfl rfl)
theorem dJ28_put_2_163 : decode cJ28_put_2 163 = .ok (.getfield 114, 3) := dk_180 0 114 (dk_at dksJ28_put_2_7 0 rfl rfl)
theorem dJ28_put_2_166 : decode cJ28_put_2 166 = .ok (.astore 4, 2) := dk_58 4 (dk_at dksJ28_put_2_7 3 rfl rfl)
theorem dJ28_put_2_168 : decode cJ28_put_2 168 = .ok (.goto 28, 3) := dk_167 0 28 (dk_at dksJ28_put_2_7 5 rfl rfl)
theorem dJ28_put_2_171 : decode cJ28_put_2 171 = .ok (.aload 4, 2) := dk_25 4 (dk_at dksJ28_put_2_7 8 rfl rfl)
theorem dJ28_put_2_173 : decode cJ28_put_2 173 = .ok (.getfield 58, 3) := dk_180 0 58 (dk_at dksJ28_put_2_7 10 rfl rfl)
theorem dJ28_put_2_176 : decode cJ28_put_2 176 = .ok (.astore 9, 2) := dk_58 9 (dk_at dksJ28_put_2_7 13 rfl rfl)
theorem dJ28_put_2_178 : decode cJ28_put_2 178 = .ok (.iload_n 3, 1) := dk_29 (dk_at dksJ28_put_2_7 15 rfl rfl)
theorem dJ28_put_2_179 : decode cJ28_put_2 179 = .ok (.ifCond .ne 8, 3) := dk_154 0 8 (dk_at dksJ28_put_2_7 16 rfl rfl)
theorem dJ28_put_2_182 : decode cJ28_put_2 182 = .ok (.aload 9, 2) := dk_25 9 (dk_at dksJ28_put_2_7 19 rfl rfl)
theorem dJ28_put_2_184 : decode cJ28_put_2 184 = .ok (.ifnonnull 9, 3) := dk_199 0 9 (dk_at dksJ28_put_2_7 21 rfl rfl)
theorem dJ28_put_2_187 : decode cJ28_put_2 187 = .ok (.aload 4, 2) := dk_25 4 (dk_at dksJ28_put_2_8 0 rfl rfl)
theorem dJ28_put_2_189 : decode cJ28_put_2 189 = .ok (.aload_n 2, 1) := dk_44 (dk_at dksJ28_put_2_8 2 rfl rfl)
theorem dJ28_put_2_190 : decode cJ28_put_2 190 = .ok (.putfield 58, 3) := dk_181 0 58 (dk_at dksJ28_put_2_8 3 rfl rfl)
theorem dJ28_put_2_193 : decode cJ28_put_2 193 = .ok (.aload 9, 2) := dk_25 9 (dk_at dksJ28_put_2_8 6 rfl rfl)
theorem dJ28_put_2_195 : decode cJ28_put_2 195 = .ok (.areturn, 1) := dk_176 (dk_at dksJ28_put_2_8 8 rfl rfl)
theorem dJ28_put_2_196 : decode cJ28_put_2 196 = .ok (.aload 4, 2) := dk_25 4 (dk_at dksJ28_put_2_8 9 rfl rfl)
theorem dJ28_put_2_198 : decode cJ28_put_2 198 = .ok (.ifnonnull (-75), 3) := dk_199 255 181 (dk_at dksJ28_put_2_8 11 rfl rfl)
theorem dJ28_put_2_201 : decode cJ28_put_2 201 = .ok (.aload_n 0, 1) := dk_42 (dk_at dksJ28_put_2_8 14 rfl rfl)
theorem dJ28_put_2_202 : decode cJ28_put_2 202 = .ok (.aload_n 1, 1) := dk_43 (dk_at dksJ28_put_2_8 15 rfl rfl)
theorem dJ28_put_2_203 : decode cJ28_put_2 203 = .ok (.aload_n 2, 1) := dk_44 (dk_at dksJ28_put_2_8 16 rfl rfl)
theorem dJ28_put_2_204 : decode cJ28_put_2 204 = .ok (.aload 6, 2) := dk_25 6 (dk_at dksJ28_put_2_8 17 rfl rfl)
theorem dJ28_put_2_206 : decode cJ28_put_2 206 = .ok (.iload 5, 2) := dk_21 5 (dk_at dksJ28_put_2_8 19 rfl rfl)
theorem dJ28_put_2_208 : decode cJ28_put_2 208 = .ok (.ifCond .ge 7, 3) := dk_156 0 7 (dk_at dksJ28_put_2_8 21 rfl rfl)
theorem dJ28_put_2_211 : decode cJ28_put_2 211 = .ok (.iconst 1, 1) := dk_4 (dk_at dksJ28_put_2_9 0 rfl rfl)
theorem dJ28_put_2_212 : decode cJ28_put_2 212 = .ok (.goto 4, 3) := dk_167 0 4 (dk_at dksJ28_put_2_9 1 rfl rfl)
theorem dJ28_put_2_215 : decode cJ28_put_2 215 = .ok (.iconst 0, 1) := dk_3 (dk_at dksJ28_put_2_9 4 rfl rfl)
theorem dJ28_put_2_216 : decode cJ28_put_2 216 = .ok (.invokevirtual 139, 3) := dk_182 0 139 (dk_at dksJ28_put_2_9 5 rfl rfl)
theorem dJ28_put_2_219 : decode cJ28_put_2 219 = .ok (.aconst_null, 1) := dk_1 (dk_at dksJ28_put_2_9 8 rfl rfl)
theorem dJ28_put_2_220 : decode cJ28_put_2 220 = .ok (.areturn, 1) := dk_176 (dk_at dksJ28_put_2_9 9 rfl rfl)
abbrev cJ28_addEntryToEmptyMap : ByteArray := prog_76_method_30_code
def yJ28_addEntryToEmptyMap : MethodName := ⟨RJ28, "addEntryToEmptyMap", "(Ljava/lang/Object;Ljava/lang/Object;)V"⟩
def dkwJ28_addEntryToEmptyMap_1 : List UInt8 := [181, 0, 7, 42, 89, 180, 0, 13, 4, 96, 181, 0, 13, 177]
abbrev dktJ28_addEntryToEmptyMap_1 : List UInt8 := dkwJ28_addEntryToEmptyMap_1 ++ []
def dkwJ28_addEntryToEmptyMap_0 : List UInt8 := [42, 43, 43, 182, 0, 123, 87, 42, 187, 0, 59, 89, 43, 44, 1, 183, 0, 167, 181, 0, 101, 42, 4]
abbrev dktJ28_addEntryToEmptyMap_0 : List UInt8 := dkwJ28_addEntryToEmptyMap_0 ++ dktJ28_addEntryToEmptyMap_1
theorem dksJ28_addEntryToEmptyMap_0 : cJ28_addEntryToEmptyMap.data.toList.drop 0 = dktJ28_addEntryToEmptyMap_0 := by decide +kernel
theorem dksJ28_addEntryToEmptyMap_1 : cJ28_addEntryToEmptyMap.data.toList.drop 23 = dktJ28_addEntryToEmptyMap_1 := dk_seg dksJ28_addEntryToEmptyMap_0 23 rfl rfl
theorem dJ28_addEntryToEmptyMap_0 : decode cJ28_addEntryToEmptyMap 0 = .ok (.aload_n 0, 1) := dk_42 (dk_at dksJ28_addEntryToEmptyMap_0 0 rfl rfl)
theorem dJ28_addEntryToEmptyMap_1 : decode cJ28_addEntryToEmptyMap 1 = .ok (.aload_n 1, 1) := dk_43 (dk_at dksJ28_addEntryToEmptyMap_0 1 rfl rfl)
theorem dJ28_addEntryToEmptyMap_2 : decode cJ28_addEntryToEmptyMap 2 = .ok (.aload_n 1, 1) := dk_43 (dk_at dksJ28_addEntryToEmptyMap_0 2 rfl rfl)
theorem dJ28_addEntryToEmptyMap_3 : decode cJ28_addEntryToEmptyMap 3 = .ok (.invokevirtual 123, 3) := dk_182 0 123 (dk_at dksJ28_addEntryToEmptyMap_0 3 rfl rfl)
theorem dJ28_addEntryToEmptyMap_6 : decode cJ28_addEntryToEmptyMap 6 = .ok (.pop, 1) := dk_87 (dk_at dksJ28_addEntryToEmptyMap_0 6 rfl rfl)
theorem dJ28_addEntryToEmptyMap_7 : decode cJ28_addEntryToEmptyMap 7 = .ok (.aload_n 0, 1) := dk_42 (dk_at dksJ28_addEntryToEmptyMap_0 7 rfl rfl)
theorem dJ28_addEntryToEmptyMap_8 : decode cJ28_addEntryToEmptyMap 8 = .ok (.new 59, 3) := dk_187 0 59 (dk_at dksJ28_addEntryToEmptyMap_0 8 rfl rfl)
theorem dJ28_addEntryToEmptyMap_11 : decode cJ28_addEntryToEmptyMap 11 = .ok (.dup, 1) := dk_89 (dk_at dksJ28_addEntryToEmptyMap_0 11 rfl rfl)
theorem dJ28_addEntryToEmptyMap_12 : decode cJ28_addEntryToEmptyMap 12 = .ok (.aload_n 1, 1) := dk_43 (dk_at dksJ28_addEntryToEmptyMap_0 12 rfl rfl)
theorem dJ28_addEntryToEmptyMap_13 : decode cJ28_addEntryToEmptyMap 13 = .ok (.aload_n 2, 1) := dk_44 (dk_at dksJ28_addEntryToEmptyMap_0 13 rfl rfl)
theorem dJ28_addEntryToEmptyMap_14 : decode cJ28_addEntryToEmptyMap 14 = .ok (.aconst_null, 1) := dk_1 (dk_at dksJ28_addEntryToEmptyMap_0 14 rfl rfl)
theorem dJ28_addEntryToEmptyMap_15 : decode cJ28_addEntryToEmptyMap 15 = .ok (.invokespecial 167, 3) := dk_183 0 167 (dk_at dksJ28_addEntryToEmptyMap_0 15 rfl rfl)
theorem dJ28_addEntryToEmptyMap_18 : decode cJ28_addEntryToEmptyMap 18 = .ok (.putfield 101, 3) := dk_181 0 101 (dk_at dksJ28_addEntryToEmptyMap_0 18 rfl rfl)
theorem dJ28_addEntryToEmptyMap_21 : decode cJ28_addEntryToEmptyMap 21 = .ok (.aload_n 0, 1) := dk_42 (dk_at dksJ28_addEntryToEmptyMap_0 21 rfl rfl)
theorem dJ28_addEntryToEmptyMap_22 : decode cJ28_addEntryToEmptyMap 22 = .ok (.iconst 1, 1) := dk_4 (dk_at dksJ28_addEntryToEmptyMap_0 22 rfl rfl)
theorem dJ28_addEntryToEmptyMap_23 : decode cJ28_addEntryToEmptyMap 23 = .ok (.putfield 7, 3) := dk_181 0 7 (dk_at dksJ28_addEntryToEmptyMap_1 0 rfl rfl)
theorem dJ28_addEntryToEmptyMap_26 : decode cJ28_addEntryToEmptyMap 26 = .ok (.aload_n 0, 1) := dk_42 (dk_at dksJ28_addEntryToEmptyMap_1 3 rfl rfl)
theorem dJ28_addEntryToEmptyMap_27 : decode cJ28_addEntryToEmptyMap 27 = .ok (.dup, 1) := dk_89 (dk_at dksJ28_addEntryToEmptyMap_1 4 rfl rfl)
theorem dJ28_addEntryToEmptyMap_28 : decode cJ28_addEntryToEmptyMap 28 = .ok (.getfield 13, 3) := dk_180 0 13 (dk_at dksJ28_addEntryToEmptyMap_1 5 rfl rfl)
theorem dJ28_addEntryToEmptyMap_31 : decode cJ28_addEntryToEmptyMap 31 = .ok (.iconst 1, 1) := dk_4 (dk_at dksJ28_addEntryToEmptyMap_1 8 rfl rfl)
theorem dJ28_addEntryToEmptyMap_32 : decode cJ28_addEntryToEmptyMap 32 = .ok (.iadd, 1) := dk_96 (dk_at dksJ28_addEntryToEmptyMap_1 9 rfl rfl)
theorem dJ28_addEntryToEmptyMap_33 : decode cJ28_addEntryToEmptyMap 33 = .ok (.putfield 13, 3) := dk_181 0 13 (dk_at dksJ28_addEntryToEmptyMap_1 10 rfl rfl)
theorem dJ28_addEntryToEmptyMap_36 : decode cJ28_addEntryToEmptyMap 36 = .ok (.return_, 1) := dk_177 (dk_at dksJ28_addEntryToEmptyMap_1 13 rfl rfl)
abbrev cJ28_compare : ByteArray := prog_76_method_67_code
def yJ28_compare : MethodName := ⟨RJ28, "compare", "(Ljava/lang/Object;Ljava/lang/Object;)I"⟩
def dkwJ28_compare_1 : List UInt8 := [43, 44, 185, 0, 117, 3, 0, 172]
abbrev dktJ28_compare_1 : List UInt8 := dkwJ28_compare_1 ++ []
def dkwJ28_compare_0 : List UInt8 := [42, 180, 0, 16, 199, 0, 16, 43, 192, 0, 99, 44, 185, 0, 107, 2, 0, 167, 0, 14, 42, 180, 0, 16]
abbrev dktJ28_compare_0 : List UInt8 := dkwJ28_compare_0 ++ dktJ28_compare_1
theorem dksJ28_compare_0 : cJ28_compare.data.toList.drop 0 = dktJ28_compare_0 := by decide +kernel
theorem dksJ28_compare_1 : cJ28_compare.data.toList.drop 24 = dktJ28_compare_1 := dk_seg dksJ28_compare_0 24 rfl rfl
theorem dJ28_compare_0 : decode cJ28_compare 0 = .ok (.aload_n 0, 1) := dk_42 (dk_at dksJ28_compare_0 0 rfl rfl)
theorem dJ28_compare_1 : decode cJ28_compare 1 = .ok (.getfield 16, 3) := dk_180 0 16 (dk_at dksJ28_compare_0 1 rfl rfl)
theorem dJ28_compare_4 : decode cJ28_compare 4 = .ok (.ifnonnull 16, 3) := dk_199 0 16 (dk_at dksJ28_compare_0 4 rfl rfl)
theorem dJ28_compare_7 : decode cJ28_compare 7 = .ok (.aload_n 1, 1) := dk_43 (dk_at dksJ28_compare_0 7 rfl rfl)
theorem dJ28_compare_8 : decode cJ28_compare 8 = .ok (.checkcast 99, 3) := dk_192 0 99 (dk_at dksJ28_compare_0 8 rfl rfl)
theorem dJ28_compare_11 : decode cJ28_compare 11 = .ok (.aload_n 2, 1) := dk_44 (dk_at dksJ28_compare_0 11 rfl rfl)
theorem dJ28_compare_12 : decode cJ28_compare 12 = .ok (.invokeinterface 107 2, 5) := by decide +kernel
theorem dJ28_compare_17 : decode cJ28_compare 17 = .ok (.goto 14, 3) := dk_167 0 14 (dk_at dksJ28_compare_0 17 rfl rfl)
theorem dJ28_compare_20 : decode cJ28_compare 20 = .ok (.aload_n 0, 1) := dk_42 (dk_at dksJ28_compare_0 20 rfl rfl)
theorem dJ28_compare_21 : decode cJ28_compare 21 = .ok (.getfield 16, 3) := dk_180 0 16 (dk_at dksJ28_compare_0 21 rfl rfl)
theorem dJ28_compare_24 : decode cJ28_compare 24 = .ok (.aload_n 1, 1) := dk_43 (dk_at dksJ28_compare_1 0 rfl rfl)
theorem dJ28_compare_25 : decode cJ28_compare 25 = .ok (.aload_n 2, 1) := dk_44 (dk_at dksJ28_compare_1 1 rfl rfl)
theorem dJ28_compare_26 : decode cJ28_compare 26 = .ok (.invokeinterface 117 3, 5) := by decide +kernel
theorem dJ28_compare_31 : decode cJ28_compare 31 = .ok (.ireturn, 1) := dk_172 (dk_at dksJ28_compare_1 7 rfl rfl)
abbrev cJ28_addEntry : ByteArray := prog_76_method_29_code
def yJ28_addEntry : MethodName := ⟨RJ28, "addEntry", "(Ljava/lang/Object;Ljava/lang/Object;Ljava/util/TreeMap$Entry;Z)V"⟩
def dkwJ28_addEntry_2 : List UInt8 := [181, 0, 7, 42, 89, 180, 0, 13, 4, 96, 181, 0, 13, 177]
abbrev dktJ28_addEntry_2 : List UInt8 := dkwJ28_addEntry_2 ++ []
def dkwJ28_addEntry_1 : List UInt8 := [167, 0, 9, 45, 25, 5, 181, 0, 114, 42, 25, 5, 182, 0, 170, 42, 89, 180, 0, 7, 4, 96]
abbrev dktJ28_addEntry_1 : List UInt8 := dkwJ28_addEntry_1 ++ dktJ28_addEntry_2
def dkwJ28_addEntry_0 : List UInt8 := [187, 0, 59, 89, 43, 44, 45, 183, 0, 167, 58, 5, 21, 4, 153, 0, 12, 45, 25, 5, 181, 0, 111]
abbrev dktJ28_addEntry_0 : List UInt8 := dkwJ28_addEntry_0 ++ dktJ28_addEntry_1
theorem dksJ28_addEntry_0 : cJ28_addEntry.data.toList.drop 0 = dktJ28_addEntry_0 := by decide +kernel
theorem dksJ28_addEntry_1 : cJ28_addEntry.data.toList.drop 23 = dktJ28_addEntry_1 := dk_seg dksJ28_addEntry_0 23 rfl rfl
theorem dksJ28_addEntry_2 : cJ28_addEntry.data.toList.drop 45 = dktJ28_addEntry_2 := dk_seg dksJ28_addEntry_1 22 rfl rfl
theorem dJ28_addEntry_0 : decode cJ28_addEntry 0 = .ok (.new 59, 3) := dk_187 0 59 (dk_at dksJ28_addEntry_0 0 rfl rfl)
theorem dJ28_addEntry_3 : decode cJ28_addEntry 3 = .ok (.dup, 1) := dk_89 (dk_at dksJ28_addEntry_0 3 rfl rfl)
theorem dJ28_addEntry_4 : decode cJ28_addEntry 4 = .ok (.aload_n 1, 1) := dk_43 (dk_at dksJ28_addEntry_0 4 rfl rfl)
theorem dJ28_addEntry_5 : decode cJ28_addEntry 5 = .ok (.aload_n 2, 1) := dk_44 (dk_at dksJ28_addEntry_0 5 rfl rfl)
theorem dJ28_addEntry_6 : decode cJ28_addEntry 6 = .ok (.aload_n 3, 1) := dk_45 (dk_at dksJ28_addEntry_0 6 rfl rfl)
theorem dJ28_addEntry_7 : decode cJ28_addEntry 7 = .ok (.invokespecial 167, 3) := dk_183 0 167 (dk_at dksJ28_addEntry_0 7 rfl rfl)
theorem dJ28_addEntry_10 : decode cJ28_addEntry 10 = .ok (.astore 5, 2) := dk_58 5 (dk_at dksJ28_addEntry_0 10 rfl rfl)
theorem dJ28_addEntry_12 : decode cJ28_addEntry 12 = .ok (.iload 4, 2) := dk_21 4 (dk_at dksJ28_addEntry_0 12 rfl rfl)
theorem dJ28_addEntry_14 : decode cJ28_addEntry 14 = .ok (.ifCond .eq 12, 3) := dk_153 0 12 (dk_at dksJ28_addEntry_0 14 rfl rfl)
theorem dJ28_addEntry_17 : decode cJ28_addEntry 17 = .ok (.aload_n 3, 1) := dk_45 (dk_at dksJ28_addEntry_0 17 rfl rfl)
theorem dJ28_addEntry_18 : decode cJ28_addEntry 18 = .ok (.aload 5, 2) := dk_25 5 (dk_at dksJ28_addEntry_0 18 rfl rfl)
theorem dJ28_addEntry_20 : decode cJ28_addEntry 20 = .ok (.putfield 111, 3) := dk_181 0 111 (dk_at dksJ28_addEntry_0 20 rfl rfl)
theorem dJ28_addEntry_23 : decode cJ28_addEntry 23 = .ok (.goto 9, 3) := dk_167 0 9 (dk_at dksJ28_addEntry_1 0 rfl rfl)
theorem dJ28_addEntry_26 : decode cJ28_addEntry 26 = .ok (.aload_n 3, 1) := dk_45 (dk_at dksJ28_addEntry_1 3 rfl rfl)
theorem dJ28_addEntry_27 : decode cJ28_addEntry 27 = .ok (.aload 5, 2) := dk_25 5 (dk_at dksJ28_addEntry_1 4 rfl rfl)
theorem dJ28_addEntry_29 : decode cJ28_addEntry 29 = .ok (.putfield 114, 3) := dk_181 0 114 (dk_at dksJ28_addEntry_1 6 rfl rfl)
theorem dJ28_addEntry_32 : decode cJ28_addEntry 32 = .ok (.aload_n 0, 1) := dk_42 (dk_at dksJ28_addEntry_1 9 rfl rfl)
theorem dJ28_addEntry_33 : decode cJ28_addEntry 33 = .ok (.aload 5, 2) := dk_25 5 (dk_at dksJ28_addEntry_1 10 rfl rfl)
theorem dJ28_addEntry_35 : decode cJ28_addEntry 35 = .ok (.invokevirtual 170, 3) := dk_182 0 170 (dk_at dksJ28_addEntry_1 12 rfl rfl)
theorem dJ28_addEntry_38 : decode cJ28_addEntry 38 = .ok (.aload_n 0, 1) := dk_42 (dk_at dksJ28_addEntry_1 15 rfl rfl)
theorem dJ28_addEntry_39 : decode cJ28_addEntry 39 = .ok (.dup, 1) := dk_89 (dk_at dksJ28_addEntry_1 16 rfl rfl)
theorem dJ28_addEntry_40 : decode cJ28_addEntry 40 = .ok (.getfield 7, 3) := dk_180 0 7 (dk_at dksJ28_addEntry_1 17 rfl rfl)
theorem dJ28_addEntry_43 : decode cJ28_addEntry 43 = .ok (.iconst 1, 1) := dk_4 (dk_at dksJ28_addEntry_1 20 rfl rfl)
theorem dJ28_addEntry_44 : decode cJ28_addEntry 44 = .ok (.iadd, 1) := dk_96 (dk_at dksJ28_addEntry_1 21 rfl rfl)
theorem dJ28_addEntry_45 : decode cJ28_addEntry 45 = .ok (.putfield 7, 3) := dk_181 0 7 (dk_at dksJ28_addEntry_2 0 rfl rfl)
theorem dJ28_addEntry_48 : decode cJ28_addEntry 48 = .ok (.aload_n 0, 1) := dk_42 (dk_at dksJ28_addEntry_2 3 rfl rfl)
theorem dJ28_addEntry_49 : decode cJ28_addEntry 49 = .ok (.dup, 1) := dk_89 (dk_at dksJ28_addEntry_2 4 rfl rfl)
theorem dJ28_addEntry_50 : decode cJ28_addEntry 50 = .ok (.getfield 13, 3) := dk_180 0 13 (dk_at dksJ28_addEntry_2 5 rfl rfl)
theorem dJ28_addEntry_53 : decode cJ28_addEntry 53 = .ok (.iconst 1, 1) := dk_4 (dk_at dksJ28_addEntry_2 8 rfl rfl)
theorem dJ28_addEntry_54 : decode cJ28_addEntry 54 = .ok (.iadd, 1) := dk_96 (dk_at dksJ28_addEntry_2 9 rfl rfl)
theorem dJ28_addEntry_55 : decode cJ28_addEntry 55 = .ok (.putfield 13, 3) := dk_181 0 13 (dk_at dksJ28_addEntry_2 10 rfl rfl)
theorem dJ28_addEntry_58 : decode cJ28_addEntry 58 = .ok (.return_, 1) := dk_177 (dk_at dksJ28_addEntry_2 13 rfl rfl)
abbrev cJ28_fixAfterInsertion : ByteArray := prog_76_method_83_code
def yJ28_fixAfterInsertion : MethodName := ⟨RJ28, "fixAfterInsertion", "(Ljava/util/TreeMap$Entry;)V"⟩
def dkwJ28_fixAfterInsertion_11 : List UInt8 := [42, 180, 0, 101, 4, 181, 1, 34, 177]
abbrev dktJ28_fixAfterInsertion_11 : List UInt8 := dkwJ28_fixAfterInsertion_11 ++ []
def dkwJ28_fixAfterInsertion_10 : List UInt8 := [184, 1, 38, 184, 1, 38, 3, 184, 1, 51, 42, 43, 184, 1, 38, 184, 1, 38, 182, 1, 55, 167, 255, 6]
abbrev dktJ28_fixAfterInsertion_10 : List UInt8 := dkwJ28_fixAfterInsertion_10 ++ dktJ28_fixAfterInsertion_11
def dkwJ28_fixAfterInsertion_9 : List UInt8 := [166, 0, 13, 43, 184, 1, 38, 76, 42, 43, 182, 1, 58, 43, 184, 1, 38, 4, 184, 1, 51, 43]
abbrev dktJ28_fixAfterInsertion_9 : List UInt8 := dkwJ28_fixAfterInsertion_9 ++ dktJ28_fixAfterInsertion_10
def dkwJ28_fixAfterInsertion_8 : List UInt8 := [184, 1, 51, 43, 184, 1, 38, 184, 1, 38, 76, 167, 0, 54, 43, 43, 184, 1, 38, 184, 1, 41]
abbrev dktJ28_fixAfterInsertion_8 : List UInt8 := dkwJ28_fixAfterInsertion_8 ++ dktJ28_fixAfterInsertion_9
def dkwJ28_fixAfterInsertion_7 : List UInt8 := [154, 0, 38, 43, 184, 1, 38, 4, 184, 1, 51, 44, 4, 184, 1, 51, 43, 184, 1, 38, 184, 1, 38, 3]
abbrev dktJ28_fixAfterInsertion_7 : List UInt8 := dkwJ28_fixAfterInsertion_7 ++ dktJ28_fixAfterInsertion_8
def dkwJ28_fixAfterInsertion_6 : List UInt8 := [184, 1, 38, 182, 1, 58, 167, 255, 113, 43, 184, 1, 38, 184, 1, 38, 184, 1, 41, 77, 44, 184, 1, 47]
abbrev dktJ28_fixAfterInsertion_6 : List UInt8 := dkwJ28_fixAfterInsertion_6 ++ dktJ28_fixAfterInsertion_7
def dkwJ28_fixAfterInsertion_5 : List UInt8 := [43, 184, 1, 38, 4, 184, 1, 51, 43, 184, 1, 38, 184, 1, 38, 3, 184, 1, 51, 42, 43, 184, 1, 38]
abbrev dktJ28_fixAfterInsertion_5 : List UInt8 := dkwJ28_fixAfterInsertion_5 ++ dktJ28_fixAfterInsertion_6
def dkwJ28_fixAfterInsertion_4 : List UInt8 := [167, 0, 54, 43, 43, 184, 1, 38, 184, 1, 44, 166, 0, 13, 43, 184, 1, 38, 76, 42, 43, 182, 1, 55]
abbrev dktJ28_fixAfterInsertion_4 : List UInt8 := dkwJ28_fixAfterInsertion_4 ++ dktJ28_fixAfterInsertion_5
def dkwJ28_fixAfterInsertion_3 : List UInt8 := [184, 1, 51, 43, 184, 1, 38, 184, 1, 38, 3, 184, 1, 51, 43, 184, 1, 38, 184, 1, 38, 76]
abbrev dktJ28_fixAfterInsertion_3 : List UInt8 := dkwJ28_fixAfterInsertion_3 ++ dktJ28_fixAfterInsertion_4
def dkwJ28_fixAfterInsertion_2 : List UInt8 := [184, 1, 38, 184, 1, 44, 77, 44, 184, 1, 47, 154, 0, 38, 43, 184, 1, 38, 4, 184, 1, 51, 44, 4]
abbrev dktJ28_fixAfterInsertion_2 : List UInt8 := dkwJ28_fixAfterInsertion_2 ++ dktJ28_fixAfterInsertion_3
def dkwJ28_fixAfterInsertion_1 : List UInt8 := [154, 0, 234, 43, 184, 1, 38, 43, 184, 1, 38, 184, 1, 38, 184, 1, 41, 166, 0, 110, 43, 184, 1, 38]
abbrev dktJ28_fixAfterInsertion_1 : List UInt8 := dkwJ28_fixAfterInsertion_1 ++ dktJ28_fixAfterInsertion_2
def dkwJ28_fixAfterInsertion_0 : List UInt8 := [43, 3, 181, 1, 34, 43, 198, 0, 252, 43, 42, 180, 0, 101, 165, 0, 244, 43, 180, 0, 124, 180, 1, 34]
abbrev dktJ28_fixAfterInsertion_0 : List UInt8 := dkwJ28_fixAfterInsertion_0 ++ dktJ28_fixAfterInsertion_1
theorem dksJ28_fixAfterInsertion_0 : cJ28_fixAfterInsertion.data.toList.drop 0 = dktJ28_fixAfterInsertion_0 := by decide +kernel
theorem dksJ28_fixAfterInsertion_1 : cJ28_fixAfterInsertion.data.toList.drop 24 = dktJ28_fixAfterInsertion_1 := dk_seg dksJ28_fixAfterInsertion_0 24 rfl rfl
theorem dksJ28_fixAfterInsertion_2 : cJ28_fixAfterInsertion.data.toList.drop 48 = dktJ28_fixAfterInsertion_2 := dk_seg dksJ28_fixAfterInsertion_1 24 rfl rfl
theorem dksJ28_fixAfterInsertion_3 : cJ28_fixAfterInsertion.data.toList.drop 72 = dktJ28_fixAfterInsertion_3 := dk_seg dksJ28_fixAfterInsertion_2 24 rfl rfl
theorem dksJ28_fixAfterInsertion_4 : cJ28_fixAfterInsertion.data.toList.drop 94 = dktJ28_fixAfterInsertion_4 := dk_seg dksJ28_fixAfterInsertion_3 22 rfl rfl
theorem dksJ28_fixAfterInsertion_5 : cJ28_fixAfterInsertion.data.toList.drop 118 = dktJ28_fixAfterInsertion_5 := dk_seg dksJ28_fixAfterInsertion_4 24 rfl rfl
theorem dksJ28_fixAfterInsertion_6 : cJ28_fixAfterInsertion.data.toList.drop 142 = dktJ28_fixAfterInsertion_6 := dk_seg dksJ28_fixAfterInsertion_5 24 rfl rfl
theorem dksJ28_fixAfterInsertion_7 : cJ28_fixAfterInsertion.data.toList.drop 166 = dktJ28_fixAfterInsertion_7 := dk_seg dksJ28_fixAfterInsertion_6 24 rfl rfl
theorem dksJ28_fixAfterInsertion_8 : cJ28_fixAfterInsertion.data.toList.drop 190 = dktJ28_fixAfterInsertion_8 := dk_seg dksJ28_fixAfterInsertion_7 24 rfl rfl
theorem dksJ28_fixAfterInsertion_9 : cJ28_fixAfterInsertion.data.toList.drop 212 = dktJ28_fixAfterInsertion_9 := dk_seg dksJ28_fixAfterInsertion_8 22 rfl rfl
theorem dksJ28_fixAfterInsertion_10 : cJ28_fixAfterInsertion.data.toList.drop 234 = dktJ28_fixAfterInsertion_10 := dk_seg dksJ28_fixAfterInsertion_9 22 rfl rfl
theorem dksJ28_fixAfterInsertion_11 : cJ28_fixAfterInsertion.data.toList.drop 258 = dktJ28_fixAfterInsertion_11 := dk_seg dksJ28_fixAfterInsertion_10 24 rfl rfl
theorem dJ28_fixAfterInsertion_0 : decode cJ28_fixAfterInsertion 0 = .ok (.aload_n 1, 1) := dk_43 (dk_at dksJ28_fixAfterInsertion_0 0 rfl rfl)
theorem dJ28_fixAfterInsertion_1 : decode cJ28_fixAfterInsertion 1 = .ok (.iconst 0, 1) := dk_3 (dk_at dksJ28_fixAfterInsertion_0 1 rfl rfl)
theorem dJ28_fixAfterInsertion_2 : decode cJ28_fixAfterInsertion 2 = .ok (.putfield 290, 3) := dk_181 1 34 (dk_at dksJ28_fixAfterInsertion_0 2 rfl rfl)
theorem dJ28_fixAfterInsertion_5 : decode cJ28_fixAfterInsertion 5 = .ok (.aload_n 1, 1) := dk_43 (dk_at dksJ28_fixAfterInsertion_0 5 rfl rfl)
theorem dJ28_fixAfterInsertion_6 : decode cJ28_fixAfterInsertion 6 = .ok (.ifnull 252, 3) := dk_198 0 252 (dk_at dksJ28_fixAfterInsertion_0 6 rfl rfl)
theorem dJ28_fixAfterInsertion_9 : decode cJ28_fixAfterInsertion 9 = .ok (.aload_n 1, 1) := dk_43 (dk_at dksJ28_fixAfterInsertion_0 9 rfl rfl)
theorem dJ28_fixAfterInsertion_10 : decode cJ28_fixAfterInsertion 10 = .ok (.aload_n 0, 1) := dk_42 (dk_at dksJ28_fixAfterInsertion_0 10 rfl rfl)
theorem dJ28_fixAfterInsertion_11 : decode cJ28_fixAfterInsertion 11 = .ok (.getfield 101, 3) := dk_180 0 101 (dk_at dksJ28_fixAfterInsertion_0 11 rfl rfl)
theorem dJ28_fixAfterInsertion_14 : decode cJ28_fixAfterInsertion 14 = .ok (.if_acmp .eq 244, 3) := dk_165 0 244 (dk_at dksJ28_fixAfterInsertion_0 14 rfl rfl)
theorem dJ28_fixAfterInsertion_17 : decode cJ28_fixAfterInsertion 17 = .ok (.aload_n 1, 1) := dk_43 (dk_at dksJ28_fixAfterInsertion_0 17 rfl rfl)
theorem dJ28_fixAfterInsertion_18 : decode cJ28_fixAfterInsertion 18 = .ok (.getfield 124, 3) := dk_180 0 124 (dk_at dksJ28_fixAfterInsertion_0 18 rfl rfl)
theorem dJ28_fixAfterInsertion_21 : decode cJ28_fixAfterInsertion 21 = .ok (.getfield 290, 3) := dk_180 1 34 (dk_at dksJ28_fixAfterInsertion_0 21 rfl rfl)
theorem dJ28_fixAfterInsertion_24 : decode cJ28_fixAfterInsertion 24 = .ok (.ifCond .ne 234, 3) := dk_154 0 234 (dk_at dksJ28_fixAfterInsertion_1 0 rfl rfl)
theorem dJ28_fixAfterInsertion_27 : decode cJ28_fixAfterInsertion 27 = .ok (.aload_n 1, 1) := dk_43 (dk_at dksJ28_fixAfterInsertion_1 3 rfl rfl)
theorem dJ28_fixAfterInsertion_28 : decode cJ28_fixAfterInsertion 28 = .ok (.invokestatic 294, 3) := dk_184 1 38 (dk_at dksJ28_fixAfterInsertion_1 4 rfl rfl)
theorem dJ28_fixAfterInsertion_31 : decode cJ28_fixAfterInsertion 31 = .ok (.aload_n 1, 1) := dk_43 (dk_at dksJ28_fixAfterInsertion_1 7 rfl rfl)
theorem dJ28_fixAfterInsertion_32 : decode cJ28_fixAfterInsertion 32 = .ok (.invokestatic 294, 3) := dk_184 1 38 (dk_at dksJ28_fixAfterInsertion_1 8 rfl rfl)
theorem dJ28_fixAfterInsertion_35 : decode cJ28_fixAfterInsertion 35 = .ok (.invokestatic 294, 3) := dk_184 1 38 (dk_at dksJ28_fixAfterInsertion_1 11 rfl rfl)
theorem dJ28_fixAfterInsertion_38 : decode cJ28_fixAfterInsertion 38 = .ok (.invokestatic 297, 3) := dk_184 1 41 (dk_at dksJ28_fixAfterInsertion_1 14 rfl rfl)
theorem dJ28_fixAfterInsertion_41 : decode cJ28_fixAfterInsertion 41 = .ok (.if_acmp .ne 110, 3) := dk_166 0 110 (dk_at dksJ28_fixAfterInsertion_1 17 rfl rfl)
theorem dJ28_fixAfterInsertion_44 : decode cJ28_fixAfterInsertion 44 = .ok (.aload_n 1, 1) := dk_43 (dk_at dksJ28_fixAfterInsertion_1 20 rfl rfl)
theorem dJ28_fixAfterInsertion_45 : decode cJ28_fixAfterInsertion 45 = .ok (.invokestatic 294, 3) := dk_184 1 38 (dk_at dksJ28_fixAfterInsertion_1 21 rfl rfl)
theorem dJ28_fixAfterInsertion_48 : decode cJ28_fixAfterInsertion 48 = .ok (.invokestatic 294, 3) := dk_184 1 38 (dk_at dksJ28_fixAfterInsertion_2 0 rfl rfl)
theorem dJ28_fixAfterInsertion_51 : decode cJ28_fixAfterInsertion 51 = .ok (.invokestatic 300, 3) := dk_184 1 44 (dk_at dksJ28_fixAfterInsertion_2 3 rfl rfl)
theorem dJ28_fixAfterInsertion_54 : decode cJ28_fixAfterInsertion 54 = .ok (.astore_n 2, 1) := dk_77 (dk_at dksJ28_fixAfterInsertion_2 6 rfl rfl)
theorem dJ28_fixAfterInsertion_55 : decode cJ28_fixAfterInsertion 55 = .ok (.aload_n 2, 1) := dk_44 (dk_at dksJ28_fixAfterInsertion_2 7 rfl rfl)
theorem dJ28_fixAfterInsertion_56 : decode cJ28_fixAfterInsertion 56 = .ok (.invokestatic 303, 3) := dk_184 1 47 (dk_at dksJ28_fixAfterInsertion_2 8 rfl rfl)
theorem dJ28_fixAfterInsertion_59 : decode cJ28_fixAfterInsertion 59 = .ok (.ifCond .ne 38, 3) := dk_154 0 38 (dk_at dksJ28_fixAfterInsertion_2 11 rfl rfl)
theorem dJ28_fixAfterInsertion_62 : decode cJ28_fixAfterInsertion 62 = .ok (.aload_n 1, 1) := dk_43 (dk_at dksJ28_fixAfterInsertion_2 14 rfl rfl)
theorem dJ28_fixAfterInsertion_63 : decode cJ28_fixAfterInsertion 63 = .ok (.invokestatic 294, 3) := dk_184 1 38 (dk_at dksJ28_fixAfterInsertion_2 15 rfl rfl)
theorem dJ28_fixAfterInsertion_66 : decode cJ28_fixAfterInsertion 66 = .ok (.iconst 1, 1) := dk_4 (dk_at dksJ28_fixAfterInsertion_2 18 rfl rfl)
theorem dJ28_fixAfterInsertion_67 : decode cJ28_fixAfterInsertion 67 = .ok (.invokestatic 307, 3) := dk_184 1 51 (dk_at dksJ28_fixAfterInsertion_2 19 rfl rfl)
theorem dJ28_fixAfterInsertion_70 : decode cJ28_fixAfterInsertion 70 = .ok (.aload_n 2, 1) := dk_44 (dk_at dksJ28_fixAfterInsertion_2 22 rfl rfl)
theorem dJ28_fixAfterInsertion_71 : decode cJ28_fixAfterInsertion 71 = .ok (.iconst 1, 1) := dk_4 (dk_at dksJ28_fixAfterInsertion_2 23 rfl rfl)
theorem dJ28_fixAfterInsertion_72 : decode cJ28_fixAfterInsertion 72 = .ok (.invokestatic 307, 3) := dk_184 1 51 (dk_at dksJ28_fixAfterInsertion_3 0 rfl rfl)
theorem dJ28_fixAfterInsertion_75 : decode cJ28_fixAfterInsertion 75 = .ok (.aload_n 1, 1) := dk_43 (dk_at dksJ28_fixAfterInsertion_3 3 rfl rfl)
theorem dJ28_fixAfterInsertion_76 : decode cJ28_fixAfterInsertion 76 = .ok (.invokestatic 294, 3) := dk_184 1 38 (dk_at dksJ28_fixAfterInsertion_3 4 rfl rfl)
theorem dJ28_fixAfterInsertion_79 : decode cJ28_fixAfterInsertion 79 = .ok (.invokestatic 294, 3) := dk_184 1 38 (dk_at dksJ28_fixAfterInsertion_3 7 rfl rfl)
theorem dJ28_fixAfterInsertion_82 : decode cJ28_fixAfterInsertion 82 = .ok (.iconst 0, 1) := dk_3 (dk_at dksJ28_fixAfterInsertion_3 10 rfl rfl)
theorem dJ28_fixAfterInsertion_83 : decode cJ28_fixAfterInsertion 83 = .ok (.invokestatic 307, 3) := dk_184 1 51 (dk_at dksJ28_fixAfterInsertion_3 11 rfl rfl)
theorem dJ28_fixAfterInsertion_86 : decode cJ28_fixAfterInsertion 86 = .ok (.aload_n 1, 1) := dk_43 (dk_at dksJ28_fixAfterInsertion_3 14 rfl rfl)
theorem dJ28_fixAfterInsertion_87 : decode cJ28_fixAfterInsertion 87 = .ok (.invokestatic 294, 3) := dk_184 1 38 (dk_at dksJ28_fixAfterInsertion_3 15 rfl rfl)
theorem dJ28_fixAfterInsertion_90 : decode cJ28_fixAfterInsertion 90 = .ok (.invokestatic 294, 3) := dk_184 1 38 (dk_at dksJ28_fixAfterInsertion_3 18 rfl rfl)
theorem dJ28_fixAfterInsertion_93 : decode cJ28_fixAfterInsertion 93 = .ok (.astore_n 1, 1) := dk_76 (dk_at dksJ28_fixAfterInsertion_3 21 rfl rfl)
theorem dJ28_fixAfterInsertion_94 : decode cJ28_fixAfterInsertion 94 = .ok (.goto 54, 3) := dk_167 0 54 (dk_at dksJ28_fixAfterInsertion_4 0 rfl rfl)
theorem dJ28_fixAfterInsertion_97 : decode cJ28_fixAfterInsertion 97 = .ok (.aload_n 1, 1) := dk_43 (dk_at dksJ28_fixAfterInsertion_4 3 rfl rfl)
theorem dJ28_fixAfterInsertion_98 : decode cJ28_fixAfterInsertion 98 = .ok (.aload_n 1, 1) := dk_43 (dk_at dksJ28_fixAfterInsertion_4 4 rfl rfl)
theorem dJ28_fixAfterInsertion_99 : decode cJ28_fixAfterInsertion 99 = .ok (.invokestatic 294, 3) := dk_184 1 38 (dk_at dksJ28_fixAfterInsertion_4 5 rfl rfl)
theorem dJ28_fixAfterInsertion_102 : decode cJ28_fixAfterInsertion 102 = .ok (.invokestatic 300, 3) := dk_184 1 44 (dk_at dksJ28_fixAfterInsertion_4 8 rfl rfl)
theorem dJ28_fixAfterInsertion_105 : decode cJ28_fixAfterInsertion 105 = .ok (.if_acmp .ne 13, 3) := dk_166 0 13 (dk_at dksJ28_fixAfterInsertion_4 11 rfl rfl)
theorem dJ28_fixAfterInsertion_108 : decode cJ28_fixAfterInsertion 108 = .ok (.aload_n 1, 1) := dk_43 (dk_at dksJ28_fixAfterInsertion_4 14 rfl rfl)
theorem dJ28_fixAfterInsertion_109 : decode cJ28_fixAfterInsertion 109 = .ok (.invokestatic 294, 3) := dk_184 1 38 (dk_at dksJ28_fixAfterInsertion_4 15 rfl rfl)
theorem dJ28_fixAfterInsertion_112 : decode cJ28_fixAfterInsertion 112 = .ok (.astore_n 1, 1) := dk_76 (dk_at dksJ28_fixAfterInsertion_4 18 rfl rfl)
theorem dJ28_fixAfterInsertion_113 : decode cJ28_fixAfterInsertion 113 = .ok (.aload_n 0, 1) := dk_42 (dk_at dksJ28_fixAfterInsertion_4 19 rfl rfl)
theorem dJ28_fixAfterInsertion_114 : decode cJ28_fixAfterInsertion 114 = .ok (.aload_n 1, 1) := dk_43 (dk_at dksJ28_fixAfterInsertion_4 20 rfl rfl)
theorem dJ28_fixAfterInsertion_115 : decode cJ28_fixAfterInsertion 115 = .ok (.invokevirtual 311, 3) := dk_182 1 55 (dk_at dksJ28_fixAfterInsertion_4 21 rfl rfl)
theorem dJ28_fixAfterInsertion_118 : decode cJ28_fixAfterInsertion 118 = .ok (.aload_n 1, 1) := dk_43 (dk_at dksJ28_fixAfterInsertion_5 0 rfl rfl)
theorem dJ28_fixAfterInsertion_119 : decode cJ28_fixAfterInsertion 119 = .ok (.invokestatic 294, 3) := dk_184 1 38 (dk_at dksJ28_fixAfterInsertion_5 1 rfl rfl)
theorem dJ28_fixAfterInsertion_122 : decode cJ28_fixAfterInsertion 122 = .ok (.iconst 1, 1) := dk_4 (dk_at dksJ28_fixAfterInsertion_5 4 rfl rfl)
theorem dJ28_fixAfterInsertion_123 : decode cJ28_fixAfterInsertion 123 = .ok (.invokestatic 307, 3) := dk_184 1 51 (dk_at dksJ28_fixAfterInsertion_5 5 rfl rfl)
theorem dJ28_fixAfterInsertion_126 : decode cJ28_fixAfterInsertion 126 = .ok (.aload_n 1, 1) := dk_43 (dk_at dksJ28_fixAfterInsertion_5 8 rfl rfl)
theorem dJ28_fixAfterInsertion_127 : decode cJ28_fixAfterInsertion 127 = .ok (.invokestatic 294, 3) := dk_184 1 38 (dk_at dksJ28_fixAfterInsertion_5 9 rfl rfl)
theorem dJ28_fixAfterInsertion_130 : decode cJ28_fixAfterInsertion 130 = .ok (.invokestatic 294, 3) := dk_184 1 38 (dk_at dksJ28_fixAfterInsertion_5 12 rfl rfl)
theorem dJ28_fixAfterInsertion_133 : decode cJ28_fixAfterInsertion 133 = .ok (.iconst 0, 1) := dk_3 (dk_at dksJ28_fixAfterInsertion_5 15 rfl rfl)
theorem dJ28_fixAfterInsertion_134 : decode cJ28_fixAfterInsertion 134 = .ok (.invokestatic 307, 3) := dk_184 1 51 (dk_at dksJ28_fixAfterInsertion_5 16 rfl rfl)
theorem dJ28_fixAfterInsertion_137 : decode cJ28_fixAfterInsertion 137 = .ok (.aload_n 0, 1) := dk_42 (dk_at dksJ28_fixAfterInsertion_5 19 rfl rfl)
theorem dJ28_fixAfterInsertion_138 : decode cJ28_fixAfterInsertion 138 = .ok (.aload_n 1, 1) := dk_43 (dk_at dksJ28_fixAfterInsertion_5 20 rfl rfl)
theorem dJ28_fixAfterInsertion_139 : decode cJ28_fixAfterInsertion 139 = .ok (.invokestatic 294, 3) := dk_184 1 38 (dk_at dksJ28_fixAfterInsertion_5 21 rfl rfl)
theorem dJ28_fixAfterInsertion_142 : decode cJ28_fixAfterInsertion 142 = .ok (.invokestatic 294, 3) := dk_184 1 38 (dk_at dksJ28_fixAfterInsertion_6 0 rfl rfl)
theorem dJ28_fixAfterInsertion_145 : decode cJ28_fixAfterInsertion 145 = .ok (.invokevirtual 314, 3) := dk_182 1 58 (dk_at dksJ28_fixAfterInsertion_6 3 rfl rfl)
theorem dJ28_fixAfterInsertion_148 : decode cJ28_fixAfterInsertion 148 = .ok (.goto (-143), 3) := dk_167 255 113 (dk_at dksJ28_fixAfterInsertion_6 6 rfl rfl)
theorem dJ28_fixAfterInsertion_151 : decode cJ28_fixAfterInsertion 151 = .ok (.aload_n 1, 1) := dk_43 (dk_at dksJ28_fixAfterInsertion_6 9 rfl rfl)
theorem dJ28_fixAfterInsertion_152 : decode cJ28_fixAfterInsertion 152 = .ok (.invokestatic 294, 3) := dk_184 1 38 (dk_at dksJ28_fixAfterInsertion_6 10 rfl rfl)
theorem dJ28_fixAfterInsertion_155 : decode cJ28_fixAfterInsertion 155 = .ok (.invokestatic 294, 3) := dk_184 1 38 (dk_at dksJ28_fixAfterInsertion_6 13 rfl rfl)
theorem dJ28_fixAfterInsertion_158 : decode cJ28_fixAfterInsertion 158 = .ok (.invokestatic 297, 3) := dk_184 1 41 (dk_at dksJ28_fixAfterInsertion_6 16 rfl rfl)
theorem dJ28_fixAfterInsertion_161 : decode cJ28_fixAfterInsertion 161 = .ok (.astore_n 2, 1) := dk_77 (dk_at dksJ28_fixAfterInsertion_6 19 rfl rfl)
theorem dJ28_fixAfterInsertion_162 : decode cJ28_fixAfterInsertion 162 = .ok (.aload_n 2, 1) := dk_44 (dk_at dksJ28_fixAfterInsertion_6 20 rfl rfl)
theorem dJ28_fixAfterInsertion_163 : decode cJ28_fixAfterInsertion 163 = .ok (.invokestatic 303, 3) := dk_184 1 47 (dk_at dksJ28_fixAfterInsertion_6 21 rfl rfl)
theorem dJ28_fixAfterInsertion_166 : decode cJ28_fixAfterInsertion 166 = .ok (.ifCond .ne 38, 3) := dk_154 0 38 (dk_at dksJ28_fixAfterInsertion_7 0 rfl rfl)
theorem dJ28_fixAfterInsertion_169 : decode cJ28_fixAfterInsertion 169 = .ok (.aload_n 1, 1) := dk_43 (dk_at dksJ28_fixAfterInsertion_7 3 rfl rfl)
theorem dJ28_fixAfterInsertion_170 : decode cJ28_fixAfterInsertion 170 = .ok (.invokestatic 294, 3) := dk_184 1 38 (dk_at dksJ28_fixAfterInsertion_7 4 rfl rfl)
theorem dJ28_fixAfterInsertion_173 : decode cJ28_fixAfterInsertion 173 = .ok (.iconst 1, 1) := dk_4 (dk_at dksJ28_fixAfterInsertion_7 7 rfl rfl)
theorem dJ28_fixAfterInsertion_174 : decode cJ28_fixAfterInsertion 174 = .ok (.invokestatic 307, 3) := dk_184 1 51 (dk_at dksJ28_fixAfterInsertion_7 8 rfl rfl)
theorem dJ28_fixAfterInsertion_177 : decode cJ28_fixAfterInsertion 177 = .ok (.aload_n 2, 1) := dk_44 (dk_at dksJ28_fixAfterInsertion_7 11 rfl rfl)
theorem dJ28_fixAfterInsertion_178 : decode cJ28_fixAfterInsertion 178 = .ok (.iconst 1, 1) := dk_4 (dk_at dksJ28_fixAfterInsertion_7 12 rfl rfl)
theorem dJ28_fixAfterInsertion_179 : decode cJ28_fixAfterInsertion 179 = .ok (.invokestatic 307, 3) := dk_184 1 51 (dk_at dksJ28_fixAfterInsertion_7 13 rfl rfl)
theorem dJ28_fixAfterInsertion_182 : decode cJ28_fixAfterInsertion 182 = .ok (.aload_n 1, 1) := dk_43 (dk_at dksJ28_fixAfterInsertion_7 16 rfl rfl)
theorem dJ28_fixAfterInsertion_183 : decode cJ28_fixAfterInsertion 183 = .ok (.invokestatic 294, 3) := dk_184 1 38 (dk_at dksJ28_fixAfterInsertion_7 17 rfl rfl)
theorem dJ28_fixAfterInsertion_186 : decode cJ28_fixAfterInsertion 186 = .ok (.invokestatic 294, 3) := dk_184 1 38 (dk_at dksJ28_fixAfterInsertion_7 20 rfl rfl)
theorem dJ28_fixAfterInsertion_189 : decode cJ28_fixAfterInsertion 189 = .ok (.iconst 0, 1) := dk_3 (dk_at dksJ28_fixAfterInsertion_7 23 rfl rfl)
theorem dJ28_fixAfterInsertion_190 : decode cJ28_fixAfterInsertion 190 = .ok (.invokestatic 307, 3) := dk_184 1 51 (dk_at dksJ28_fixAfterInsertion_8 0 rfl rfl)
theorem dJ28_fixAfterInsertion_193 : decode cJ28_fixAfterInsertion 193 = .ok (.aload_n 1, 1) := dk_43 (dk_at dksJ28_fixAfterInsertion_8 3 rfl rfl)
theorem dJ28_fixAfterInsertion_194 : decode cJ28_fixAfterInsertion 194 = .ok (.invokestatic 294, 3) := dk_184 1 38 (dk_at dksJ28_fixAfterInsertion_8 4 rfl rfl)
theorem dJ28_fixAfterInsertion_197 : decode cJ28_fixAfterInsertion 197 = .ok (.invokestatic 294, 3) := dk_184 1 38 (dk_at dksJ28_fixAfterInsertion_8 7 rfl rfl)
theorem dJ28_fixAfterInsertion_200 : decode cJ28_fixAfterInsertion 200 = .ok (.astore_n 1, 1) := dk_76 (dk_at dksJ28_fixAfterInsertion_8 10 rfl rfl)
theorem dJ28_fixAfterInsertion_201 : decode cJ28_fixAfterInsertion 201 = .ok (.goto 54, 3) := dk_167 0 54 (dk_at dksJ28_fixAfterInsertion_8 11 rfl rfl)
theorem dJ28_fixAfterInsertion_204 : decode cJ28_fixAfterInsertion 204 = .ok (.aload_n 1, 1) := dk_43 (dk_at dksJ28_fixAfterInsertion_8 14 rfl rfl)
theorem dJ28_fixAfterInsertion_205 : decode cJ28_fixAfterInsertion 205 = .ok (.aload_n 1, 1) := dk_43 (dk_at dksJ28_fixAfterInsertion_8 15 rfl rfl)
theorem dJ28_fixAfterInsertion_206 : decode cJ28_fixAfterInsertion 206 = .ok (.invokestatic 294, 3) := dk_184 1 38 (dk_at dksJ28_fixAfterInsertion_8 16 rfl rfl)
theorem dJ28_fixAfterInsertion_209 : decode cJ28_fixAfterInsertion 209 = .ok (.invokestatic 297, 3) := dk_184 1 41 (dk_at dksJ28_fixAfterInsertion_8 19 rfl rfl)
theorem dJ28_fixAfterInsertion_212 : decode cJ28_fixAfterInsertion 212 = .ok (.if_acmp .ne 13, 3) := dk_166 0 13 (dk_at dksJ28_fixAfterInsertion_9 0 rfl rfl)
theorem dJ28_fixAfterInsertion_215 : decode cJ28_fixAfterInsertion 215 = .ok (.aload_n 1, 1) := dk_43 (dk_at dksJ28_fixAfterInsertion_9 3 rfl rfl)
theorem dJ28_fixAfterInsertion_216 : decode cJ28_fixAfterInsertion 216 = .ok (.invokestatic 294, 3) := dk_184 1 38 (dk_at dksJ28_fixAfterInsertion_9 4 rfl rfl)
theorem dJ28_fixAfterInsertion_219 : decode cJ28_fixAfterInsertion 219 = .ok (.astore_n 1, 1) := dk_76 (dk_at dksJ28_fixAfterInsertion_9 7 rfl rfl)
theorem dJ28_fixAfterInsertion_220 : decode cJ28_fixAfterInsertion 220 = .ok (.aload_n 0, 1) := dk_42 (dk_at dksJ28_fixAfterInsertion_9 8 rfl rfl)
theorem dJ28_fixAfterInsertion_221 : decode cJ28_fixAfterInsertion 221 = .ok (.aload_n 1, 1) := dk_43 (dk_at dksJ28_fixAfterInsertion_9 9 rfl rfl)
theorem dJ28_fixAfterInsertion_222 : decode cJ28_fixAfterInsertion 222 = .ok (.invokevirtual 314, 3) := dk_182 1 58 (dk_at dksJ28_fixAfterInsertion_9 10 rfl rfl)
theorem dJ28_fixAfterInsertion_225 : decode cJ28_fixAfterInsertion 225 = .ok (.aload_n 1, 1) := dk_43 (dk_at dksJ28_fixAfterInsertion_9 13 rfl rfl)
theorem dJ28_fixAfterInsertion_226 : decode cJ28_fixAfterInsertion 226 = .ok (.invokestatic 294, 3) := dk_184 1 38 (dk_at dksJ28_fixAfterInsertion_9 14 rfl rfl)
theorem dJ28_fixAfterInsertion_229 : decode cJ28_fixAfterInsertion 229 = .ok (.iconst 1, 1) := dk_4 (dk_at dksJ28_fixAfterInsertion_9 17 rfl rfl)
theorem dJ28_fixAfterInsertion_230 : decode cJ28_fixAfterInsertion 230 = .ok (.invokestatic 307, 3) := dk_184 1 51 (dk_at dksJ28_fixAfterInsertion_9 18 rfl rfl)
theorem dJ28_fixAfterInsertion_233 : decode cJ28_fixAfterInsertion 233 = .ok (.aload_n 1, 1) := dk_43 (dk_at dksJ28_fixAfterInsertion_9 21 rfl rfl)
theorem dJ28_fixAfterInsertion_234 : decode cJ28_fixAfterInsertion 234 = .ok (.invokestatic 294, 3) := dk_184 1 38 (dk_at dksJ28_fixAfterInsertion_10 0 rfl rfl)
theorem dJ28_fixAfterInsertion_237 : decode cJ28_fixAfterInsertion 237 = .ok (.invokestatic 294, 3) := dk_184 1 38 (dk_at dksJ28_fixAfterInsertion_10 3 rfl rfl)
theorem dJ28_fixAfterInsertion_240 : decode cJ28_fixAfterInsertion 240 = .ok (.iconst 0, 1) := dk_3 (dk_at dksJ28_fixAfterInsertion_10 6 rfl rfl)
theorem dJ28_fixAfterInsertion_241 : decode cJ28_fixAfterInsertion 241 = .ok (.invokestatic 307, 3) := dk_184 1 51 (dk_at dksJ28_fixAfterInsertion_10 7 rfl rfl)
theorem dJ28_fixAfterInsertion_244 : decode cJ28_fixAfterInsertion 244 = .ok (.aload_n 0, 1) := dk_42 (dk_at dksJ28_fixAfterInsertion_10 10 rfl rfl)
theorem dJ28_fixAfterInsertion_245 : decode cJ28_fixAfterInsertion 245 = .ok (.aload_n 1, 1) := dk_43 (dk_at dksJ28_fixAfterInsertion_10 11 rfl rfl)
theorem dJ28_fixAfterInsertion_246 : decode cJ28_fixAfterInsertion 246 = .ok (.invokestatic 294, 3) := dk_184 1 38 (dk_at dksJ28_fixAfterInsertion_10 12 rfl rfl)
theorem dJ28_fixAfterInsertion_249 : decode cJ28_fixAfterInsertion 249 = .ok (.invokestatic 294, 3) := dk_184 1 38 (dk_at dksJ28_fixAfterInsertion_10 15 rfl rfl)
theorem dJ28_fixAfterInsertion_252 : decode cJ28_fixAfterInsertion 252 = .ok (.invokevirtual 311, 3) := dk_182 1 55 (dk_at dksJ28_fixAfterInsertion_10 18 rfl rfl)
theorem dJ28_fixAfterInsertion_255 : decode cJ28_fixAfterInsertion 255 = .ok (.goto (-250), 3) := dk_167 255 6 (dk_at dksJ28_fixAfterInsertion_10 21 rfl rfl)
theorem dJ28_fixAfterInsertion_258 : decode cJ28_fixAfterInsertion 258 = .ok (.aload_n 0, 1) := dk_42 (dk_at dksJ28_fixAfterInsertion_11 0 rfl rfl)
theorem dJ28_fixAfterInsertion_259 : decode cJ28_fixAfterInsertion 259 = .ok (.getfield 101, 3) := dk_180 0 101 (dk_at dksJ28_fixAfterInsertion_11 1 rfl rfl)
theorem dJ28_fixAfterInsertion_262 : decode cJ28_fixAfterInsertion 262 = .ok (.iconst 1, 1) := dk_4 (dk_at dksJ28_fixAfterInsertion_11 4 rfl rfl)
theorem dJ28_fixAfterInsertion_263 : decode cJ28_fixAfterInsertion 263 = .ok (.putfield 290, 3) := dk_181 1 34 (dk_at dksJ28_fixAfterInsertion_11 5 rfl rfl)
theorem dJ28_fixAfterInsertion_266 : decode cJ28_fixAfterInsertion 266 = .ok (.return_, 1) := dk_177 (dk_at dksJ28_fixAfterInsertion_11 8 rfl rfl)
abbrev cJ28_parentOf : ByteArray := prog_76_method_77_code
def yJ28_parentOf : MethodName := ⟨RJ28, "parentOf", "(Ljava/util/TreeMap$Entry;)Ljava/util/TreeMap$Entry;"⟩
def dkwJ28_parentOf_0 : List UInt8 := [42, 199, 0, 7, 1, 167, 0, 7, 42, 180, 0, 124, 176]
abbrev dktJ28_parentOf_0 : List UInt8 := dkwJ28_parentOf_0 ++ []
theorem dksJ28_parentOf_0 : cJ28_parentOf.data.toList.drop 0 = dktJ28_parentOf_0 := by decide +kernel
theorem dJ28_parentOf_0 : decode cJ28_parentOf 0 = .ok (.aload_n 0, 1) := dk_42 (dk_at dksJ28_parentOf_0 0 rfl rfl)
theorem dJ28_parentOf_1 : decode cJ28_parentOf 1 = .ok (.ifnonnull 7, 3) := dk_199 0 7 (dk_at dksJ28_parentOf_0 1 rfl rfl)
theorem dJ28_parentOf_4 : decode cJ28_parentOf 4 = .ok (.aconst_null, 1) := dk_1 (dk_at dksJ28_parentOf_0 4 rfl rfl)
theorem dJ28_parentOf_5 : decode cJ28_parentOf 5 = .ok (.goto 7, 3) := dk_167 0 7 (dk_at dksJ28_parentOf_0 5 rfl rfl)
theorem dJ28_parentOf_8 : decode cJ28_parentOf 8 = .ok (.aload_n 0, 1) := dk_42 (dk_at dksJ28_parentOf_0 8 rfl rfl)
theorem dJ28_parentOf_9 : decode cJ28_parentOf 9 = .ok (.getfield 124, 3) := dk_180 0 124 (dk_at dksJ28_parentOf_0 9 rfl rfl)
theorem dJ28_parentOf_12 : decode cJ28_parentOf 12 = .ok (.areturn, 1) := dk_176 (dk_at dksJ28_parentOf_0 12 rfl rfl)
abbrev cJ28_leftOf : ByteArray := prog_76_method_79_code
def yJ28_leftOf : MethodName := ⟨RJ28, "leftOf", "(Ljava/util/TreeMap$Entry;)Ljava/util/TreeMap$Entry;"⟩
def dkwJ28_leftOf_0 : List UInt8 := [42, 199, 0, 7, 1, 167, 0, 7, 42, 180, 0, 111, 176]
abbrev dktJ28_leftOf_0 : List UInt8 := dkwJ28_leftOf_0 ++ []
theorem dksJ28_leftOf_0 : cJ28_leftOf.data.toList.drop 0 = dktJ28_leftOf_0 := by decide +kernel
theorem dJ28_leftOf_0 : decode cJ28_leftOf 0 = .ok (.aload_n 0, 1) := dk_42 (dk_at dksJ28_leftOf_0 0 rfl rfl)
theorem dJ28_leftOf_1 : decode cJ28_leftOf 1 = .ok (.ifnonnull 7, 3) := dk_199 0 7 (dk_at dksJ28_leftOf_0 1 rfl rfl)
theorem dJ28_leftOf_4 : decode cJ28_leftOf 4 = .ok (.aconst_null, 1) := dk_1 (dk_at dksJ28_leftOf_0 4 rfl rfl)
theorem dJ28_leftOf_5 : decode cJ28_leftOf 5 = .ok (.goto 7, 3) := dk_167 0 7 (dk_at dksJ28_leftOf_0 5 rfl rfl)
theorem dJ28_leftOf_8 : decode cJ28_leftOf 8 = .ok (.aload_n 0, 1) := dk_42 (dk_at dksJ28_leftOf_0 8 rfl rfl)
theorem dJ28_leftOf_9 : decode cJ28_leftOf 9 = .ok (.getfield 111, 3) := dk_180 0 111 (dk_at dksJ28_leftOf_0 9 rfl rfl)
theorem dJ28_leftOf_12 : decode cJ28_leftOf 12 = .ok (.areturn, 1) := dk_176 (dk_at dksJ28_leftOf_0 12 rfl rfl)
abbrev cJ28_rightOf : ByteArray := prog_76_method_80_code
def yJ28_rightOf : MethodName := ⟨RJ28, "rightOf", "(Ljava/util/TreeMap$Entry;)Ljava/util/TreeMap$Entry;"⟩
def dkwJ28_rightOf_0 : List UInt8 := [42, 199, 0, 7, 1, 167, 0, 7, 42, 180, 0, 114, 176]
abbrev dktJ28_rightOf_0 : List UInt8 := dkwJ28_rightOf_0 ++ []
theorem dksJ28_rightOf_0 : cJ28_rightOf.data.toList.drop 0 = dktJ28_rightOf_0 := by decide +kernel
theorem dJ28_rightOf_0 : decode cJ28_rightOf 0 = .ok (.aload_n 0, 1) := dk_42 (dk_at dksJ28_rightOf_0 0 rfl rfl)
theorem dJ28_rightOf_1 : decode cJ28_rightOf 1 = .ok (.ifnonnull 7, 3) := dk_199 0 7 (dk_at dksJ28_rightOf_0 1 rfl rfl)
theorem dJ28_rightOf_4 : decode cJ28_rightOf 4 = .ok (.aconst_null, 1) := dk_1 (dk_at dksJ28_rightOf_0 4 rfl rfl)
theorem dJ28_rightOf_5 : decode cJ28_rightOf 5 = .ok (.goto 7, 3) := dk_167 0 7 (dk_at dksJ28_rightOf_0 5 rfl rfl)
theorem dJ28_rightOf_8 : decode cJ28_rightOf 8 = .ok (.aload_n 0, 1) := dk_42 (dk_at dksJ28_rightOf_0 8 rfl rfl)
theorem dJ28_rightOf_9 : decode cJ28_rightOf 9 = .ok (.getfield 114, 3) := dk_180 0 114 (dk_at dksJ28_rightOf_0 9 rfl rfl)
theorem dJ28_rightOf_12 : decode cJ28_rightOf 12 = .ok (.areturn, 1) := dk_176 (dk_at dksJ28_rightOf_0 12 rfl rfl)
abbrev cJ28_colorOf : ByteArray := prog_76_method_76_code
def yJ28_colorOf : MethodName := ⟨RJ28, "colorOf", "(Ljava/util/TreeMap$Entry;)Z"⟩
def dkwJ28_colorOf_0 : List UInt8 := [42, 199, 0, 7, 4, 167, 0, 7, 42, 180, 1, 34, 172]
abbrev dktJ28_colorOf_0 : List UInt8 := dkwJ28_colorOf_0 ++ []
theorem dksJ28_colorOf_0 : cJ28_colorOf.data.toList.drop 0 = dktJ28_colorOf_0 := by decide +kernel
theorem dJ28_colorOf_0 : decode cJ28_colorOf 0 = .ok (.aload_n 0, 1) := dk_42 (dk_at dksJ28_colorOf_0 0 rfl rfl)
theorem dJ28_colorOf_1 : decode cJ28_colorOf 1 = .ok (.ifnonnull 7, 3) := dk_199 0 7 (dk_at dksJ28_colorOf_0 1 rfl rfl)
theorem dJ28_colorOf_4 : decode cJ28_colorOf 4 = .ok (.iconst 1, 1) := dk_4 (dk_at dksJ28_colorOf_0 4 rfl rfl)
theorem dJ28_colorOf_5 : decode cJ28_colorOf 5 = .ok (.goto 7, 3) := dk_167 0 7 (dk_at dksJ28_colorOf_0 5 rfl rfl)
theorem dJ28_colorOf_8 : decode cJ28_colorOf 8 = .ok (.aload_n 0, 1) := dk_42 (dk_at dksJ28_colorOf_0 8 rfl rfl)
theorem dJ28_colorOf_9 : decode cJ28_colorOf 9 = .ok (.getfield 290, 3) := dk_180 1 34 (dk_at dksJ28_colorOf_0 9 rfl rfl)
theorem dJ28_colorOf_12 : decode cJ28_colorOf 12 = .ok (.ireturn, 1) := dk_172 (dk_at dksJ28_colorOf_0 12 rfl rfl)
abbrev cJ28_setColor : ByteArray := prog_76_method_78_code
def yJ28_setColor : MethodName := ⟨RJ28, "setColor", "(Ljava/util/TreeMap$Entry;Z)V"⟩
def dkwJ28_setColor_0 : List UInt8 := [42, 198, 0, 8, 42, 27, 181, 1, 34, 177]
abbrev dktJ28_setColor_0 : List UInt8 := dkwJ28_setColor_0 ++ []
theorem dksJ28_setColor_0 : cJ28_setColor.data.toList.drop 0 = dktJ28_setColor_0 := by decide +kernel
theorem dJ28_setColor_0 : decode cJ28_setColor 0 = .ok (.aload_n 0, 1) := dk_42 (dk_at dksJ28_setColor_0 0 rfl rfl)
theorem dJ28_setColor_1 : decode cJ28_setColor 1 = .ok (.ifnull 8, 3) := dk_198 0 8 (dk_at dksJ28_setColor_0 1 rfl rfl)
theorem dJ28_setColor_4 : decode cJ28_setColor 4 = .ok (.aload_n 0, 1) := dk_42 (dk_at dksJ28_setColor_0 4 rfl rfl)
theorem dJ28_setColor_5 : decode cJ28_setColor 5 = .ok (.iload_n 1, 1) := dk_27 (dk_at dksJ28_setColor_0 5 rfl rfl)
theorem dJ28_setColor_6 : decode cJ28_setColor 6 = .ok (.putfield 290, 3) := dk_181 1 34 (dk_at dksJ28_setColor_0 6 rfl rfl)
theorem dJ28_setColor_9 : decode cJ28_setColor 9 = .ok (.return_, 1) := dk_177 (dk_at dksJ28_setColor_0 9 rfl rfl)
abbrev cJ28_rotateLeft : ByteArray := prog_76_method_81_code
def yJ28_rotateLeft : MethodName := ⟨RJ28, "rotateLeft", "(Ljava/util/TreeMap$Entry;)V"⟩
def dkwJ28_rotateLeft_4 : List UInt8 := [177]
abbrev dktJ28_rotateLeft_4 : List UInt8 := dkwJ28_rotateLeft_4 ++ []
def dkwJ28_rotateLeft_3 : List UInt8 := [181, 0, 111, 167, 0, 11, 43, 180, 0, 124, 44, 181, 0, 114, 44, 43, 181, 0, 111, 43, 44, 181, 0, 124]
abbrev dktJ28_rotateLeft_3 : List UInt8 := dkwJ28_rotateLeft_3 ++ dktJ28_rotateLeft_4
def dkwJ28_rotateLeft_2 : List UInt8 := [44, 181, 0, 101, 167, 0, 33, 43, 180, 0, 124, 180, 0, 111, 43, 166, 0, 14, 43, 180, 0, 124, 44]
abbrev dktJ28_rotateLeft_2 : List UInt8 := dkwJ28_rotateLeft_2 ++ dktJ28_rotateLeft_3
def dkwJ28_rotateLeft_1 : List UInt8 := [44, 180, 0, 111, 43, 181, 0, 124, 44, 43, 180, 0, 124, 181, 0, 124, 43, 180, 0, 124, 199, 0, 11, 42]
abbrev dktJ28_rotateLeft_1 : List UInt8 := dkwJ28_rotateLeft_1 ++ dktJ28_rotateLeft_2
def dkwJ28_rotateLeft_0 : List UInt8 := [43, 198, 0, 94, 43, 180, 0, 114, 77, 43, 44, 180, 0, 111, 181, 0, 114, 44, 180, 0, 111, 198, 0, 11]
abbrev dktJ28_rotateLeft_0 : List UInt8 := dkwJ28_rotateLeft_0 ++ dktJ28_rotateLeft_1
theorem dksJ28_rotateLeft_0 : cJ28_rotateLeft.data.toList.drop 0 = dktJ28_rotateLeft_0 := by decide +kernel
theorem dksJ28_rotateLeft_1 : cJ28_rotateLeft.data.toList.drop 24 = dktJ28_rotateLeft_1 := dk_seg dksJ28_rotateLeft_0 24 rfl rfl
theorem dksJ28_rotateLeft_2 : cJ28_rotateLeft.data.toList.drop 48 = dktJ28_rotateLeft_2 := dk_seg dksJ28_rotateLeft_1 24 rfl rfl
theorem dksJ28_rotateLeft_3 : cJ28_rotateLeft.data.toList.drop 71 = dktJ28_rotateLeft_3 := dk_seg dksJ28_rotateLeft_2 23 rfl rfl
theorem dksJ28_rotateLeft_4 : cJ28_rotateLeft.data.toList.drop 95 = dktJ28_rotateLeft_4 := dk_seg dksJ28_rotateLeft_3 24 rfl rfl
theorem dJ28_rotateLeft_0 : decode cJ28_rotateLeft 0 = .ok (.aload_n 1, 1) := dk_43 (dk_at dksJ28_rotateLeft_0 0 rfl rfl)
theorem dJ28_rotateLeft_1 : decode cJ28_rotateLeft 1 = .ok (.ifnull 94, 3) := dk_198 0 94 (dk_at dksJ28_rotateLeft_0 1 rfl rfl)
theorem dJ28_rotateLeft_4 : decode cJ28_rotateLeft 4 = .ok (.aload_n 1, 1) := dk_43 (dk_at dksJ28_rotateLeft_0 4 rfl rfl)
theorem dJ28_rotateLeft_5 : decode cJ28_rotateLeft 5 = .ok (.getfield 114, 3) := dk_180 0 114 (dk_at dksJ28_rotateLeft_0 5 rfl rfl)
theorem dJ28_rotateLeft_8 : decode cJ28_rotateLeft 8 = .ok (.astore_n 2, 1) := dk_77 (dk_at dksJ28_rotateLeft_0 8 rfl rfl)
theorem dJ28_rotateLeft_9 : decode cJ28_rotateLeft 9 = .ok (.aload_n 1, 1) := dk_43 (dk_at dksJ28_rotateLeft_0 9 rfl rfl)
theorem dJ28_rotateLeft_10 : decode cJ28_rotateLeft 10 = .ok (.aload_n 2, 1) := dk_44 (dk_at dksJ28_rotateLeft_0 10 rfl rfl)
theorem dJ28_rotateLeft_11 : decode cJ28_rotateLeft 11 = .ok (.getfield 111, 3) := dk_180 0 111 (dk_at dksJ28_rotateLeft_0 11 rfl rfl)
theorem dJ28_rotateLeft_14 : decode cJ28_rotateLeft 14 = .ok (.putfield 114, 3) := dk_181 0 114 (dk_at dksJ28_rotateLeft_0 14 rfl rfl)
theorem dJ28_rotateLeft_17 : decode cJ28_rotateLeft 17 = .ok (.aload_n 2, 1) := dk_44 (dk_at dksJ28_rotateLeft_0 17 rfl rfl)
theorem dJ28_rotateLeft_18 : decode cJ28_rotateLeft 18 = .ok (.getfield 111, 3) := dk_180 0 111 (dk_at dksJ28_rotateLeft_0 18 rfl rfl)
theorem dJ28_rotateLeft_21 : decode cJ28_rotateLeft 21 = .ok (.ifnull 11, 3) := dk_198 0 11 (dk_at dksJ28_rotateLeft_0 21 rfl rfl)
theorem dJ28_rotateLeft_24 : decode cJ28_rotateLeft 24 = .ok (.aload_n 2, 1) := dk_44 (dk_at dksJ28_rotateLeft_1 0 rfl rfl)
theorem dJ28_rotateLeft_25 : decode cJ28_rotateLeft 25 = .ok (.getfield 111, 3) := dk_180 0 111 (dk_at dksJ28_rotateLeft_1 1 rfl rfl)
theorem dJ28_rotateLeft_28 : decode cJ28_rotateLeft 28 = .ok (.aload_n 1, 1) := dk_43 (dk_at dksJ28_rotateLeft_1 4 rfl rfl)
theorem dJ28_rotateLeft_29 : decode cJ28_rotateLeft 29 = .ok (.putfield 124, 3) := dk_181 0 124 (dk_at dksJ28_rotateLeft_1 5 rfl rfl)
theorem dJ28_rotateLeft_32 : decode cJ28_rotateLeft 32 = .ok (.aload_n 2, 1) := dk_44 (dk_at dksJ28_rotateLeft_1 8 rfl rfl)
theorem dJ28_rotateLeft_33 : decode cJ28_rotateLeft 33 = .ok (.aload_n 1, 1) := dk_43 (dk_at dksJ28_rotateLeft_1 9 rfl rfl)
theorem dJ28_rotateLeft_34 : decode cJ28_rotateLeft 34 = .ok (.getfield 124, 3) := dk_180 0 124 (dk_at dksJ28_rotateLeft_1 10 rfl rfl)
theorem dJ28_rotateLeft_37 : decode cJ28_rotateLeft 37 = .ok (.putfield 124, 3) := dk_181 0 124 (dk_at dksJ28_rotateLeft_1 13 rfl rfl)
theorem dJ28_rotateLeft_40 : decode cJ28_rotateLeft 40 = .ok (.aload_n 1, 1) := dk_43 (dk_at dksJ28_rotateLeft_1 16 rfl rfl)
theorem dJ28_rotateLeft_41 : decode cJ28_rotateLeft 41 = .ok (.getfield 124, 3) := dk_180 0 124 (dk_at dksJ28_rotateLeft_1 17 rfl rfl)
theorem dJ28_rotateLeft_44 : decode cJ28_rotateLeft 44 = .ok (.ifnonnull 11, 3) := dk_199 0 11 (dk_at dksJ28_rotateLeft_1 20 rfl rfl)
theorem dJ28_rotateLeft_47 : decode cJ28_rotateLeft 47 = .ok (.aload_n 0, 1) := dk_42 (dk_at dksJ28_rotateLeft_1 23 rfl rfl)
theorem dJ28_rotateLeft_48 : decode cJ28_rotateLeft 48 = .ok (.aload_n 2, 1) := dk_44 (dk_at dksJ28_rotateLeft_2 0 rfl rfl)
theorem dJ28_rotateLeft_49 : decode cJ28_rotateLeft 49 = .ok (.putfield 101, 3) := dk_181 0 101 (dk_at dksJ28_rotateLeft_2 1 rfl rfl)
theorem dJ28_rotateLeft_52 : decode cJ28_rotateLeft 52 = .ok (.goto 33, 3) := dk_167 0 33 (dk_at dksJ28_rotateLeft_2 4 rfl rfl)
theorem dJ28_rotateLeft_55 : decode cJ28_rotateLeft 55 = .ok (.aload_n 1, 1) := dk_43 (dk_at dksJ28_rotateLeft_2 7 rfl rfl)
theorem dJ28_rotateLeft_56 : decode cJ28_rotateLeft 56 = .ok (.getfield 124, 3) := dk_180 0 124 (dk_at dksJ28_rotateLeft_2 8 rfl rfl)
theorem dJ28_rotateLeft_59 : decode cJ28_rotateLeft 59 = .ok (.getfield 111, 3) := dk_180 0 111 (dk_at dksJ28_rotateLeft_2 11 rfl rfl)
theorem dJ28_rotateLeft_62 : decode cJ28_rotateLeft 62 = .ok (.aload_n 1, 1) := dk_43 (dk_at dksJ28_rotateLeft_2 14 rfl rfl)
theorem dJ28_rotateLeft_63 : decode cJ28_rotateLeft 63 = .ok (.if_acmp .ne 14, 3) := dk_166 0 14 (dk_at dksJ28_rotateLeft_2 15 rfl rfl)
theorem dJ28_rotateLeft_66 : decode cJ28_rotateLeft 66 = .ok (.aload_n 1, 1) := dk_43 (dk_at dksJ28_rotateLeft_2 18 rfl rfl)
theorem dJ28_rotateLeft_67 : decode cJ28_rotateLeft 67 = .ok (.getfield 124, 3) := dk_180 0 124 (dk_at dksJ28_rotateLeft_2 19 rfl rfl)
theorem dJ28_rotateLeft_70 : decode cJ28_rotateLeft 70 = .ok (.aload_n 2, 1) := dk_44 (dk_at dksJ28_rotateLeft_2 22 rfl rfl)
theorem dJ28_rotateLeft_71 : decode cJ28_rotateLeft 71 = .ok (.putfield 111, 3) := dk_181 0 111 (dk_at dksJ28_rotateLeft_3 0 rfl rfl)
theorem dJ28_rotateLeft_74 : decode cJ28_rotateLeft 74 = .ok (.goto 11, 3) := dk_167 0 11 (dk_at dksJ28_rotateLeft_3 3 rfl rfl)
theorem dJ28_rotateLeft_77 : decode cJ28_rotateLeft 77 = .ok (.aload_n 1, 1) := dk_43 (dk_at dksJ28_rotateLeft_3 6 rfl rfl)
theorem dJ28_rotateLeft_78 : decode cJ28_rotateLeft 78 = .ok (.getfield 124, 3) := dk_180 0 124 (dk_at dksJ28_rotateLeft_3 7 rfl rfl)
theorem dJ28_rotateLeft_81 : decode cJ28_rotateLeft 81 = .ok (.aload_n 2, 1) := dk_44 (dk_at dksJ28_rotateLeft_3 10 rfl rfl)
theorem dJ28_rotateLeft_82 : decode cJ28_rotateLeft 82 = .ok (.putfield 114, 3) := dk_181 0 114 (dk_at dksJ28_rotateLeft_3 11 rfl rfl)
theorem dJ28_rotateLeft_85 : decode cJ28_rotateLeft 85 = .ok (.aload_n 2, 1) := dk_44 (dk_at dksJ28_rotateLeft_3 14 rfl rfl)
theorem dJ28_rotateLeft_86 : decode cJ28_rotateLeft 86 = .ok (.aload_n 1, 1) := dk_43 (dk_at dksJ28_rotateLeft_3 15 rfl rfl)
theorem dJ28_rotateLeft_87 : decode cJ28_rotateLeft 87 = .ok (.putfield 111, 3) := dk_181 0 111 (dk_at dksJ28_rotateLeft_3 16 rfl rfl)
theorem dJ28_rotateLeft_90 : decode cJ28_rotateLeft 90 = .ok (.aload_n 1, 1) := dk_43 (dk_at dksJ28_rotateLeft_3 19 rfl rfl)
theorem dJ28_rotateLeft_91 : decode cJ28_rotateLeft 91 = .ok (.aload_n 2, 1) := dk_44 (dk_at dksJ28_rotateLeft_3 20 rfl rfl)
theorem dJ28_rotateLeft_92 : decode cJ28_rotateLeft 92 = .ok (.putfield 124, 3) := dk_181 0 124 (dk_at dksJ28_rotateLeft_3 21 rfl rfl)
theorem dJ28_rotateLeft_95 : decode cJ28_rotateLeft 95 = .ok (.return_, 1) := dk_177 (dk_at dksJ28_rotateLeft_4 0 rfl rfl)
abbrev cJ28_rotateRight : ByteArray := prog_76_method_82_code
def yJ28_rotateRight : MethodName := ⟨RJ28, "rotateRight", "(Ljava/util/TreeMap$Entry;)V"⟩
def dkwJ28_rotateRight_4 : List UInt8 := [177]
abbrev dktJ28_rotateRight_4 : List UInt8 := dkwJ28_rotateRight_4 ++ []
def dkwJ28_rotateRight_3 : List UInt8 := [181, 0, 114, 167, 0, 11, 43, 180, 0, 124, 44, 181, 0, 111, 44, 43, 181, 0, 114, 43, 44, 181, 0, 124]
abbrev dktJ28_rotateRight_3 : List UInt8 := dkwJ28_rotateRight_3 ++ dktJ28_rotateRight_4
def dkwJ28_rotateRight_2 : List UInt8 := [44, 181, 0, 101, 167, 0, 33, 43, 180, 0, 124, 180, 0, 114, 43, 166, 0, 14, 43, 180, 0, 124, 44]
abbrev dktJ28_rotateRight_2 : List UInt8 := dkwJ28_rotateRight_2 ++ dktJ28_rotateRight_3
def dkwJ28_rotateRight_1 : List UInt8 := [44, 180, 0, 114, 43, 181, 0, 124, 44, 43, 180, 0, 124, 181, 0, 124, 43, 180, 0, 124, 199, 0, 11, 42]
abbrev dktJ28_rotateRight_1 : List UInt8 := dkwJ28_rotateRight_1 ++ dktJ28_rotateRight_2
def dkwJ28_rotateRight_0 : List UInt8 := [43, 198, 0, 94, 43, 180, 0, 111, 77, 43, 44, 180, 0, 114, 181, 0, 111, 44, 180, 0, 114, 198, 0, 11]
abbrev dktJ28_rotateRight_0 : List UInt8 := dkwJ28_rotateRight_0 ++ dktJ28_rotateRight_1
theorem dksJ28_rotateRight_0 : cJ28_rotateRight.data.toList.drop 0 = dktJ28_rotateRight_0 := by decide +kernel
theorem dksJ28_rotateRight_1 : cJ28_rotateRight.data.toList.drop 24 = dktJ28_rotateRight_1 := dk_seg dksJ28_rotateRight_0 24 rfl rfl
theorem dksJ28_rotateRight_2 : cJ28_rotateRight.data.toList.drop 48 = dktJ28_rotateRight_2 := dk_seg dksJ28_rotateRight_1 24 rfl rfl
theorem dksJ28_rotateRight_3 : cJ28_rotateRight.data.toList.drop 71 = dktJ28_rotateRight_3 := dk_seg dksJ28_rotateRight_2 23 rfl rfl
theorem dksJ28_rotateRight_4 : cJ28_rotateRight.data.toList.drop 95 = dktJ28_rotateRight_4 := dk_seg dksJ28_rotateRight_3 24 rfl rfl
theorem dJ28_rotateRight_0 : decode cJ28_rotateRight 0 = .ok (.aload_n 1, 1) := dk_43 (dk_at dksJ28_rotateRight_0 0 rfl rfl)
theorem dJ28_rotateRight_1 : decode cJ28_rotateRight 1 = .ok (.ifnull 94, 3) := dk_198 0 94 (dk_at dksJ28_rotateRight_0 1 rfl rfl)
theorem dJ28_rotateRight_4 : decode cJ28_rotateRight 4 = .ok (.aload_n 1, 1) := dk_43 (dk_at dksJ28_rotateRight_0 4 rfl rfl)
theorem dJ28_rotateRight_5 : decode cJ28_rotateRight 5 = .ok (.getfield 111, 3) := dk_180 0 111 (dk_at dksJ28_rotateRight_0 5 rfl rfl)
theorem dJ28_rotateRight_8 : decode cJ28_rotateRight 8 = .ok (.astore_n 2, 1) := dk_77 (dk_at dksJ28_rotateRight_0 8 rfl rfl)
theorem dJ28_rotateRight_9 : decode cJ28_rotateRight 9 = .ok (.aload_n 1, 1) := dk_43 (dk_at dksJ28_rotateRight_0 9 rfl rfl)
theorem dJ28_rotateRight_10 : decode cJ28_rotateRight 10 = .ok (.aload_n 2, 1) := dk_44 (dk_at dksJ28_rotateRight_0 10 rfl rfl)
theorem dJ28_rotateRight_11 : decode cJ28_rotateRight 11 = .ok (.getfield 114, 3) := dk_180 0 114 (dk_at dksJ28_rotateRight_0 11 rfl rfl)
theorem dJ28_rotateRight_14 : decode cJ28_rotateRight 14 = .ok (.putfield 111, 3) := dk_181 0 111 (dk_at dksJ28_rotateRight_0 14 rfl rfl)
theorem dJ28_rotateRight_17 : decode cJ28_rotateRight 17 = .ok (.aload_n 2, 1) := dk_44 (dk_at dksJ28_rotateRight_0 17 rfl rfl)
theorem dJ28_rotateRight_18 : decode cJ28_rotateRight 18 = .ok (.getfield 114, 3) := dk_180 0 114 (dk_at dksJ28_rotateRight_0 18 rfl rfl)
theorem dJ28_rotateRight_21 : decode cJ28_rotateRight 21 = .ok (.ifnull 11, 3) := dk_198 0 11 (dk_at dksJ28_rotateRight_0 21 rfl rfl)
theorem dJ28_rotateRight_24 : decode cJ28_rotateRight 24 = .ok (.aload_n 2, 1) := dk_44 (dk_at dksJ28_rotateRight_1 0 rfl rfl)
theorem dJ28_rotateRight_25 : decode cJ28_rotateRight 25 = .ok (.getfield 114, 3) := dk_180 0 114 (dk_at dksJ28_rotateRight_1 1 rfl rfl)
theorem dJ28_rotateRight_28 : decode cJ28_rotateRight 28 = .ok (.aload_n 1, 1) := dk_43 (dk_at dksJ28_rotateRight_1 4 rfl rfl)
theorem dJ28_rotateRight_29 : decode cJ28_rotateRight 29 = .ok (.putfield 124, 3) := dk_181 0 124 (dk_at dksJ28_rotateRight_1 5 rfl rfl)
theorem dJ28_rotateRight_32 : decode cJ28_rotateRight 32 = .ok (.aload_n 2, 1) := dk_44 (dk_at dksJ28_rotateRight_1 8 rfl rfl)
theorem dJ28_rotateRight_33 : decode cJ28_rotateRight 33 = .ok (.aload_n 1, 1) := dk_43 (dk_at dksJ28_rotateRight_1 9 rfl rfl)
theorem dJ28_rotateRight_34 : decode cJ28_rotateRight 34 = .ok (.getfield 124, 3) := dk_180 0 124 (dk_at dksJ28_rotateRight_1 10 rfl rfl)
theorem dJ28_rotateRight_37 : decode cJ28_rotateRight 37 = .ok (.putfield 124, 3) := dk_181 0 124 (dk_at dksJ28_rotateRight_1 13 rfl rfl)
theorem dJ28_rotateRight_40 : decode cJ28_rotateRight 40 = .ok (.aload_n 1, 1) := dk_43 (dk_at dksJ28_rotateRight_1 16 rfl rfl)
theorem dJ28_rotateRight_41 : decode cJ28_rotateRight 41 = .ok (.getfield 124, 3) := dk_180 0 124 (dk_at dksJ28_rotateRight_1 17 rfl rfl)
theorem dJ28_rotateRight_44 : decode cJ28_rotateRight 44 = .ok (.ifnonnull 11, 3) := dk_199 0 11 (dk_at dksJ28_rotateRight_1 20 rfl rfl)
theorem dJ28_rotateRight_47 : decode cJ28_rotateRight 47 = .ok (.aload_n 0, 1) := dk_42 (dk_at dksJ28_rotateRight_1 23 rfl rfl)
theorem dJ28_rotateRight_48 : decode cJ28_rotateRight 48 = .ok (.aload_n 2, 1) := dk_44 (dk_at dksJ28_rotateRight_2 0 rfl rfl)
theorem dJ28_rotateRight_49 : decode cJ28_rotateRight 49 = .ok (.putfield 101, 3) := dk_181 0 101 (dk_at dksJ28_rotateRight_2 1 rfl rfl)
theorem dJ28_rotateRight_52 : decode cJ28_rotateRight 52 = .ok (.goto 33, 3) := dk_167 0 33 (dk_at dksJ28_rotateRight_2 4 rfl rfl)
theorem dJ28_rotateRight_55 : decode cJ28_rotateRight 55 = .ok (.aload_n 1, 1) := dk_43 (dk_at dksJ28_rotateRight_2 7 rfl rfl)
theorem dJ28_rotateRight_56 : decode cJ28_rotateRight 56 = .ok (.getfield 124, 3) := dk_180 0 124 (dk_at dksJ28_rotateRight_2 8 rfl rfl)
theorem dJ28_rotateRight_59 : decode cJ28_rotateRight 59 = .ok (.getfield 114, 3) := dk_180 0 114 (dk_at dksJ28_rotateRight_2 11 rfl rfl)
theorem dJ28_rotateRight_62 : decode cJ28_rotateRight 62 = .ok (.aload_n 1, 1) := dk_43 (dk_at dksJ28_rotateRight_2 14 rfl rfl)
theorem dJ28_rotateRight_63 : decode cJ28_rotateRight 63 = .ok (.if_acmp .ne 14, 3) := dk_166 0 14 (dk_at dksJ28_rotateRight_2 15 rfl rfl)
theorem dJ28_rotateRight_66 : decode cJ28_rotateRight 66 = .ok (.aload_n 1, 1) := dk_43 (dk_at dksJ28_rotateRight_2 18 rfl rfl)
theorem dJ28_rotateRight_67 : decode cJ28_rotateRight 67 = .ok (.getfield 124, 3) := dk_180 0 124 (dk_at dksJ28_rotateRight_2 19 rfl rfl)
theorem dJ28_rotateRight_70 : decode cJ28_rotateRight 70 = .ok (.aload_n 2, 1) := dk_44 (dk_at dksJ28_rotateRight_2 22 rfl rfl)
theorem dJ28_rotateRight_71 : decode cJ28_rotateRight 71 = .ok (.putfield 114, 3) := dk_181 0 114 (dk_at dksJ28_rotateRight_3 0 rfl rfl)
theorem dJ28_rotateRight_74 : decode cJ28_rotateRight 74 = .ok (.goto 11, 3) := dk_167 0 11 (dk_at dksJ28_rotateRight_3 3 rfl rfl)
theorem dJ28_rotateRight_77 : decode cJ28_rotateRight 77 = .ok (.aload_n 1, 1) := dk_43 (dk_at dksJ28_rotateRight_3 6 rfl rfl)
theorem dJ28_rotateRight_78 : decode cJ28_rotateRight 78 = .ok (.getfield 124, 3) := dk_180 0 124 (dk_at dksJ28_rotateRight_3 7 rfl rfl)
theorem dJ28_rotateRight_81 : decode cJ28_rotateRight 81 = .ok (.aload_n 2, 1) := dk_44 (dk_at dksJ28_rotateRight_3 10 rfl rfl)
theorem dJ28_rotateRight_82 : decode cJ28_rotateRight 82 = .ok (.putfield 111, 3) := dk_181 0 111 (dk_at dksJ28_rotateRight_3 11 rfl rfl)
theorem dJ28_rotateRight_85 : decode cJ28_rotateRight 85 = .ok (.aload_n 2, 1) := dk_44 (dk_at dksJ28_rotateRight_3 14 rfl rfl)
theorem dJ28_rotateRight_86 : decode cJ28_rotateRight 86 = .ok (.aload_n 1, 1) := dk_43 (dk_at dksJ28_rotateRight_3 15 rfl rfl)
theorem dJ28_rotateRight_87 : decode cJ28_rotateRight 87 = .ok (.putfield 114, 3) := dk_181 0 114 (dk_at dksJ28_rotateRight_3 16 rfl rfl)
theorem dJ28_rotateRight_90 : decode cJ28_rotateRight 90 = .ok (.aload_n 1, 1) := dk_43 (dk_at dksJ28_rotateRight_3 19 rfl rfl)
theorem dJ28_rotateRight_91 : decode cJ28_rotateRight 91 = .ok (.aload_n 2, 1) := dk_44 (dk_at dksJ28_rotateRight_3 20 rfl rfl)
theorem dJ28_rotateRight_92 : decode cJ28_rotateRight 92 = .ok (.putfield 124, 3) := dk_181 0 124 (dk_at dksJ28_rotateRight_3 21 rfl rfl)
theorem dJ28_rotateRight_95 : decode cJ28_rotateRight 95 = .ok (.return_, 1) := dk_177 (dk_at dksJ28_rotateRight_4 0 rfl rfl)
abbrev cJ28_get : ByteArray := prog_76_method_8_code
def yJ28_get : MethodName := ⟨RJ28, "get", "(Ljava/lang/Object;)Ljava/lang/Object;"⟩
def dkwJ28_get_0 : List UInt8 := [42, 43, 182, 0, 50, 77, 44, 199, 0, 7, 1, 167, 0, 7, 44, 180, 0, 58, 176]
abbrev dktJ28_get_0 : List UInt8 := dkwJ28_get_0 ++ []
theorem dksJ28_get_0 : cJ28_get.data.toList.drop 0 = dktJ28_get_0 := by decide +kernel
theorem dJ28_get_0 : decode cJ28_get 0 = .ok (.aload_n 0, 1) := dk_42 (dk_at dksJ28_get_0 0 rfl rfl)
theorem dJ28_get_1 : decode cJ28_get 1 = .ok (.aload_n 1, 1) := dk_43 (dk_at dksJ28_get_0 1 rfl rfl)
theorem dJ28_get_2 : decode cJ28_get 2 = .ok (.invokevirtual 50, 3) := dk_182 0 50 (dk_at dksJ28_get_0 2 rfl rfl)
theorem dJ28_get_5 : decode cJ28_get 5 = .ok (.astore_n 2, 1) := dk_77 (dk_at dksJ28_get_0 5 rfl rfl)
theorem dJ28_get_6 : decode cJ28_get 6 = .ok (.aload_n 2, 1) := dk_44 (dk_at dksJ28_get_0 6 rfl rfl)
theorem dJ28_get_7 : decode cJ28_get 7 = .ok (.ifnonnull 7, 3) := dk_199 0 7 (dk_at dksJ28_get_0 7 rfl rfl)
theorem dJ28_get_10 : decode cJ28_get 10 = .ok (.aconst_null, 1) := dk_1 (dk_at dksJ28_get_0 10 rfl rfl)
theorem dJ28_get_11 : decode cJ28_get 11 = .ok (.goto 7, 3) := dk_167 0 7 (dk_at dksJ28_get_0 11 rfl rfl)
theorem dJ28_get_14 : decode cJ28_get 14 = .ok (.aload_n 2, 1) := dk_44 (dk_at dksJ28_get_0 14 rfl rfl)
theorem dJ28_get_15 : decode cJ28_get 15 = .ok (.getfield 58, 3) := dk_180 0 58 (dk_at dksJ28_get_0 15 rfl rfl)
theorem dJ28_get_18 : decode cJ28_get 18 = .ok (.areturn, 1) := dk_176 (dk_at dksJ28_get_0 18 rfl rfl)
abbrev cJ28_getEntry : ByteArray := prog_76_method_15_code
def yJ28_getEntry : MethodName := ⟨RJ28, "getEntry", "(Ljava/lang/Object;)Ljava/util/TreeMap$Entry;"⟩
def dkwJ28_getEntry_3 : List UInt8 := [45, 176, 167, 255, 212, 1, 176]
abbrev dktJ28_getEntry_3 : List UInt8 := dkwJ28_getEntry_3 ++ []
def dkwJ28_getEntry_2 : List UInt8 := [156, 0, 11, 45, 180, 0, 111, 78, 167, 0, 18, 21, 4, 158, 0, 11, 45, 180, 0, 114, 78, 167, 0, 5]
abbrev dktJ28_getEntry_2 : List UInt8 := dkwJ28_getEntry_2 ++ dktJ28_getEntry_3
def dkwJ28_getEntry_1 : List UInt8 := [180, 0, 101, 78, 45, 198, 0, 46, 44, 45, 180, 0, 105, 185, 0, 107, 2, 0, 54, 4, 21, 4]
abbrev dktJ28_getEntry_1 : List UInt8 := dkwJ28_getEntry_1 ++ dktJ28_getEntry_2
def dkwJ28_getEntry_0 : List UInt8 := [42, 180, 0, 16, 198, 0, 9, 42, 43, 182, 0, 92, 176, 43, 184, 0, 95, 87, 43, 192, 0, 99, 77, 42]
abbrev dktJ28_getEntry_0 : List UInt8 := dkwJ28_getEntry_0 ++ dktJ28_getEntry_1
theorem dksJ28_getEntry_0 : cJ28_getEntry.data.toList.drop 0 = dktJ28_getEntry_0 := by decide +kernel
theorem dksJ28_getEntry_1 : cJ28_getEntry.data.toList.drop 24 = dktJ28_getEntry_1 := dk_seg dksJ28_getEntry_0 24 rfl rfl
theorem dksJ28_getEntry_2 : cJ28_getEntry.data.toList.drop 46 = dktJ28_getEntry_2 := dk_seg dksJ28_getEntry_1 22 rfl rfl
theorem dksJ28_getEntry_3 : cJ28_getEntry.data.toList.drop 70 = dktJ28_getEntry_3 := dk_seg dksJ28_getEntry_2 24 rfl rfl
theorem dJ28_getEntry_0 : decode cJ28_getEntry 0 = .ok (.aload_n 0, 1) := dk_42 (dk_at dksJ28_getEntry_0 0 rfl rfl)
theorem dJ28_getEntry_1 : decode cJ28_getEntry 1 = .ok (.getfield 16, 3) := dk_180 0 16 (dk_at dksJ28_getEntry_0 1 rfl rfl)
theorem dJ28_getEntry_4 : decode cJ28_getEntry 4 = .ok (.ifnull 9, 3) := dk_198 0 9 (dk_at dksJ28_getEntry_0 4 rfl rfl)
theorem dJ28_getEntry_7 : decode cJ28_getEntry 7 = .ok (.aload_n 0, 1) := dk_42 (dk_at dksJ28_getEntry_0 7 rfl rfl)
theorem dJ28_getEntry_8 : decode cJ28_getEntry 8 = .ok (.aload_n 1, 1) := dk_43 (dk_at dksJ28_getEntry_0 8 rfl rfl)
theorem dJ28_getEntry_9 : decode cJ28_getEntry 9 = .ok (.invokevirtual 92, 3) := dk_182 0 92 (dk_at dksJ28_getEntry_0 9 rfl rfl)
theorem dJ28_getEntry_12 : decode cJ28_getEntry 12 = .ok (.areturn, 1) := dk_176 (dk_at dksJ28_getEntry_0 12 rfl rfl)
theorem dJ28_getEntry_13 : decode cJ28_getEntry 13 = .ok (.aload_n 1, 1) := dk_43 (dk_at dksJ28_getEntry_0 13 rfl rfl)
theorem dJ28_getEntry_14 : decode cJ28_getEntry 14 = .ok (.invokestatic 95, 3) := dk_184 0 95 (dk_at dksJ28_getEntry_0 14 rfl rfl)
theorem dJ28_getEntry_17 : decode cJ28_getEntry 17 = .ok (.pop, 1) := dk_87 (dk_at dksJ28_getEntry_0 17 rfl rfl)
theorem dJ28_getEntry_18 : decode cJ28_getEntry 18 = .ok (.aload_n 1, 1) := dk_43 (dk_at dksJ28_getEntry_0 18 rfl rfl)
theorem dJ28_getEntry_19 : decode cJ28_getEntry 19 = .ok (.checkcast 99, 3) := dk_192 0 99 (dk_at dksJ28_getEntry_0 19 rfl rfl)
theorem dJ28_getEntry_22 : decode cJ28_getEntry 22 = .ok (.astore_n 2, 1) := dk_77 (dk_at dksJ28_getEntry_0 22 rfl rfl)
theorem dJ28_getEntry_23 : decode cJ28_getEntry 23 = .ok (.aload_n 0, 1) := dk_42 (dk_at dksJ28_getEntry_0 23 rfl rfl)
theorem dJ28_getEntry_24 : decode cJ28_getEntry 24 = .ok (.getfield 101, 3) := dk_180 0 101 (dk_at dksJ28_getEntry_1 0 rfl rfl)
theorem dJ28_getEntry_27 : decode cJ28_getEntry 27 = .ok (.astore_n 3, 1) := dk_78 (dk_at dksJ28_getEntry_1 3 rfl rfl)
theorem dJ28_getEntry_28 : decode cJ28_getEntry 28 = .ok (.aload_n 3, 1) := dk_45 (dk_at dksJ28_getEntry_1 4 rfl rfl)
theorem dJ28_getEntry_29 : decode cJ28_getEntry 29 = .ok (.ifnull 46, 3) := dk_198 0 46 (dk_at dksJ28_getEntry_1 5 rfl rfl)
theorem dJ28_getEntry_32 : decode cJ28_getEntry 32 = .ok (.aload_n 2, 1) := dk_44 (dk_at dksJ28_getEntry_1 8 rfl rfl)
theorem dJ28_getEntry_33 : decode cJ28_getEntry 33 = .ok (.aload_n 3, 1) := dk_45 (dk_at dksJ28_getEntry_1 9 rfl rfl)
theorem dJ28_getEntry_34 : decode cJ28_getEntry 34 = .ok (.getfield 105, 3) := dk_180 0 105 (dk_at dksJ28_getEntry_1 10 rfl rfl)
theorem dJ28_getEntry_37 : decode cJ28_getEntry 37 = .ok (.invokeinterface 107 2, 5) := by decide +kernel
theorem dJ28_getEntry_42 : decode cJ28_getEntry 42 = .ok (.istore 4, 2) := dk_54 4 (dk_at dksJ28_getEntry_1 18 rfl rfl)
theorem dJ28_getEntry_44 : decode cJ28_getEntry 44 = .ok (.iload 4, 2) := dk_21 4 (dk_at dksJ28_getEntry_1 20 rfl rfl)
theorem dJ28_getEntry_46 : decode cJ28_getEntry 46 = .ok (.ifCond .ge 11, 3) := dk_156 0 11 (dk_at dksJ28_getEntry_2 0 rfl rfl)
theorem dJ28_getEntry_49 : decode cJ28_getEntry 49 = .ok (.aload_n 3, 1) := dk_45 (dk_at dksJ28_getEntry_2 3 rfl rfl)
theorem dJ28_getEntry_50 : decode cJ28_getEntry 50 = .ok (.getfield 111, 3) := dk_180 0 111 (dk_at dksJ28_getEntry_2 4 rfl rfl)
theorem dJ28_getEntry_53 : decode cJ28_getEntry 53 = .ok (.astore_n 3, 1) := dk_78 (dk_at dksJ28_getEntry_2 7 rfl rfl)
theorem dJ28_getEntry_54 : decode cJ28_getEntry 54 = .ok (.goto 18, 3) := dk_167 0 18 (dk_at dksJ28_getEntry_2 8 rfl rfl)
theorem dJ28_getEntry_57 : decode cJ28_getEntry 57 = .ok (.iload 4, 2) := dk_21 4 (dk_at dksJ28_getEntry_2 11 rfl rfl)
theorem dJ28_getEntry_59 : decode cJ28_getEntry 59 = .ok (.ifCond .le 11, 3) := dk_158 0 11 (dk_at dksJ28_getEntry_2 13 rfl rfl)
theorem dJ28_getEntry_62 : decode cJ28_getEntry 62 = .ok (.aload_n 3, 1) := dk_45 (dk_at dksJ28_getEntry_2 16 rfl rfl)
theorem dJ28_getEntry_63 : decode cJ28_getEntry 63 = .ok (.getfield 114, 3) := dk_180 0 114 (dk_at dksJ28_getEntry_2 17 rfl rfl)
theorem dJ28_getEntry_66 : decode cJ28_getEntry 66 = .ok (.astore_n 3, 1) := dk_78 (dk_at dksJ28_getEntry_2 20 rfl rfl)
theorem dJ28_getEntry_67 : decode cJ28_getEntry 67 = .ok (.goto 5, 3) := dk_167 0 5 (dk_at dksJ28_getEntry_2 21 rfl rfl)
theorem dJ28_getEntry_70 : decode cJ28_getEntry 70 = .ok (.aload_n 3, 1) := dk_45 (dk_at dksJ28_getEntry_3 0 rfl rfl)
theorem dJ28_getEntry_71 : decode cJ28_getEntry 71 = .ok (.areturn, 1) := dk_176 (dk_at dksJ28_getEntry_3 1 rfl rfl)
theorem dJ28_getEntry_72 : decode cJ28_getEntry 72 = .ok (.goto (-44), 3) := dk_167 255 212 (dk_at dksJ28_getEntry_3 2 rfl rfl)
theorem dJ28_getEntry_75 : decode cJ28_getEntry 75 = .ok (.aconst_null, 1) := dk_1 (dk_at dksJ28_getEntry_3 5 rfl rfl)
theorem dJ28_getEntry_76 : decode cJ28_getEntry 76 = .ok (.areturn, 1) := dk_176 (dk_at dksJ28_getEntry_3 6 rfl rfl)
abbrev cJ28_containsKey : ByteArray := prog_76_method_6_code
def yJ28_containsKey : MethodName := ⟨RJ28, "containsKey", "(Ljava/lang/Object;)Z"⟩
def dkwJ28_containsKey_0 : List UInt8 := [42, 43, 182, 0, 50, 198, 0, 7, 4, 167, 0, 4, 3, 172]
abbrev dktJ28_containsKey_0 : List UInt8 := dkwJ28_containsKey_0 ++ []
theorem dksJ28_containsKey_0 : cJ28_containsKey.data.toList.drop 0 = dktJ28_containsKey_0 := by decide +kernel
theorem dJ28_containsKey_0 : decode cJ28_containsKey 0 = .ok (.aload_n 0, 1) := dk_42 (dk_at dksJ28_containsKey_0 0 rfl rfl)
theorem dJ28_containsKey_1 : decode cJ28_containsKey 1 = .ok (.aload_n 1, 1) := dk_43 (dk_at dksJ28_containsKey_0 1 rfl rfl)
theorem dJ28_containsKey_2 : decode cJ28_containsKey 2 = .ok (.invokevirtual 50, 3) := dk_182 0 50 (dk_at dksJ28_containsKey_0 2 rfl rfl)
theorem dJ28_containsKey_5 : decode cJ28_containsKey 5 = .ok (.ifnull 7, 3) := dk_198 0 7 (dk_at dksJ28_containsKey_0 5 rfl rfl)
theorem dJ28_containsKey_8 : decode cJ28_containsKey 8 = .ok (.iconst 1, 1) := dk_4 (dk_at dksJ28_containsKey_0 8 rfl rfl)
theorem dJ28_containsKey_9 : decode cJ28_containsKey 9 = .ok (.goto 4, 3) := dk_167 0 4 (dk_at dksJ28_containsKey_0 9 rfl rfl)
theorem dJ28_containsKey_12 : decode cJ28_containsKey 12 = .ok (.iconst 0, 1) := dk_3 (dk_at dksJ28_containsKey_0 12 rfl rfl)
theorem dJ28_containsKey_13 : decode cJ28_containsKey 13 = .ok (.ireturn, 1) := dk_172 (dk_at dksJ28_containsKey_0 13 rfl rfl)
theorem q139 : (Jvm.Cond.initialized "java/util/TreeMap") ∈ lw_all := lw_g (lw_at lw_m1 38 rfl) rfl
theorem q316 : (Jvm.Cond.selects "java/util/TreeMap" ({ cls := "java/lang/Object", name := "getClass", desc := "()Ljava/lang/Class;" } : Jvm.MethodName) ({ cls := "java/lang/Object", name := "getClass", desc := "()Ljava/lang/Class;" } : Jvm.MethodName)) ∈ lw_all := lw_g (lw_at lw_m1 215 rfl) rfl
theorem q1376 : (Jvm.Cond.static ({ cls := "java/util/TreeMap", name := "successor", desc := "(Ljava/util/TreeMap$Entry;)Ljava/util/TreeMap$Entry;" } : Jvm.MethodName)) ∈ lw_all := lw_g (lw_at lw_m6 75 rfl) rfl
theorem q1377 : (Jvm.Cond.code ({ cls := "java/util/TreeMap", name := "successor", desc := "(Ljava/util/TreeMap$Entry;)Ljava/util/TreeMap$Entry;" } : Jvm.MethodName) prog_76_method_74_code (3 : Nat) (Option.some (Jvm.ClassFile.FieldType.object "java/util/TreeMap$Entry"))) ∈ lw_all := lw_g (lw_at lw_m6 76 rfl) rfl
theorem q1695 : (Jvm.Cond.castable "java/util/TreeMap" "java/util/NavigableMap") ∈ lw_tbl := lw_at lw_m7 154 rfl
theorem q1696 : (Jvm.Cond.selects "java/util/TreeMap" ({ cls := "java/util/Map", name := "size", desc := "()I" } : Jvm.MethodName) ({ cls := "java/util/TreeMap", name := "size", desc := "()I" } : Jvm.MethodName)) ∈ lw_all := lw_g (lw_at lw_m7 155 rfl) rfl
theorem q1697 : (Jvm.Cond.unhidden "java/util/TreeMap" "size" "()I") ∈ lw_tbl := lw_at lw_m7 156 rfl
theorem q1698 : (Jvm.Cond.instanceMethod ({ cls := "java/util/TreeMap", name := "size", desc := "()I" } : Jvm.MethodName)) ∈ lw_all := lw_g (lw_at lw_m7 157 rfl) rfl
theorem q1699 : (Jvm.Cond.publicMethod ({ cls := "java/util/TreeMap", name := "size", desc := "()I" } : Jvm.MethodName)) ∈ lw_tbl := lw_at lw_m7 158 rfl
theorem q1700 : (Jvm.Cond.code ({ cls := "java/util/TreeMap", name := "size", desc := "()I" } : Jvm.MethodName) prog_76_method_5_code (1 : Nat) (Option.some Jvm.ClassFile.FieldType.int)) ∈ lw_all := lw_g (lw_at lw_m7 159 rfl) rfl
theorem q1755 : (Jvm.Cond.instantiable "java/util/TreeMap" (9 : Nat)) ∈ lw_all := lw_g (lw_at lw_m7 214 rfl) rfl
theorem q1757 : (Jvm.Cond.instanceMethod ({ cls := "java/util/TreeMap", name := "<init>", desc := "()V" } : Jvm.MethodName)) ∈ lw_all := lw_g (lw_at lw_m7 216 rfl) rfl
theorem q1758 : (Jvm.Cond.code ({ cls := "java/util/TreeMap", name := "<init>", desc := "()V" } : Jvm.MethodName) prog_76_method_1_code (1 : Nat) (Option.none : Option Jvm.ClassFile.FieldType)) ∈ lw_all := lw_g (lw_at lw_m7 217 rfl) rfl
theorem q1759 : (Jvm.Cond.methodLink "java/util/TreeMap" (1 : Nat) ({ cls := "java/util/AbstractMap", name := "<init>", desc := "()V" } : Jvm.MethodName)) ∈ lw_all := lw_g (lw_at lw_m7 218 rfl) rfl
theorem q1763 : (Jvm.Cond.fieldLink "java/util/TreeMap" (16 : Nat) "java/util/TreeMap" "comparator" "Ljava/util/Comparator;") ∈ lw_all := lw_g (lw_at lw_m7 222 rfl) rfl
theorem q1764 : (Jvm.Cond.fieldLink "java/util/TreeMap" (101 : Nat) "java/util/TreeMap" "root" "Ljava/util/TreeMap$Entry;") ∈ lw_all := lw_g (lw_at lw_m7 223 rfl) rfl
theorem q1765 : (Jvm.Cond.fieldLink "java/util/TreeMap" (7 : Nat) "java/util/TreeMap" "size" "I") ∈ lw_all := lw_g (lw_at lw_m7 224 rfl) rfl
theorem q1767 : (Jvm.Cond.fieldLink "java/util/TreeMap" (13 : Nat) "java/util/TreeMap" "modCount" "I") ∈ lw_all := lw_g (lw_at lw_m7 226 rfl) rfl
theorem q1768 : (Jvm.Cond.fieldLink "java/util/TreeMap" (191 : Nat) "java/util/TreeMap" "navigableKeySet" "Ljava/util/TreeMap$KeySet;") ∈ lw_all := lw_g (lw_at lw_m7 227 rfl) rfl
theorem q1769 : (Jvm.Cond.laysFinal "java/util/TreeMap" "java/util/TreeMap" "comparator" "Ljava/util/Comparator;") ∈ lw_all := lw_g (lw_at lw_m7 228 rfl) rfl
theorem q1770 : (Jvm.Cond.soleField "java/util/TreeMap" "comparator") ∈ lw_all := lw_g (lw_at lw_m7 229 rfl) rfl
theorem q1771 : (Jvm.Cond.lays "java/util/TreeMap" "java/util/TreeMap" "root" "Ljava/util/TreeMap$Entry;") ∈ lw_all := lw_g (lw_at lw_m7 230 rfl) rfl
theorem q1772 : (Jvm.Cond.soleField "java/util/TreeMap" "root") ∈ lw_all := lw_g (lw_at lw_m7 231 rfl) rfl
theorem q1773 : (Jvm.Cond.lays "java/util/TreeMap" "java/util/TreeMap" "size" "I") ∈ lw_all := lw_g (lw_at lw_m7 232 rfl) rfl
theorem q1774 : (Jvm.Cond.soleField "java/util/TreeMap" "size") ∈ lw_all := lw_g (lw_at lw_m7 233 rfl) rfl
theorem q1775 : (Jvm.Cond.lays "java/util/TreeMap" "java/util/TreeMap" "modCount" "I") ∈ lw_all := lw_g (lw_at lw_m7 234 rfl) rfl
theorem q1776 : (Jvm.Cond.soleField "java/util/TreeMap" "modCount") ∈ lw_all := lw_g (lw_at lw_m7 235 rfl) rfl
theorem q1777 : (Jvm.Cond.lays "java/util/TreeMap" "java/util/TreeMap" "entrySet" "Ljava/util/TreeMap$EntrySet;") ∈ lw_all := lw_g (lw_at lw_m7 236 rfl) rfl
theorem q1778 : (Jvm.Cond.soleField "java/util/TreeMap" "entrySet") ∈ lw_all := lw_g (lw_at lw_m7 237 rfl) rfl
theorem q1779 : (Jvm.Cond.lays "java/util/TreeMap" "java/util/TreeMap" "navigableKeySet" "Ljava/util/TreeMap$KeySet;") ∈ lw_all := lw_g (lw_at lw_m7 238 rfl) rfl
theorem q1780 : (Jvm.Cond.soleField "java/util/TreeMap" "navigableKeySet") ∈ lw_all := lw_g (lw_at lw_m7 239 rfl) rfl
theorem q1781 : (Jvm.Cond.lays "java/util/TreeMap" "java/util/TreeMap" "descendingMap" "Ljava/util/NavigableMap;") ∈ lw_all := lw_g (lw_at lw_m8 0 rfl) rfl
theorem q1782 : (Jvm.Cond.soleField "java/util/TreeMap" "descendingMap") ∈ lw_all := lw_g (lw_at lw_m8 1 rfl) rfl
theorem q1783 : (Jvm.Cond.lays "java/util/TreeMap" "java/util/AbstractMap" "keySet" "Ljava/util/Set;") ∈ lw_all := lw_g (lw_at lw_m8 2 rfl) rfl
theorem q1785 : (Jvm.Cond.lays "java/util/TreeMap" "java/util/AbstractMap" "values" "Ljava/util/Collection;") ∈ lw_all := lw_g (lw_at lw_m8 4 rfl) rfl
theorem q1787 : (Jvm.Cond.superclass "java/util/TreeMap" "java/util/AbstractMap") ∈ lw_all := lw_g (lw_at lw_m8 6 rfl) rfl
theorem q1807 : (Jvm.Cond.instanceMethod ({ cls := "java/util/TreeMap", name := "put", desc := "(Ljava/lang/Object;Ljava/lang/Object;)Ljava/lang/Object;" } : Jvm.MethodName)) ∈ lw_all := lw_g (lw_at lw_m8 26 rfl) rfl
theorem q1808 : (Jvm.Cond.selects "java/util/TreeMap" ({ cls := "java/util/TreeMap", name := "put", desc := "(Ljava/lang/Object;Ljava/lang/Object;)Ljava/lang/Object;" } : Jvm.MethodName) ({ cls := "java/util/TreeMap", name := "put", desc := "(Ljava/lang/Object;Ljava/lang/Object;)Ljava/lang/Object;" } : Jvm.MethodName)) ∈ lw_all := lw_g (lw_at lw_m8 27 rfl) rfl
theorem q1809 : (Jvm.Cond.code ({ cls := "java/util/TreeMap", name := "put", desc := "(Ljava/lang/Object;Ljava/lang/Object;)Ljava/lang/Object;" } : Jvm.MethodName) prog_76_method_21_code (3 : Nat) (Option.some (Jvm.ClassFile.FieldType.object "java/lang/Object"))) ∈ lw_all := lw_g (lw_at lw_m8 28 rfl) rfl
theorem q1810 : (Jvm.Cond.methodLink "java/util/TreeMap" (127 : Nat) ({ cls := "java/util/TreeMap", name := "put", desc := "(Ljava/lang/Object;Ljava/lang/Object;Z)Ljava/lang/Object;" } : Jvm.MethodName)) ∈ lw_all := lw_g (lw_at lw_m8 29 rfl) rfl
theorem q1811 : (Jvm.Cond.privateMethod ({ cls := "java/util/TreeMap", name := "put", desc := "(Ljava/lang/Object;Ljava/lang/Object;Z)Ljava/lang/Object;" } : Jvm.MethodName)) ∈ lw_tbl := lw_at lw_m8 30 rfl
theorem q1812 : (Jvm.Cond.instanceMethod ({ cls := "java/util/TreeMap", name := "put", desc := "(Ljava/lang/Object;Ljava/lang/Object;Z)Ljava/lang/Object;" } : Jvm.MethodName)) ∈ lw_all := lw_g (lw_at lw_m8 31 rfl) rfl
theorem q1813 : (Jvm.Cond.code ({ cls := "java/util/TreeMap", name := "put", desc := "(Ljava/lang/Object;Ljava/lang/Object;Z)Ljava/lang/Object;" } : Jvm.MethodName) prog_76_method_31_code (10 : Nat) (Option.some (Jvm.ClassFile.FieldType.object "java/lang/Object"))) ∈ lw_all := lw_g (lw_at lw_m8 32 rfl) rfl
theorem q1814 : (Jvm.Cond.methodLink "java/util/TreeMap" (135 : Nat) ({ cls := "java/util/TreeMap", name := "addEntryToEmptyMap", desc := "(Ljava/lang/Object;Ljava/lang/Object;)V" } : Jvm.MethodName)) ∈ lw_all := lw_g (lw_at lw_m8 33 rfl) rfl
theorem q1815 : (Jvm.Cond.privateMethod ({ cls := "java/util/TreeMap", name := "addEntryToEmptyMap", desc := "(Ljava/lang/Object;Ljava/lang/Object;)V" } : Jvm.MethodName)) ∈ lw_tbl := lw_at lw_m8 34 rfl
theorem q1816 : (Jvm.Cond.instanceMethod ({ cls := "java/util/TreeMap", name := "addEntryToEmptyMap", desc := "(Ljava/lang/Object;Ljava/lang/Object;)V" } : Jvm.MethodName)) ∈ lw_all := lw_g (lw_at lw_m8 35 rfl) rfl
theorem q1817 : (Jvm.Cond.code ({ cls := "java/util/TreeMap", name := "addEntryToEmptyMap", desc := "(Ljava/lang/Object;Ljava/lang/Object;)V" } : Jvm.MethodName) prog_76_method_30_code (3 : Nat) (Option.none : Option Jvm.ClassFile.FieldType)) ∈ lw_all := lw_g (lw_at lw_m8 36 rfl) rfl
theorem q1818 : (Jvm.Cond.methodLink "java/util/TreeMap" (123 : Nat) ({ cls := "java/util/TreeMap", name := "compare", desc := "(Ljava/lang/Object;Ljava/lang/Object;)I" } : Jvm.MethodName)) ∈ lw_all := lw_g (lw_at lw_m8 37 rfl) rfl
theorem q1819 : (Jvm.Cond.instanceMethod ({ cls := "java/util/TreeMap", name := "compare", desc := "(Ljava/lang/Object;Ljava/lang/Object;)I" } : Jvm.MethodName)) ∈ lw_all := lw_g (lw_at lw_m8 38 rfl) rfl
theorem q1820 : (Jvm.Cond.selects "java/util/TreeMap" ({ cls := "java/util/TreeMap", name := "compare", desc := "(Ljava/lang/Object;Ljava/lang/Object;)I" } : Jvm.MethodName) ({ cls := "java/util/TreeMap", name := "compare", desc := "(Ljava/lang/Object;Ljava/lang/Object;)I" } : Jvm.MethodName)) ∈ lw_all := lw_g (lw_at lw_m8 39 rfl) rfl
theorem q1821 : (Jvm.Cond.code ({ cls := "java/util/TreeMap", name := "compare", desc := "(Ljava/lang/Object;Ljava/lang/Object;)I" } : Jvm.MethodName) prog_76_method_67_code (3 : Nat) (Option.some Jvm.ClassFile.FieldType.int)) ∈ lw_all := lw_g (lw_at lw_m8 40 rfl) rfl
theorem q1822 : (Jvm.Cond.classLink "java/util/TreeMap" (99 : Nat) "java/lang/Comparable") ∈ lw_all := lw_g (lw_at lw_m8 41 rfl) rfl
theorem q1823 : (Jvm.Cond.interfaceEntry "java/util/TreeMap" (107 : Nat)) ∈ lw_tbl := lw_at lw_m8 42 rfl
theorem q1824 : (Jvm.Cond.methodLink "java/util/TreeMap" (107 : Nat) ({ cls := "java/lang/Comparable", name := "compareTo", desc := "(Ljava/lang/Object;)I" } : Jvm.MethodName)) ∈ lw_all := lw_g (lw_at lw_m8 43 rfl) rfl
theorem q1825 : (Jvm.Cond.interfaceEntry "java/util/TreeMap" (117 : Nat)) ∈ lw_tbl := lw_at lw_m8 44 rfl
theorem q1826 : (Jvm.Cond.methodLink "java/util/TreeMap" (117 : Nat) ({ cls := "java/util/Comparator", name := "compare", desc := "(Ljava/lang/Object;Ljava/lang/Object;)I" } : Jvm.MethodName)) ∈ lw_all := lw_g (lw_at lw_m8 45 rfl) rfl
theorem q1827 : (Jvm.Cond.classLink "java/util/TreeMap" (59 : Nat) "java/util/TreeMap$Entry") ∈ lw_all := lw_g (lw_at lw_m8 46 rfl) rfl
theorem q1829 : (Jvm.Cond.methodLink "java/util/TreeMap" (167 : Nat) ({ cls := "java/util/TreeMap$Entry", name := "<init>", desc := "(Ljava/lang/Object;Ljava/lang/Object;Ljava/util/TreeMap$Entry;)V" } : Jvm.MethodName)) ∈ lw_all := lw_g (lw_at lw_m8 48 rfl) rfl
theorem q1835 : (Jvm.Cond.fieldLink "java/util/TreeMap" (105 : Nat) "java/util/TreeMap$Entry" "key" "Ljava/lang/Object;") ∈ lw_all := lw_g (lw_at lw_m8 54 rfl) rfl
theorem q1837 : (Jvm.Cond.fieldLink "java/util/TreeMap" (58 : Nat) "java/util/TreeMap$Entry" "value" "Ljava/lang/Object;") ∈ lw_all := lw_g (lw_at lw_m8 56 rfl) rfl
theorem q1838 : (Jvm.Cond.fieldLink "java/util/TreeMap" (111 : Nat) "java/util/TreeMap$Entry" "left" "Ljava/util/TreeMap$Entry;") ∈ lw_all := lw_g (lw_at lw_m8 57 rfl) rfl
theorem q1839 : (Jvm.Cond.fieldLink "java/util/TreeMap" (114 : Nat) "java/util/TreeMap$Entry" "right" "Ljava/util/TreeMap$Entry;") ∈ lw_all := lw_g (lw_at lw_m8 58 rfl) rfl
theorem q1841 : (Jvm.Cond.fieldLink "java/util/TreeMap" (124 : Nat) "java/util/TreeMap$Entry" "parent" "Ljava/util/TreeMap$Entry;") ∈ lw_all := lw_g (lw_at lw_m8 60 rfl) rfl
theorem q1843 : (Jvm.Cond.fieldLink "java/util/TreeMap" (290 : Nat) "java/util/TreeMap$Entry" "color" "Z") ∈ lw_all := lw_g (lw_at lw_m8 62 rfl) rfl
theorem q1857 : (Jvm.Cond.methodLink "java/util/TreeMap" (95 : Nat) ({ cls := "java/util/Objects", name := "requireNonNull", desc := "(Ljava/lang/Object;)Ljava/lang/Object;" } : Jvm.MethodName)) ∈ lw_all := lw_g (lw_at lw_m8 76 rfl) rfl
theorem q1860 : (Jvm.Cond.methodLink "java/util/TreeMap" (139 : Nat) ({ cls := "java/util/TreeMap", name := "addEntry", desc := "(Ljava/lang/Object;Ljava/lang/Object;Ljava/util/TreeMap$Entry;Z)V" } : Jvm.MethodName)) ∈ lw_all := lw_g (lw_at lw_m8 79 rfl) rfl
theorem q1861 : (Jvm.Cond.privateMethod ({ cls := "java/util/TreeMap", name := "addEntry", desc := "(Ljava/lang/Object;Ljava/lang/Object;Ljava/util/TreeMap$Entry;Z)V" } : Jvm.MethodName)) ∈ lw_tbl := lw_at lw_m8 80 rfl
theorem q1862 : (Jvm.Cond.instanceMethod ({ cls := "java/util/TreeMap", name := "addEntry", desc := "(Ljava/lang/Object;Ljava/lang/Object;Ljava/util/TreeMap$Entry;Z)V" } : Jvm.MethodName)) ∈ lw_all := lw_g (lw_at lw_m8 81 rfl) rfl
theorem q1863 : (Jvm.Cond.code ({ cls := "java/util/TreeMap", name := "addEntry", desc := "(Ljava/lang/Object;Ljava/lang/Object;Ljava/util/TreeMap$Entry;Z)V" } : Jvm.MethodName) prog_76_method_29_code (6 : Nat) (Option.none : Option Jvm.ClassFile.FieldType)) ∈ lw_all := lw_g (lw_at lw_m8 82 rfl) rfl
theorem q1864 : (Jvm.Cond.methodLink "java/util/TreeMap" (170 : Nat) ({ cls := "java/util/TreeMap", name := "fixAfterInsertion", desc := "(Ljava/util/TreeMap$Entry;)V" } : Jvm.MethodName)) ∈ lw_all := lw_g (lw_at lw_m8 83 rfl) rfl
theorem q1865 : (Jvm.Cond.privateMethod ({ cls := "java/util/TreeMap", name := "fixAfterInsertion", desc := "(Ljava/util/TreeMap$Entry;)V" } : Jvm.MethodName)) ∈ lw_tbl := lw_at lw_m8 84 rfl
theorem q1866 : (Jvm.Cond.instanceMethod ({ cls := "java/util/TreeMap", name := "fixAfterInsertion", desc := "(Ljava/util/TreeMap$Entry;)V" } : Jvm.MethodName)) ∈ lw_all := lw_g (lw_at lw_m8 85 rfl) rfl
theorem q1867 : (Jvm.Cond.code ({ cls := "java/util/TreeMap", name := "fixAfterInsertion", desc := "(Ljava/util/TreeMap$Entry;)V" } : Jvm.MethodName) prog_76_method_83_code (3 : Nat) (Option.none : Option Jvm.ClassFile.FieldType)) ∈ lw_all := lw_g (lw_at lw_m8 86 rfl) rfl
theorem q1868 : (Jvm.Cond.methodLink "java/util/TreeMap" (294 : Nat) ({ cls := "java/util/TreeMap", name := "parentOf", desc := "(Ljava/util/TreeMap$Entry;)Ljava/util/TreeMap$Entry;" } : Jvm.MethodName)) ∈ lw_all := lw_g (lw_at lw_m8 87 rfl) rfl
theorem q1869 : (Jvm.Cond.static ({ cls := "java/util/TreeMap", name := "parentOf", desc := "(Ljava/util/TreeMap$Entry;)Ljava/util/TreeMap$Entry;" } : Jvm.MethodName)) ∈ lw_all := lw_g (lw_at lw_m8 88 rfl) rfl
theorem q1870 : (Jvm.Cond.code ({ cls := "java/util/TreeMap", name := "parentOf", desc := "(Ljava/util/TreeMap$Entry;)Ljava/util/TreeMap$Entry;" } : Jvm.MethodName) prog_76_method_77_code (1 : Nat) (Option.some (Jvm.ClassFile.FieldType.object "java/util/TreeMap$Entry"))) ∈ lw_all := lw_g (lw_at lw_m8 89 rfl) rfl
theorem q1871 : (Jvm.Cond.methodLink "java/util/TreeMap" (297 : Nat) ({ cls := "java/util/TreeMap", name := "leftOf", desc := "(Ljava/util/TreeMap$Entry;)Ljava/util/TreeMap$Entry;" } : Jvm.MethodName)) ∈ lw_all := lw_g (lw_at lw_m8 90 rfl) rfl
theorem q1872 : (Jvm.Cond.static ({ cls := "java/util/TreeMap", name := "leftOf", desc := "(Ljava/util/TreeMap$Entry;)Ljava/util/TreeMap$Entry;" } : Jvm.MethodName)) ∈ lw_all := lw_g (lw_at lw_m8 91 rfl) rfl
theorem q1873 : (Jvm.Cond.code ({ cls := "java/util/TreeMap", name := "leftOf", desc := "(Ljava/util/TreeMap$Entry;)Ljava/util/TreeMap$Entry;" } : Jvm.MethodName) prog_76_method_79_code (1 : Nat) (Option.some (Jvm.ClassFile.FieldType.object "java/util/TreeMap$Entry"))) ∈ lw_all := lw_g (lw_at lw_m8 92 rfl) rfl
theorem q1874 : (Jvm.Cond.methodLink "java/util/TreeMap" (300 : Nat) ({ cls := "java/util/TreeMap", name := "rightOf", desc := "(Ljava/util/TreeMap$Entry;)Ljava/util/TreeMap$Entry;" } : Jvm.MethodName)) ∈ lw_all := lw_g (lw_at lw_m8 93 rfl) rfl
theorem q1875 : (Jvm.Cond.static ({ cls := "java/util/TreeMap", name := "rightOf", desc := "(Ljava/util/TreeMap$Entry;)Ljava/util/TreeMap$Entry;" } : Jvm.MethodName)) ∈ lw_all := lw_g (lw_at lw_m8 94 rfl) rfl
theorem q1876 : (Jvm.Cond.code ({ cls := "java/util/TreeMap", name := "rightOf", desc := "(Ljava/util/TreeMap$Entry;)Ljava/util/TreeMap$Entry;" } : Jvm.MethodName) prog_76_method_80_code (1 : Nat) (Option.some (Jvm.ClassFile.FieldType.object "java/util/TreeMap$Entry"))) ∈ lw_all := lw_g (lw_at lw_m8 95 rfl) rfl
theorem q1877 : (Jvm.Cond.methodLink "java/util/TreeMap" (303 : Nat) ({ cls := "java/util/TreeMap", name := "colorOf", desc := "(Ljava/util/TreeMap$Entry;)Z" } : Jvm.MethodName)) ∈ lw_all := lw_g (lw_at lw_m8 96 rfl) rfl
theorem q1878 : (Jvm.Cond.static ({ cls := "java/util/TreeMap", name := "colorOf", desc := "(Ljava/util/TreeMap$Entry;)Z" } : Jvm.MethodName)) ∈ lw_all := lw_g (lw_at lw_m8 97 rfl) rfl
theorem q1879 : (Jvm.Cond.code ({ cls := "java/util/TreeMap", name := "colorOf", desc := "(Ljava/util/TreeMap$Entry;)Z" } : Jvm.MethodName) prog_76_method_76_code (1 : Nat) (Option.some Jvm.ClassFile.FieldType.boolean)) ∈ lw_all := lw_g (lw_at lw_m8 98 rfl) rfl
theorem q1880 : (Jvm.Cond.methodLink "java/util/TreeMap" (307 : Nat) ({ cls := "java/util/TreeMap", name := "setColor", desc := "(Ljava/util/TreeMap$Entry;Z)V" } : Jvm.MethodName)) ∈ lw_all := lw_g (lw_at lw_m8 99 rfl) rfl
theorem q1881 : (Jvm.Cond.static ({ cls := "java/util/TreeMap", name := "setColor", desc := "(Ljava/util/TreeMap$Entry;Z)V" } : Jvm.MethodName)) ∈ lw_all := lw_g (lw_at lw_m8 100 rfl) rfl
theorem q1882 : (Jvm.Cond.code ({ cls := "java/util/TreeMap", name := "setColor", desc := "(Ljava/util/TreeMap$Entry;Z)V" } : Jvm.MethodName) prog_76_method_78_code (2 : Nat) (Option.none : Option Jvm.ClassFile.FieldType)) ∈ lw_all := lw_g (lw_at lw_m8 101 rfl) rfl
theorem q1883 : (Jvm.Cond.methodLink "java/util/TreeMap" (311 : Nat) ({ cls := "java/util/TreeMap", name := "rotateLeft", desc := "(Ljava/util/TreeMap$Entry;)V" } : Jvm.MethodName)) ∈ lw_all := lw_g (lw_at lw_m8 102 rfl) rfl
theorem q1884 : (Jvm.Cond.privateMethod ({ cls := "java/util/TreeMap", name := "rotateLeft", desc := "(Ljava/util/TreeMap$Entry;)V" } : Jvm.MethodName)) ∈ lw_tbl := lw_at lw_m8 103 rfl
theorem q1885 : (Jvm.Cond.instanceMethod ({ cls := "java/util/TreeMap", name := "rotateLeft", desc := "(Ljava/util/TreeMap$Entry;)V" } : Jvm.MethodName)) ∈ lw_all := lw_g (lw_at lw_m8 104 rfl) rfl
theorem q1886 : (Jvm.Cond.code ({ cls := "java/util/TreeMap", name := "rotateLeft", desc := "(Ljava/util/TreeMap$Entry;)V" } : Jvm.MethodName) prog_76_method_81_code (3 : Nat) (Option.none : Option Jvm.ClassFile.FieldType)) ∈ lw_all := lw_g (lw_at lw_m8 105 rfl) rfl
theorem q1887 : (Jvm.Cond.methodLink "java/util/TreeMap" (314 : Nat) ({ cls := "java/util/TreeMap", name := "rotateRight", desc := "(Ljava/util/TreeMap$Entry;)V" } : Jvm.MethodName)) ∈ lw_all := lw_g (lw_at lw_m8 106 rfl) rfl
theorem q1888 : (Jvm.Cond.privateMethod ({ cls := "java/util/TreeMap", name := "rotateRight", desc := "(Ljava/util/TreeMap$Entry;)V" } : Jvm.MethodName)) ∈ lw_tbl := lw_at lw_m8 107 rfl
theorem q1889 : (Jvm.Cond.instanceMethod ({ cls := "java/util/TreeMap", name := "rotateRight", desc := "(Ljava/util/TreeMap$Entry;)V" } : Jvm.MethodName)) ∈ lw_all := lw_g (lw_at lw_m8 108 rfl) rfl
theorem q1890 : (Jvm.Cond.code ({ cls := "java/util/TreeMap", name := "rotateRight", desc := "(Ljava/util/TreeMap$Entry;)V" } : Jvm.MethodName) prog_76_method_82_code (3 : Nat) (Option.none : Option Jvm.ClassFile.FieldType)) ∈ lw_all := lw_g (lw_at lw_m8 109 rfl) rfl
theorem q1895 : (Jvm.Cond.instanceMethod ({ cls := "java/util/TreeMap", name := "get", desc := "(Ljava/lang/Object;)Ljava/lang/Object;" } : Jvm.MethodName)) ∈ lw_all := lw_g (lw_at lw_m8 114 rfl) rfl
theorem q1896 : (Jvm.Cond.selects "java/util/TreeMap" ({ cls := "java/util/TreeMap", name := "get", desc := "(Ljava/lang/Object;)Ljava/lang/Object;" } : Jvm.MethodName) ({ cls := "java/util/TreeMap", name := "get", desc := "(Ljava/lang/Object;)Ljava/lang/Object;" } : Jvm.MethodName)) ∈ lw_all := lw_g (lw_at lw_m8 115 rfl) rfl
theorem q1897 : (Jvm.Cond.code ({ cls := "java/util/TreeMap", name := "get", desc := "(Ljava/lang/Object;)Ljava/lang/Object;" } : Jvm.MethodName) prog_76_method_8_code (3 : Nat) (Option.some (Jvm.ClassFile.FieldType.object "java/lang/Object"))) ∈ lw_all := lw_g (lw_at lw_m8 116 rfl) rfl
theorem q1898 : (Jvm.Cond.methodLink "java/util/TreeMap" (50 : Nat) ({ cls := "java/util/TreeMap", name := "getEntry", desc := "(Ljava/lang/Object;)Ljava/util/TreeMap$Entry;" } : Jvm.MethodName)) ∈ lw_all := lw_g (lw_at lw_m8 117 rfl) rfl
theorem q1899 : (Jvm.Cond.instanceMethod ({ cls := "java/util/TreeMap", name := "getEntry", desc := "(Ljava/lang/Object;)Ljava/util/TreeMap$Entry;" } : Jvm.MethodName)) ∈ lw_all := lw_g (lw_at lw_m8 118 rfl) rfl
theorem q1900 : (Jvm.Cond.selects "java/util/TreeMap" ({ cls := "java/util/TreeMap", name := "getEntry", desc := "(Ljava/lang/Object;)Ljava/util/TreeMap$Entry;" } : Jvm.MethodName) ({ cls := "java/util/TreeMap", name := "getEntry", desc := "(Ljava/lang/Object;)Ljava/util/TreeMap$Entry;" } : Jvm.MethodName)) ∈ lw_all := lw_g (lw_at lw_m8 119 rfl) rfl
theorem q1901 : (Jvm.Cond.code ({ cls := "java/util/TreeMap", name := "getEntry", desc := "(Ljava/lang/Object;)Ljava/util/TreeMap$Entry;" } : Jvm.MethodName) prog_76_method_15_code (5 : Nat) (Option.some (Jvm.ClassFile.FieldType.object "java/util/TreeMap$Entry"))) ∈ lw_all := lw_g (lw_at lw_m8 120 rfl) rfl
theorem q1902 : (Jvm.Cond.methodLink "java/util/TreeMap" (92 : Nat) ({ cls := "java/util/TreeMap", name := "getEntryUsingComparator", desc := "(Ljava/lang/Object;)Ljava/util/TreeMap$Entry;" } : Jvm.MethodName)) ∈ lw_all := lw_g (lw_at lw_m8 121 rfl) rfl
theorem q1903 : (Jvm.Cond.instanceMethod ({ cls := "java/util/TreeMap", name := "getEntryUsingComparator", desc := "(Ljava/lang/Object;)Ljava/util/TreeMap$Entry;" } : Jvm.MethodName)) ∈ lw_all := lw_g (lw_at lw_m8 122 rfl) rfl
theorem q1904 : (Jvm.Cond.selects "java/util/TreeMap" ({ cls := "java/util/TreeMap", name := "getEntryUsingComparator", desc := "(Ljava/lang/Object;)Ljava/util/TreeMap$Entry;" } : Jvm.MethodName) ({ cls := "java/util/TreeMap", name := "getEntryUsingComparator", desc := "(Ljava/lang/Object;)Ljava/util/TreeMap$Entry;" } : Jvm.MethodName)) ∈ lw_all := lw_g (lw_at lw_m8 123 rfl) rfl
theorem q1905 : (Jvm.Cond.code ({ cls := "java/util/TreeMap", name := "getEntryUsingComparator", desc := "(Ljava/lang/Object;)Ljava/util/TreeMap$Entry;" } : Jvm.MethodName) prog_76_method_16_code (6 : Nat) (Option.some (Jvm.ClassFile.FieldType.object "java/util/TreeMap$Entry"))) ∈ lw_all := lw_g (lw_at lw_m8 124 rfl) rfl
theorem q2322 : (Jvm.Cond.instanceMethod ({ cls := "java/util/TreeMap", name := "keyIterator", desc := "()Ljava/util/Iterator;" } : Jvm.MethodName)) ∈ lw_all := lw_g (lw_at lw_m10 61 rfl) rfl
theorem q2323 : (Jvm.Cond.selects "java/util/TreeMap" ({ cls := "java/util/TreeMap", name := "keyIterator", desc := "()Ljava/util/Iterator;" } : Jvm.MethodName) ({ cls := "java/util/TreeMap", name := "keyIterator", desc := "()Ljava/util/Iterator;" } : Jvm.MethodName)) ∈ lw_all := lw_g (lw_at lw_m10 62 rfl) rfl
theorem q2324 : (Jvm.Cond.code ({ cls := "java/util/TreeMap", name := "keyIterator", desc := "()Ljava/util/Iterator;" } : Jvm.MethodName) prog_76_method_65_code (1 : Nat) (Option.some (Jvm.ClassFile.FieldType.object "java/util/Iterator"))) ∈ lw_all := lw_g (lw_at lw_m10 63 rfl) rfl
theorem q2325 : (Jvm.Cond.classLink "java/util/TreeMap" (269 : Nat) "java/util/TreeMap$KeyIterator") ∈ lw_all := lw_g (lw_at lw_m10 64 rfl) rfl
theorem q2327 : (Jvm.Cond.methodLink "java/util/TreeMap" (54 : Nat) ({ cls := "java/util/TreeMap", name := "getFirstEntry", desc := "()Ljava/util/TreeMap$Entry;" } : Jvm.MethodName)) ∈ lw_all := lw_g (lw_at lw_m10 66 rfl) rfl
theorem q2328 : (Jvm.Cond.instanceMethod ({ cls := "java/util/TreeMap", name := "getFirstEntry", desc := "()Ljava/util/TreeMap$Entry;" } : Jvm.MethodName)) ∈ lw_all := lw_g (lw_at lw_m10 67 rfl) rfl
theorem q2329 : (Jvm.Cond.selects "java/util/TreeMap" ({ cls := "java/util/TreeMap", name := "getFirstEntry", desc := "()Ljava/util/TreeMap$Entry;" } : Jvm.MethodName) ({ cls := "java/util/TreeMap", name := "getFirstEntry", desc := "()Ljava/util/TreeMap$Entry;" } : Jvm.MethodName)) ∈ lw_all := lw_g (lw_at lw_m10 68 rfl) rfl
theorem q2330 : (Jvm.Cond.code ({ cls := "java/util/TreeMap", name := "getFirstEntry", desc := "()Ljava/util/TreeMap$Entry;" } : Jvm.MethodName) prog_76_method_72_code (2 : Nat) (Option.some (Jvm.ClassFile.FieldType.object "java/util/TreeMap$Entry"))) ∈ lw_all := lw_g (lw_at lw_m10 69 rfl) rfl
theorem q2331 : (Jvm.Cond.methodLink "java/util/TreeMap" (271 : Nat) ({ cls := "java/util/TreeMap$KeyIterator", name := "<init>", desc := "(Ljava/util/TreeMap;Ljava/util/TreeMap$Entry;)V" } : Jvm.MethodName)) ∈ lw_all := lw_g (lw_at lw_m10 70 rfl) rfl
theorem q2362 : (Jvm.Cond.selects "java/util/TreeMap" ({ cls := "java/util/NavigableMap", name := "navigableKeySet", desc := "()Ljava/util/NavigableSet;" } : Jvm.MethodName) ({ cls := "java/util/TreeMap", name := "navigableKeySet", desc := "()Ljava/util/NavigableSet;" } : Jvm.MethodName)) ∈ lw_all := lw_g (lw_at lw_m10 101 rfl) rfl
theorem q2363 : (Jvm.Cond.unhidden "java/util/TreeMap" "navigableKeySet" "()Ljava/util/NavigableSet;") ∈ lw_tbl := lw_at lw_m10 102 rfl
theorem q2364 : (Jvm.Cond.instanceMethod ({ cls := "java/util/TreeMap", name := "navigableKeySet", desc := "()Ljava/util/NavigableSet;" } : Jvm.MethodName)) ∈ lw_all := lw_g (lw_at lw_m10 103 rfl) rfl
theorem q2365 : (Jvm.Cond.publicMethod ({ cls := "java/util/TreeMap", name := "navigableKeySet", desc := "()Ljava/util/NavigableSet;" } : Jvm.MethodName)) ∈ lw_tbl := lw_at lw_m10 104 rfl
theorem q2366 : (Jvm.Cond.code ({ cls := "java/util/TreeMap", name := "navigableKeySet", desc := "()Ljava/util/NavigableSet;" } : Jvm.MethodName) prog_76_method_50_code (2 : Nat) (Option.some (Jvm.ClassFile.FieldType.object "java/util/NavigableSet"))) ∈ lw_all := lw_g (lw_at lw_m10 105 rfl) rfl
theorem q2367 : (Jvm.Cond.classLink "java/util/TreeMap" (222 : Nat) "java/util/TreeMap$KeySet") ∈ lw_all := lw_g (lw_at lw_m10 106 rfl) rfl
theorem q2369 : (Jvm.Cond.methodLink "java/util/TreeMap" (224 : Nat) ({ cls := "java/util/TreeMap$KeySet", name := "<init>", desc := "(Ljava/util/NavigableMap;)V" } : Jvm.MethodName)) ∈ lw_all := lw_g (lw_at lw_m10 108 rfl) rfl
theorem q2544 : (Jvm.Cond.selects "java/util/TreeMap" ({ cls := "java/util/Map", name := "put", desc := "(Ljava/lang/Object;Ljava/lang/Object;)Ljava/lang/Object;" } : Jvm.MethodName) ({ cls := "java/util/TreeMap", name := "put", desc := "(Ljava/lang/Object;Ljava/lang/Object;)Ljava/lang/Object;" } : Jvm.MethodName)) ∈ lw_all := lw_g (lw_at lw_m11 43 rfl) rfl
theorem q2545 : (Jvm.Cond.unhidden "java/util/TreeMap" "put" "(Ljava/lang/Object;Ljava/lang/Object;)Ljava/lang/Object;") ∈ lw_tbl := lw_at lw_m11 44 rfl
theorem q2546 : (Jvm.Cond.publicMethod ({ cls := "java/util/TreeMap", name := "put", desc := "(Ljava/lang/Object;Ljava/lang/Object;)Ljava/lang/Object;" } : Jvm.MethodName)) ∈ lw_tbl := lw_at lw_m11 45 rfl
theorem q2574 : (Jvm.Cond.selects "java/util/TreeMap" ({ cls := "java/util/Map", name := "containsKey", desc := "(Ljava/lang/Object;)Z" } : Jvm.MethodName) ({ cls := "java/util/TreeMap", name := "containsKey", desc := "(Ljava/lang/Object;)Z" } : Jvm.MethodName)) ∈ lw_all := lw_g (lw_at lw_m11 73 rfl) rfl
theorem q2575 : (Jvm.Cond.unhidden "java/util/TreeMap" "containsKey" "(Ljava/lang/Object;)Z") ∈ lw_tbl := lw_at lw_m11 74 rfl
theorem q2576 : (Jvm.Cond.instanceMethod ({ cls := "java/util/TreeMap", name := "containsKey", desc := "(Ljava/lang/Object;)Z" } : Jvm.MethodName)) ∈ lw_all := lw_g (lw_at lw_m11 75 rfl) rfl
theorem q2577 : (Jvm.Cond.publicMethod ({ cls := "java/util/TreeMap", name := "containsKey", desc := "(Ljava/lang/Object;)Z" } : Jvm.MethodName)) ∈ lw_tbl := lw_at lw_m11 76 rfl
theorem q2578 : (Jvm.Cond.code ({ cls := "java/util/TreeMap", name := "containsKey", desc := "(Ljava/lang/Object;)Z" } : Jvm.MethodName) prog_76_method_6_code (2 : Nat) (Option.some Jvm.ClassFile.FieldType.boolean)) ∈ lw_all := lw_g (lw_at lw_m11 77 rfl) rfl
theorem q3315 : (Jvm.Cond.castable "java/util/TreeMap" "java/lang/Object") ∈ lw_tbl := lw_at lw_m14 94 rfl
theorem in_J28 : ∀ w ∈ wsJ280, w ∈ lw_all := lw_in wsJ280 [1783, 1785, 1769, 1771, 1773, 1775, 1777, 1779, 1781] (by decide +kernel) (by decide +kernel)
/-! java/lang/ArrayIndexOutOfBoundsException -/
set_option maxRecDepth 100000
def RJ29 : String := "java/lang/ArrayIndexOutOfBoundsException"
def TJ29 : u_T := fun k => match k with
  | 0 => ("java/lang/Throwable", "backtrace", "Ljava/lang/Object;", false)
  | 1 => ("java/lang/Throwable", "detailMessage", "Ljava/lang/String;", false)
  | 2 => ("java/lang/Throwable", "cause", "Ljava/lang/Throwable;", false)
  | 3 => ("java/lang/Throwable", "stackTrace", "[Ljava/lang/StackTraceElement;", false)
  | 4 => ("java/lang/Throwable", "depth", "I", false)
  | _ => ("java/lang/Throwable", "suppressedExceptions", "Ljava/util/List;", false)
def tyJ29 : Nat → FieldType := fun k => match k with
  | 0 => .object "java/lang/Object"
  | 1 => .object "java/lang/String"
  | 2 => .object "java/lang/Throwable"
  | 3 => .array (.object "java/lang/StackTraceElement")
  | 4 => .int
  | _ => .object "java/util/List"
abbrev wsJ290 : List Cond := u_ws RJ29 TJ29 6
theorem nmJ29 : ∀ a, a < 6 → ∀ b, b < 6 → a ≠ b → (TJ29 a).2.1 ≠ (TJ29 b).2.1 := by decide +kernel
theorem tyJ29_ok : ∀ k, k < 6 → parseFieldDescriptor (TJ29 k).2.2.1 = some (tyJ29 k) := by decide +kernel
theorem q140 : (Jvm.Cond.initialized "java/lang/ArrayIndexOutOfBoundsException") ∈ lw_all := lw_g (lw_at lw_m1 39 rfl) rfl
theorem q300 : (Jvm.Cond.selects "java/lang/ArrayIndexOutOfBoundsException" ({ cls := "java/lang/Object", name := "getClass", desc := "()Ljava/lang/Class;" } : Jvm.MethodName) ({ cls := "java/lang/Object", name := "getClass", desc := "()Ljava/lang/Class;" } : Jvm.MethodName)) ∈ lw_all := lw_g (lw_at lw_m1 199 rfl) rfl
theorem q375 : (Jvm.Cond.selects "java/lang/ArrayIndexOutOfBoundsException" ({ cls := "java/lang/Throwable", name := "fillInStackTrace", desc := "()Ljava/lang/Throwable;" } : Jvm.MethodName) ({ cls := "java/lang/Throwable", name := "fillInStackTrace", desc := "()Ljava/lang/Throwable;" } : Jvm.MethodName)) ∈ lw_all := lw_g (lw_at lw_m2 34 rfl) rfl
theorem q863 : (Jvm.Cond.selects "java/lang/ArrayIndexOutOfBoundsException" ({ cls := "java/lang/Object", name := "equals", desc := "(Ljava/lang/Object;)Z" } : Jvm.MethodName) ({ cls := "java/lang/Object", name := "equals", desc := "(Ljava/lang/Object;)Z" } : Jvm.MethodName)) ∈ lw_all := lw_g (lw_at lw_m4 42 rfl) rfl
theorem q2064 : (Jvm.Cond.instantiable "java/lang/ArrayIndexOutOfBoundsException" (6 : Nat)) ∈ lw_all := lw_g (lw_at lw_m9 43 rfl) rfl
theorem q2065 : (Jvm.Cond.instanceMethod ({ cls := "java/lang/ArrayIndexOutOfBoundsException", name := "<init>", desc := "(Ljava/lang/String;)V" } : Jvm.MethodName)) ∈ lw_all := lw_g (lw_at lw_m9 44 rfl) rfl
theorem q2066 : (Jvm.Cond.code ({ cls := "java/lang/ArrayIndexOutOfBoundsException", name := "<init>", desc := "(Ljava/lang/String;)V" } : Jvm.MethodName) prog_19_method_2_code (2 : Nat) (Option.none : Option Jvm.ClassFile.FieldType)) ∈ lw_all := lw_g (lw_at lw_m9 45 rfl) rfl
theorem q2067 : (Jvm.Cond.methodLink "java/lang/ArrayIndexOutOfBoundsException" (7 : Nat) ({ cls := "java/lang/IndexOutOfBoundsException", name := "<init>", desc := "(Ljava/lang/String;)V" } : Jvm.MethodName)) ∈ lw_all := lw_g (lw_at lw_m9 46 rfl) rfl
theorem q2068 : (Jvm.Cond.lays "java/lang/ArrayIndexOutOfBoundsException" "java/lang/Throwable" "backtrace" "Ljava/lang/Object;") ∈ lw_all := lw_g (lw_at lw_m9 47 rfl) rfl
theorem q2069 : (Jvm.Cond.lays "java/lang/ArrayIndexOutOfBoundsException" "java/lang/Throwable" "detailMessage" "Ljava/lang/String;") ∈ lw_all := lw_g (lw_at lw_m9 48 rfl) rfl
theorem q2070 : (Jvm.Cond.lays "java/lang/ArrayIndexOutOfBoundsException" "java/lang/Throwable" "cause" "Ljava/lang/Throwable;") ∈ lw_all := lw_g (lw_at lw_m9 49 rfl) rfl
theorem q2071 : (Jvm.Cond.lays "java/lang/ArrayIndexOutOfBoundsException" "java/lang/Throwable" "stackTrace" "[Ljava/lang/StackTraceElement;") ∈ lw_all := lw_g (lw_at lw_m9 50 rfl) rfl
theorem q2072 : (Jvm.Cond.lays "java/lang/ArrayIndexOutOfBoundsException" "java/lang/Throwable" "depth" "I") ∈ lw_all := lw_g (lw_at lw_m9 51 rfl) rfl
theorem q2073 : (Jvm.Cond.lays "java/lang/ArrayIndexOutOfBoundsException" "java/lang/Throwable" "suppressedExceptions" "Ljava/util/List;") ∈ lw_all := lw_g (lw_at lw_m9 52 rfl) rfl
theorem q2074 : (Jvm.Cond.superclass "java/lang/ArrayIndexOutOfBoundsException" "java/lang/IndexOutOfBoundsException") ∈ lw_all := lw_g (lw_at lw_m9 53 rfl) rfl
theorem q2075 : (Jvm.Cond.castable "java/lang/ArrayIndexOutOfBoundsException" "java/lang/ArrayIndexOutOfBoundsException") ∈ lw_tbl := lw_at lw_m9 54 rfl
theorem q2078 : (Jvm.Cond.selects "java/lang/ArrayIndexOutOfBoundsException" ({ cls := "java/lang/Throwable", name := "fillInStackTrace", desc := "(I)Ljava/lang/Throwable;" } : Jvm.MethodName) ({ cls := "java/lang/Throwable", name := "fillInStackTrace", desc := "(I)Ljava/lang/Throwable;" } : Jvm.MethodName)) ∈ lw_all := lw_g (lw_at lw_m9 57 rfl) rfl
theorem q3293 : (Jvm.Cond.castable "java/lang/ArrayIndexOutOfBoundsException" "java/lang/IndexOutOfBoundsException") ∈ lw_tbl := lw_at lw_m14 72 rfl
theorem q3313 : (Jvm.Cond.castable "java/lang/ArrayIndexOutOfBoundsException" "java/lang/Object") ∈ lw_tbl := lw_at lw_m14 92 rfl
theorem in_J29 : ∀ w ∈ wsJ290, w ∈ lw_all := lw_in wsJ290 [2068, 2069, 2070, 2071, 2072, 2073] (by decide +kernel) (by decide +kernel)
/-! java/util/BitSet -/
set_option maxRecDepth 100000
def RJ3 : String := "java/util/BitSet"
def TJ3 : u_T := fun k => match k with
  | 0 => ("java/util/BitSet", "words", "[J", false)
  | 1 => ("java/util/BitSet", "wordsInUse", "I", false)
  | _ => ("java/util/BitSet", "sizeIsSticky", "Z", false)
def tyJ3 : Nat → FieldType := fun k => match k with
  | 0 => .array .long
  | 1 => .int
  | _ => .boolean
abbrev wsJ30 : List Cond := u_ws RJ3 TJ3 3
theorem nmJ3 : ∀ a, a < 3 → ∀ b, b < 3 → a ≠ b → (TJ3 a).2.1 ≠ (TJ3 b).2.1 := by decide +kernel
theorem tyJ3_ok : ∀ k, k < 3 → parseFieldDescriptor (TJ3 k).2.2.1 = some (tyJ3 k) := by decide +kernel
abbrev cJ3_init : ByteArray := prog_54_method_4_code
def yJ3_init : MethodName := ⟨RJ3, "<init>", "()V"⟩
def dkwJ3_init_1 : List UInt8 := [181, 0, 24, 177]
abbrev dktJ3_init_1 : List UInt8 := dkwJ3_init_1 ++ []
def dkwJ3_init_0 : List UInt8 := [42, 183, 0, 21, 42, 3, 181, 0, 7, 42, 3, 181, 0, 24, 42, 16, 64, 182, 0, 27, 42, 3]
abbrev dktJ3_init_0 : List UInt8 := dkwJ3_init_0 ++ dktJ3_init_1
theorem dksJ3_init_0 : cJ3_init.data.toList.drop 0 = dktJ3_init_0 := by decide +kernel
theorem dksJ3_init_1 : cJ3_init.data.toList.drop 22 = dktJ3_init_1 := dk_seg dksJ3_init_0 22 rfl rfl
theorem dJ3_init_0 : decode cJ3_init 0 = .ok (.aload_n 0, 1) := dk_42 (dk_at dksJ3_init_0 0 rfl rfl)
theorem dJ3_init_1 : decode cJ3_init 1 = .ok (.invokespecial 21, 3) := dk_183 0 21 (dk_at dksJ3_init_0 1 rfl rfl)
theorem dJ3_init_4 : decode cJ3_init 4 = .ok (.aload_n 0, 1) := dk_42 (dk_at dksJ3_init_0 4 rfl rfl)
theorem dJ3_init_5 : decode cJ3_init 5 = .ok (.iconst 0, 1) := dk_3 (dk_at dksJ3_init_0 5 rfl rfl)
theorem dJ3_init_6 : decode cJ3_init 6 = .ok (.putfield 7, 3) := dk_181 0 7 (dk_at dksJ3_init_0 6 rfl rfl)
theorem dJ3_init_9 : decode cJ3_init 9 = .ok (.aload_n 0, 1) := dk_42 (dk_at dksJ3_init_0 9 rfl rfl)
theorem dJ3_init_10 : decode cJ3_init 10 = .ok (.iconst 0, 1) := dk_3 (dk_at dksJ3_init_0 10 rfl rfl)
theorem dJ3_init_11 : decode cJ3_init 11 = .ok (.putfield 24, 3) := dk_181 0 24 (dk_at dksJ3_init_0 11 rfl rfl)
theorem dJ3_init_14 : decode cJ3_init 14 = .ok (.aload_n 0, 1) := dk_42 (dk_at dksJ3_init_0 14 rfl rfl)
theorem dJ3_init_15 : decode cJ3_init 15 = .ok (.bipush 64, 2) := dk_16 64 (dk_at dksJ3_init_0 15 rfl rfl)
theorem dJ3_init_17 : decode cJ3_init 17 = .ok (.invokevirtual 27, 3) := dk_182 0 27 (dk_at dksJ3_init_0 17 rfl rfl)
theorem dJ3_init_20 : decode cJ3_init 20 = .ok (.aload_n 0, 1) := dk_42 (dk_at dksJ3_init_0 20 rfl rfl)
theorem dJ3_init_21 : decode cJ3_init 21 = .ok (.iconst 0, 1) := dk_3 (dk_at dksJ3_init_0 21 rfl rfl)
theorem dJ3_init_22 : decode cJ3_init 22 = .ok (.putfield 24, 3) := dk_181 0 24 (dk_at dksJ3_init_1 0 rfl rfl)
theorem dJ3_init_25 : decode cJ3_init 25 = .ok (.return_, 1) := dk_177 (dk_at dksJ3_init_1 3 rfl rfl)
abbrev cJ3_initWords : ByteArray := prog_54_method_6_code
def yJ3_initWords : MethodName := ⟨RJ3, "initWords", "(I)V"⟩
def dkwJ3_initWords_0 : List UInt8 := [42, 27, 4, 100, 184, 0, 52, 4, 96, 188, 11, 181, 0, 11, 177]
abbrev dktJ3_initWords_0 : List UInt8 := dkwJ3_initWords_0 ++ []
theorem dksJ3_initWords_0 : cJ3_initWords.data.toList.drop 0 = dktJ3_initWords_0 := by decide +kernel
theorem dJ3_initWords_0 : decode cJ3_initWords 0 = .ok (.aload_n 0, 1) := dk_42 (dk_at dksJ3_initWords_0 0 rfl rfl)
theorem dJ3_initWords_1 : decode cJ3_initWords 1 = .ok (.iload_n 1, 1) := dk_27 (dk_at dksJ3_initWords_0 1 rfl rfl)
theorem dJ3_initWords_2 : decode cJ3_initWords 2 = .ok (.iconst 1, 1) := dk_4 (dk_at dksJ3_initWords_0 2 rfl rfl)
theorem dJ3_initWords_3 : decode cJ3_initWords 3 = .ok (.isub, 1) := dk_100 (dk_at dksJ3_initWords_0 3 rfl rfl)
theorem dJ3_initWords_4 : decode cJ3_initWords 4 = .ok (.invokestatic 52, 3) := dk_184 0 52 (dk_at dksJ3_initWords_0 4 rfl rfl)
theorem dJ3_initWords_7 : decode cJ3_initWords 7 = .ok (.iconst 1, 1) := dk_4 (dk_at dksJ3_initWords_0 7 rfl rfl)
theorem dJ3_initWords_8 : decode cJ3_initWords 8 = .ok (.iadd, 1) := dk_96 (dk_at dksJ3_initWords_0 8 rfl rfl)
theorem dJ3_initWords_9 : decode cJ3_initWords 9 = .ok (.newarray .long, 2) := dk_188_11 (dk_at dksJ3_initWords_0 9 rfl rfl)
theorem dJ3_initWords_11 : decode cJ3_initWords 11 = .ok (.putfield 11, 3) := dk_181 0 11 (dk_at dksJ3_initWords_0 11 rfl rfl)
theorem dJ3_initWords_14 : decode cJ3_initWords 14 = .ok (.return_, 1) := dk_177 (dk_at dksJ3_initWords_0 14 rfl rfl)
abbrev cJ3_wordIndex : ByteArray := prog_54_method_1_code
def yJ3_wordIndex : MethodName := ⟨RJ3, "wordIndex", "(I)I"⟩
def dkwJ3_wordIndex_0 : List UInt8 := [26, 16, 6, 122, 172]
abbrev dktJ3_wordIndex_0 : List UInt8 := dkwJ3_wordIndex_0 ++ []
theorem dksJ3_wordIndex_0 : cJ3_wordIndex.data.toList.drop 0 = dktJ3_wordIndex_0 := by decide +kernel
theorem dJ3_wordIndex_0 : decode cJ3_wordIndex 0 = .ok (.iload_n 0, 1) := dk_26 (dk_at dksJ3_wordIndex_0 0 rfl rfl)
theorem dJ3_wordIndex_1 : decode cJ3_wordIndex 1 = .ok (.bipush 6, 2) := dk_16 6 (dk_at dksJ3_wordIndex_0 1 rfl rfl)
theorem dJ3_wordIndex_3 : decode cJ3_wordIndex 3 = .ok (.ishr, 1) := dk_122 (dk_at dksJ3_wordIndex_0 3 rfl rfl)
theorem dJ3_wordIndex_4 : decode cJ3_wordIndex 4 = .ok (.ireturn, 1) := dk_172 (dk_at dksJ3_wordIndex_0 4 rfl rfl)
abbrev cJ3_set : ByteArray := prog_54_method_19_code
def yJ3_set : MethodName := ⟨RJ3, "set", "(I)V"⟩
def dkwJ3_set_2 : List UInt8 := [10, 27, 121, 129, 80, 42, 182, 0, 56, 177]
abbrev dktJ3_set_2 : List UInt8 := dkwJ3_set_2 ++ []
def dkwJ3_set_1 : List UInt8 := [182, 0, 45, 183, 0, 146, 191, 27, 184, 0, 52, 61, 42, 28, 182, 0, 155, 42, 180, 0, 11, 28, 92, 47]
abbrev dktJ3_set_1 : List UInt8 := dkwJ3_set_1 ++ dktJ3_set_2
def dkwJ3_set_0 : List UInt8 := [27, 156, 0, 30, 187, 0, 142, 89, 187, 0, 33, 89, 183, 0, 35, 18, 153, 182, 0, 38, 27, 182, 0, 42]
abbrev dktJ3_set_0 : List UInt8 := dkwJ3_set_0 ++ dktJ3_set_1
theorem dksJ3_set_0 : cJ3_set.data.toList.drop 0 = dktJ3_set_0 := by decide +kernel
theorem dksJ3_set_1 : cJ3_set.data.toList.drop 24 = dktJ3_set_1 := dk_seg dksJ3_set_0 24 rfl rfl
theorem dksJ3_set_2 : cJ3_set.data.toList.drop 48 = dktJ3_set_2 := dk_seg dksJ3_set_1 24 rfl rfl
theorem dJ3_set_0 : decode cJ3_set 0 = .ok (.iload_n 1, 1) := dk_27 (dk_at dksJ3_set_0 0 rfl rfl)
theorem dJ3_set_1 : decode cJ3_set 1 = .ok (.ifCond .ge 30, 3) := dk_156 0 30 (dk_at dksJ3_set_0 1 rfl rfl)
theorem dJ3_set_4 : decode cJ3_set 4 = .ok (.new 142, 3) := dk_187 0 142 (dk_at dksJ3_set_0 4 rfl rfl)
theorem dJ3_set_7 : decode cJ3_set 7 = .ok (.dup, 1) := dk_89 (dk_at dksJ3_set_0 7 rfl rfl)
theorem dJ3_set_8 : decode cJ3_set 8 = .ok (.new 33, 3) := dk_187 0 33 (dk_at dksJ3_set_0 8 rfl rfl)
theorem dJ3_set_11 : decode cJ3_set 11 = .ok (.dup, 1) := dk_89 (dk_at dksJ3_set_0 11 rfl rfl)
theorem dJ3_set_12 : decode cJ3_set 12 = .ok (.invokespecial 35, 3) := dk_183 0 35 (dk_at dksJ3_set_0 12 rfl rfl)
theorem dJ3_set_15 : decode cJ3_set 15 = .ok (.ldc 153, 2) := dk_18 153 (dk_at dksJ3_set_0 15 rfl rfl)
theorem dJ3_set_17 : decode cJ3_set 17 = .ok (.invokevirtual 38, 3) := dk_182 0 38 (dk_at dksJ3_set_0 17 rfl rfl)
theorem dJ3_set_20 : decode cJ3_set 20 = .ok (.iload_n 1, 1) := dk_27 (dk_at dksJ3_set_0 20 rfl rfl)
theorem dJ3_set_21 : decode cJ3_set 21 = .ok (.invokevirtual 42, 3) := dk_182 0 42 (dk_at dksJ3_set_0 21 rfl rfl)
theorem dJ3_set_24 : decode cJ3_set 24 = .ok (.invokevirtual 45, 3) := dk_182 0 45 (dk_at dksJ3_set_1 0 rfl rfl)
theorem dJ3_set_27 : decode cJ3_set 27 = .ok (.invokespecial 146, 3) := dk_183 0 146 (dk_at dksJ3_set_1 3 rfl rfl)
theorem dJ3_set_30 : decode cJ3_set 30 = .ok (.athrow, 1) := dk_191 (dk_at dksJ3_set_1 6 rfl rfl)
theorem dJ3_set_31 : decode cJ3_set 31 = .ok (.iload_n 1, 1) := dk_27 (dk_at dksJ3_set_1 7 rfl rfl)
theorem dJ3_set_32 : decode cJ3_set 32 = .ok (.invokestatic 52, 3) := dk_184 0 52 (dk_at dksJ3_set_1 8 rfl rfl)
theorem dJ3_set_35 : decode cJ3_set 35 = .ok (.istore_n 2, 1) := dk_61 (dk_at dksJ3_set_1 11 rfl rfl)
theorem dJ3_set_36 : decode cJ3_set 36 = .ok (.aload_n 0, 1) := dk_42 (dk_at dksJ3_set_1 12 rfl rfl)
theorem dJ3_set_37 : decode cJ3_set 37 = .ok (.iload_n 2, 1) := dk_28 (dk_at dksJ3_set_1 13 rfl rfl)
theorem dJ3_set_38 : decode cJ3_set 38 = .ok (.invokevirtual 155, 3) := dk_182 0 155 (dk_at dksJ3_set_1 14 rfl rfl)
theorem dJ3_set_41 : decode cJ3_set 41 = .ok (.aload_n 0, 1) := dk_42 (dk_at dksJ3_set_1 17 rfl rfl)
theorem dJ3_set_42 : decode cJ3_set 42 = .ok (.getfield 11, 3) := dk_180 0 11 (dk_at dksJ3_set_1 18 rfl rfl)
theorem dJ3_set_45 : decode cJ3_set 45 = .ok (.iload_n 2, 1) := dk_28 (dk_at dksJ3_set_1 21 rfl rfl)
theorem dJ3_set_46 : decode cJ3_set 46 = .ok (.dup2, 1) := dk_92 (dk_at dksJ3_set_1 22 rfl rfl)
theorem dJ3_set_47 : decode cJ3_set 47 = .ok (.laload, 1) := dk_47 (dk_at dksJ3_set_1 23 rfl rfl)
theorem dJ3_set_48 : decode cJ3_set 48 = .ok (.lconst 1, 1) := dk_10 (dk_at dksJ3_set_2 0 rfl rfl)
theorem dJ3_set_49 : decode cJ3_set 49 = .ok (.iload_n 1, 1) := dk_27 (dk_at dksJ3_set_2 1 rfl rfl)
theorem dJ3_set_50 : decode cJ3_set 50 = .ok (.lshl, 1) := dk_121 (dk_at dksJ3_set_2 2 rfl rfl)
theorem dJ3_set_51 : decode cJ3_set 51 = .ok (.lor, 1) := dk_129 (dk_at dksJ3_set_2 3 rfl rfl)
theorem dJ3_set_52 : decode cJ3_set 52 = .ok (.lastore, 1) := dk_80 (dk_at dksJ3_set_2 4 rfl rfl)
theorem dJ3_set_53 : decode cJ3_set 53 = .ok (.aload_n 0, 1) := dk_42 (dk_at dksJ3_set_2 5 rfl rfl)
theorem dJ3_set_54 : decode cJ3_set 54 = .ok (.invokevirtual 56, 3) := dk_182 0 56 (dk_at dksJ3_set_2 6 rfl rfl)
theorem dJ3_set_57 : decode cJ3_set 57 = .ok (.return_, 1) := dk_177 (dk_at dksJ3_set_2 9 rfl rfl)
abbrev cJ3_expandTo : ByteArray := prog_54_method_15_code
def yJ3_expandTo : MethodName := ⟨RJ3, "expandTo", "(I)V"⟩
def dkwJ3_expandTo_0 : List UInt8 := [27, 4, 96, 61, 42, 180, 0, 7, 28, 162, 0, 13, 42, 28, 182, 0, 139, 42, 28, 181, 0, 7, 177]
abbrev dktJ3_expandTo_0 : List UInt8 := dkwJ3_expandTo_0 ++ []
theorem dksJ3_expandTo_0 : cJ3_expandTo.data.toList.drop 0 = dktJ3_expandTo_0 := by decide +kernel
theorem dJ3_expandTo_0 : decode cJ3_expandTo 0 = .ok (.iload_n 1, 1) := dk_27 (dk_at dksJ3_expandTo_0 0 rfl rfl)
theorem dJ3_expandTo_1 : decode cJ3_expandTo 1 = .ok (.iconst 1, 1) := dk_4 (dk_at dksJ3_expandTo_0 1 rfl rfl)
theorem dJ3_expandTo_2 : decode cJ3_expandTo 2 = .ok (.iadd, 1) := dk_96 (dk_at dksJ3_expandTo_0 2 rfl rfl)
theorem dJ3_expandTo_3 : decode cJ3_expandTo 3 = .ok (.istore_n 2, 1) := dk_61 (dk_at dksJ3_expandTo_0 3 rfl rfl)
theorem dJ3_expandTo_4 : decode cJ3_expandTo 4 = .ok (.aload_n 0, 1) := dk_42 (dk_at dksJ3_expandTo_0 4 rfl rfl)
theorem dJ3_expandTo_5 : decode cJ3_expandTo 5 = .ok (.getfield 7, 3) := dk_180 0 7 (dk_at dksJ3_expandTo_0 5 rfl rfl)
theorem dJ3_expandTo_8 : decode cJ3_expandTo 8 = .ok (.iload_n 2, 1) := dk_28 (dk_at dksJ3_expandTo_0 8 rfl rfl)
theorem dJ3_expandTo_9 : decode cJ3_expandTo 9 = .ok (.if_icmp .ge 13, 3) := dk_162 0 13 (dk_at dksJ3_expandTo_0 9 rfl rfl)
theorem dJ3_expandTo_12 : decode cJ3_expandTo 12 = .ok (.aload_n 0, 1) := dk_42 (dk_at dksJ3_expandTo_0 12 rfl rfl)
theorem dJ3_expandTo_13 : decode cJ3_expandTo 13 = .ok (.iload_n 2, 1) := dk_28 (dk_at dksJ3_expandTo_0 13 rfl rfl)
theorem dJ3_expandTo_14 : decode cJ3_expandTo 14 = .ok (.invokevirtual 139, 3) := dk_182 0 139 (dk_at dksJ3_expandTo_0 14 rfl rfl)
theorem dJ3_expandTo_17 : decode cJ3_expandTo 17 = .ok (.aload_n 0, 1) := dk_42 (dk_at dksJ3_expandTo_0 17 rfl rfl)
theorem dJ3_expandTo_18 : decode cJ3_expandTo 18 = .ok (.iload_n 2, 1) := dk_28 (dk_at dksJ3_expandTo_0 18 rfl rfl)
theorem dJ3_expandTo_19 : decode cJ3_expandTo 19 = .ok (.putfield 7, 3) := dk_181 0 7 (dk_at dksJ3_expandTo_0 19 rfl rfl)
theorem dJ3_expandTo_22 : decode cJ3_expandTo 22 = .ok (.return_, 1) := dk_177 (dk_at dksJ3_expandTo_0 22 rfl rfl)
abbrev cJ3_ensureCapacity : ByteArray := prog_54_method_14_code
def yJ3_ensureCapacity : MethodName := ⟨RJ3, "ensureCapacity", "(I)V"⟩
def dkwJ3_ensureCapacity_1 : List UInt8 := [180, 0, 11, 28, 184, 0, 59, 181, 0, 11, 42, 3, 181, 0, 24, 177]
abbrev dktJ3_ensureCapacity_1 : List UInt8 := dkwJ3_ensureCapacity_1 ++ []
def dkwJ3_ensureCapacity_0 : List UInt8 := [42, 180, 0, 11, 190, 27, 162, 0, 32, 5, 42, 180, 0, 11, 190, 104, 27, 184, 0, 133, 61, 42, 42]
abbrev dktJ3_ensureCapacity_0 : List UInt8 := dkwJ3_ensureCapacity_0 ++ dktJ3_ensureCapacity_1
theorem dksJ3_ensureCapacity_0 : cJ3_ensureCapacity.data.toList.drop 0 = dktJ3_ensureCapacity_0 := by decide +kernel
theorem dksJ3_ensureCapacity_1 : cJ3_ensureCapacity.data.toList.drop 23 = dktJ3_ensureCapacity_1 := dk_seg dksJ3_ensureCapacity_0 23 rfl rfl
theorem dJ3_ensureCapacity_0 : decode cJ3_ensureCapacity 0 = .ok (.aload_n 0, 1) := dk_42 (dk_at dksJ3_ensureCapacity_0 0 rfl rfl)
theorem dJ3_ensureCapacity_1 : decode cJ3_ensureCapacity 1 = .ok (.getfield 11, 3) := dk_180 0 11 (dk_at dksJ3_ensureCapacity_0 1 rfl rfl)
theorem dJ3_ensureCapacity_4 : decode cJ3_ensureCapacity 4 = .ok (.arraylength, 1) := dk_190 (dk_at dksJ3_ensureCapacity_0 4 rfl rfl)
theorem dJ3_ensureCapacity_5 : decode cJ3_ensureCapacity 5 = .ok (.iload_n 1, 1) := dk_27 (dk_at dksJ3_ensureCapacity_0 5 rfl rfl)
theorem dJ3_ensureCapacity_6 : decode cJ3_ensureCapacity 6 = .ok (.if_icmp .ge 32, 3) := dk_162 0 32 (dk_at dksJ3_ensureCapacity_0 6 rfl rfl)
theorem dJ3_ensureCapacity_9 : decode cJ3_ensureCapacity 9 = .ok (.iconst 2, 1) := dk_5 (dk_at dksJ3_ensureCapacity_0 9 rfl rfl)
theorem dJ3_ensureCapacity_10 : decode cJ3_ensureCapacity 10 = .ok (.aload_n 0, 1) := dk_42 (dk_at dksJ3_ensureCapacity_0 10 rfl rfl)
theorem dJ3_ensureCapacity_11 : decode cJ3_ensureCapacity 11 = .ok (.getfield 11, 3) := dk_180 0 11 (dk_at dksJ3_ensureCapacity_0 11 rfl rfl)
theorem dJ3_ensureCapacity_14 : decode cJ3_ensureCapacity 14 = .ok (.arraylength, 1) := dk_190 (dk_at dksJ3_ensureCapacity_0 14 rfl rfl)
theorem dJ3_ensureCapacity_15 : decode cJ3_ensureCapacity 15 = .ok (.imul, 1) := dk_104 (dk_at dksJ3_ensureCapacity_0 15 rfl rfl)
theorem dJ3_ensureCapacity_16 : decode cJ3_ensureCapacity 16 = .ok (.iload_n 1, 1) := dk_27 (dk_at dksJ3_ensureCapacity_0 16 rfl rfl)
theorem dJ3_ensureCapacity_17 : decode cJ3_ensureCapacity 17 = .ok (.invokestatic 133, 3) := dk_184 0 133 (dk_at dksJ3_ensureCapacity_0 17 rfl rfl)
theorem dJ3_ensureCapacity_20 : decode cJ3_ensureCapacity 20 = .ok (.istore_n 2, 1) := dk_61 (dk_at dksJ3_ensureCapacity_0 20 rfl rfl)
theorem dJ3_ensureCapacity_21 : decode cJ3_ensureCapacity 21 = .ok (.aload_n 0, 1) := dk_42 (dk_at dksJ3_ensureCapacity_0 21 rfl rfl)
theorem dJ3_ensureCapacity_22 : decode cJ3_ensureCapacity 22 = .ok (.aload_n 0, 1) := dk_42 (dk_at dksJ3_ensureCapacity_0 22 rfl rfl)
theorem dJ3_ensureCapacity_23 : decode cJ3_ensureCapacity 23 = .ok (.getfield 11, 3) := dk_180 0 11 (dk_at dksJ3_ensureCapacity_1 0 rfl rfl)
theorem dJ3_ensureCapacity_26 : decode cJ3_ensureCapacity 26 = .ok (.iload_n 2, 1) := dk_28 (dk_at dksJ3_ensureCapacity_1 3 rfl rfl)
theorem dJ3_ensureCapacity_27 : decode cJ3_ensureCapacity 27 = .ok (.invokestatic 59, 3) := dk_184 0 59 (dk_at dksJ3_ensureCapacity_1 4 rfl rfl)
theorem dJ3_ensureCapacity_30 : decode cJ3_ensureCapacity 30 = .ok (.putfield 11, 3) := dk_181 0 11 (dk_at dksJ3_ensureCapacity_1 7 rfl rfl)
theorem dJ3_ensureCapacity_33 : decode cJ3_ensureCapacity 33 = .ok (.aload_n 0, 1) := dk_42 (dk_at dksJ3_ensureCapacity_1 10 rfl rfl)
theorem dJ3_ensureCapacity_34 : decode cJ3_ensureCapacity 34 = .ok (.iconst 0, 1) := dk_3 (dk_at dksJ3_ensureCapacity_1 11 rfl rfl)
theorem dJ3_ensureCapacity_35 : decode cJ3_ensureCapacity 35 = .ok (.putfield 24, 3) := dk_181 0 24 (dk_at dksJ3_ensureCapacity_1 12 rfl rfl)
theorem dJ3_ensureCapacity_38 : decode cJ3_ensureCapacity 38 = .ok (.return_, 1) := dk_177 (dk_at dksJ3_ensureCapacity_1 15 rfl rfl)
abbrev cJ3_checkInvariants : ByteArray := prog_54_method_2_code
def yJ3_checkInvariants : MethodName := ⟨RJ3, "checkInvariants", "()V"⟩
def dkwJ3_checkInvariants_4 : List UInt8 := [180, 0, 7, 47, 9, 148, 153, 0, 11, 187, 0, 15, 89, 183, 0, 17, 191, 177]
abbrev dktJ3_checkInvariants_4 : List UInt8 := dkwJ3_checkInvariants_4 ++ []
def dkwJ3_checkInvariants_3 : List UInt8 := [178, 0, 3, 154, 0, 37, 42, 180, 0, 7, 42, 180, 0, 11, 190, 159, 0, 25, 42, 180, 0, 11, 42]
abbrev dktJ3_checkInvariants_3 : List UInt8 := dkwJ3_checkInvariants_3 ++ dktJ3_checkInvariants_4
def dkwJ3_checkInvariants_2 : List UInt8 := [155, 0, 15, 42, 180, 0, 7, 42, 180, 0, 11, 190, 164, 0, 11, 187, 0, 15, 89, 183, 0, 17, 191]
abbrev dktJ3_checkInvariants_2 : List UInt8 := dkwJ3_checkInvariants_2 ++ dktJ3_checkInvariants_3
def dkwJ3_checkInvariants_1 : List UInt8 := [9, 148, 154, 0, 11, 187, 0, 15, 89, 183, 0, 17, 191, 178, 0, 3, 154, 0, 30, 42, 180, 0, 7]
abbrev dktJ3_checkInvariants_1 : List UInt8 := dkwJ3_checkInvariants_1 ++ dktJ3_checkInvariants_2
def dkwJ3_checkInvariants_0 : List UInt8 := [178, 0, 3, 154, 0, 34, 42, 180, 0, 7, 153, 0, 27, 42, 180, 0, 11, 42, 180, 0, 7, 4, 100, 47]
abbrev dktJ3_checkInvariants_0 : List UInt8 := dkwJ3_checkInvariants_0 ++ dktJ3_checkInvariants_1
theorem dksJ3_checkInvariants_0 : cJ3_checkInvariants.data.toList.drop 0 = dktJ3_checkInvariants_0 := by decide +kernel
theorem dksJ3_checkInvariants_1 : cJ3_checkInvariants.data.toList.drop 24 = dktJ3_checkInvariants_1 := dk_seg dksJ3_checkInvariants_0 24 rfl rfl
theorem dksJ3_checkInvariants_2 : cJ3_checkInvariants.data.toList.drop 47 = dktJ3_checkInvariants_2 := dk_seg dksJ3_checkInvariants_1 23 rfl rfl
theorem dksJ3_checkInvariants_3 : cJ3_checkInvariants.data.toList.drop 70 = dktJ3_checkInvariants_3 := dk_seg dksJ3_checkInvariants_2 23 rfl rfl
theorem dksJ3_checkInvariants_4 : cJ3_checkInvariants.data.toList.drop 93 = dktJ3_checkInvariants_4 := dk_seg dksJ3_checkInvariants_3 23 rfl rfl
theorem dJ3_checkInvariants_0 : decode cJ3_checkInvariants 0 = .ok (.getstatic 3, 3) := dk_178 0 3 (dk_at dksJ3_checkInvariants_0 0 rfl rfl)
theorem dJ3_checkInvariants_3 : decode cJ3_checkInvariants 3 = .ok (.ifCond .ne 34, 3) := dk_154 0 34 (dk_at dksJ3_checkInvariants_0 3 rfl rfl)
theorem dJ3_checkInvariants_6 : decode cJ3_checkInvariants 6 = .ok (.aload_n 0, 1) := dk_42 (dk_at dksJ3_checkInvariants_0 6 rfl rfl)
theorem dJ3_checkInvariants_7 : decode cJ3_checkInvariants 7 = .ok (.getfield 7, 3) := dk_180 0 7 (dk_at dksJ3_checkInvariants_0 7 rfl rfl)
theorem dJ3_checkInvariants_10 : decode cJ3_checkInvariants 10 = .ok (.ifCond .eq 27, 3) := dk_153 0 27 (dk_at dksJ3_checkInvariants_0 10 rfl rfl)
theorem dJ3_checkInvariants_13 : decode cJ3_checkInvariants 13 = .ok (.aload_n 0, 1) := dk_42 (dk_at dksJ3_checkInvariants_0 13 rfl rfl)
theorem dJ3_checkInvariants_14 : decode cJ3_checkInvariants 14 = .ok (.getfield 11, 3) := dk_180 0 11 (dk_at dksJ3_checkInvariants_0 14 rfl rfl)
theorem dJ3_checkInvariants_17 : decode cJ3_checkInvariants 17 = .ok (.aload_n 0, 1) := dk_42 (dk_at dksJ3_checkInvariants_0 17 rfl rfl)
theorem dJ3_checkInvariants_18 : decode cJ3_checkInvariants 18 = .ok (.getfield 7, 3) := dk_180 0 7 (dk_at dksJ3_checkInvariants_0 18 rfl rfl)
theorem dJ3_checkInvariants_21 : decode cJ3_checkInvariants 21 = .ok (.iconst 1, 1) := dk_4 (dk_at dksJ3_checkInvariants_0 21 rfl rfl)
theorem dJ3_checkInvariants_22 : decode cJ3_checkInvariants 22 = .ok (.isub, 1) := dk_100 (dk_at dksJ3_checkInvariants_0 22 rfl rfl)
theorem dJ3_checkInvariants_23 : decode cJ3_checkInvariants 23 = .ok (.laload, 1) := dk_47 (dk_at dksJ3_checkInvariants_0 23 rfl rfl)
theorem dJ3_checkInvariants_24 : decode cJ3_checkInvariants 24 = .ok (.lconst 0, 1) := dk_9 (dk_at dksJ3_checkInvariants_1 0 rfl rfl)
theorem dJ3_checkInvariants_25 : decode cJ3_checkInvariants 25 = .ok (.lcmp, 1) := dk_148 (dk_at dksJ3_checkInvariants_1 1 rfl rfl)
theorem dJ3_checkInvariants_26 : decode cJ3_checkInvariants 26 = .ok (.ifCond .ne 11, 3) := dk_154 0 11 (dk_at dksJ3_checkInvariants_1 2 rfl rfl)
theorem dJ3_checkInvariants_29 : decode cJ3_checkInvariants 29 = .ok (.new 15, 3) := dk_187 0 15 (dk_at dksJ3_checkInvariants_1 5 rfl rfl)
theorem dJ3_checkInvariants_32 : decode cJ3_checkInvariants 32 = .ok (.dup, 1) := dk_89 (dk_at dksJ3_checkInvariants_1 8 rfl rfl)
theorem dJ3_checkInvariants_33 : decode cJ3_checkInvariants 33 = .ok (.invokespecial 17, 3) := dk_183 0 17 (dk_at dksJ3_checkInvariants_1 9 rfl rfl)
theorem dJ3_checkInvariants_36 : decode cJ3_checkInvariants 36 = .ok (.athrow, 1) := dk_191 (dk_at dksJ3_checkInvariants_1 12 rfl rfl)
theorem dJ3_checkInvariants_37 : decode cJ3_checkInvariants 37 = .ok (.getstatic 3, 3) := dk_178 0 3 (dk_at dksJ3_checkInvariants_1 13 rfl rfl)
theorem dJ3_checkInvariants_40 : decode cJ3_checkInvariants 40 = .ok (.ifCond .ne 30, 3) := dk_154 0 30 (dk_at dksJ3_checkInvariants_1 16 rfl rfl)
theorem dJ3_checkInvariants_43 : decode cJ3_checkInvariants 43 = .ok (.aload_n 0, 1) := dk_42 (dk_at dksJ3_checkInvariants_1 19 rfl rfl)
theorem dJ3_checkInvariants_44 : decode cJ3_checkInvariants 44 = .ok (.getfield 7, 3) := dk_180 0 7 (dk_at dksJ3_checkInvariants_1 20 rfl rfl)
theorem dJ3_checkInvariants_47 : decode cJ3_checkInvariants 47 = .ok (.ifCond .lt 15, 3) := dk_155 0 15 (dk_at dksJ3_checkInvariants_2 0 rfl rfl)
theorem dJ3_checkInvariants_50 : decode cJ3_checkInvariants 50 = .ok (.aload_n 0, 1) := dk_42 (dk_at dksJ3_checkInvariants_2 3 rfl rfl)
theorem dJ3_checkInvariants_51 : decode cJ3_checkInvariants 51 = .ok (.getfield 7, 3) := dk_180 0 7 (dk_at dksJ3_checkInvariants_2 4 rfl rfl)
theorem dJ3_checkInvariants_54 : decode cJ3_checkInvariants 54 = .ok (.aload_n 0, 1) := dk_42 (dk_at dksJ3_checkInvariants_2 7 rfl rfl)
theorem dJ3_checkInvariants_55 : decode cJ3_checkInvariants 55 = .ok (.getfield 11, 3) := dk_180 0 11 (dk_at dksJ3_checkInvariants_2 8 rfl rfl)
theorem dJ3_checkInvariants_58 : decode cJ3_checkInvariants 58 = .ok (.arraylength, 1) := dk_190 (dk_at dksJ3_checkInvariants_2 11 rfl rfl)
theorem dJ3_checkInvariants_59 : decode cJ3_checkInvariants 59 = .ok (.if_icmp .le 11, 3) := dk_164 0 11 (dk_at dksJ3_checkInvariants_2 12 rfl rfl)
theorem dJ3_checkInvariants_62 : decode cJ3_checkInvariants 62 = .ok (.new 15, 3) := dk_187 0 15 (dk_at dksJ3_checkInvariants_2 15 rfl rfl)
theorem dJ3_checkInvariants_65 : decode cJ3_checkInvariants 65 = .ok (.dup, 1) := dk_89 (dk_at dksJ3_checkInvariants_2 18 rfl rfl)
theorem dJ3_checkInvariants_66 : decode cJ3_checkInvariants 66 = .ok (.invokespecial 17, 3) := dk_183 0 17 (dk_at dksJ3_checkInvariants_2 19 rfl rfl)
theorem dJ3_checkInvariants_69 : decode cJ3_checkInvariants 69 = .ok (.athrow, 1) := dk_191 (dk_at dksJ3_checkInvariants_2 22 rfl rfl)
theorem dJ3_checkInvariants_70 : decode cJ3_checkInvariants 70 = .ok (.getstatic 3, 3) := dk_178 0 3 (dk_at dksJ3_checkInvariants_3 0 rfl rfl)
theorem dJ3_checkInvariants_73 : decode cJ3_checkInvariants 73 = .ok (.ifCond .ne 37, 3) := dk_154 0 37 (dk_at dksJ3_checkInvariants_3 3 rfl rfl)
theorem dJ3_checkInvariants_76 : decode cJ3_checkInvariants 76 = .ok (.aload_n 0, 1) := dk_42 (dk_at dksJ3_checkInvariants_3 6 rfl rfl)
theorem dJ3_checkInvariants_77 : decode cJ3_checkInvariants 77 = .ok (.getfield 7, 3) := dk_180 0 7 (dk_at dksJ3_checkInvariants_3 7 rfl rfl)
theorem dJ3_checkInvariants_80 : decode cJ3_checkInvariants 80 = .ok (.aload_n 0, 1) := dk_42 (dk_at dksJ3_checkInvariants_3 10 rfl rfl)
theorem dJ3_checkInvariants_81 : decode cJ3_checkInvariants 81 = .ok (.getfield 11, 3) := dk_180 0 11 (dk_at dksJ3_checkInvariants_3 11 rfl rfl)
theorem dJ3_checkInvariants_84 : decode cJ3_checkInvariants 84 = .ok (.arraylength, 1) := dk_190 (dk_at dksJ3_checkInvariants_3 14 rfl rfl)
theorem dJ3_checkInvariants_85 : decode cJ3_checkInvariants 85 = .ok (.if_icmp .eq 25, 3) := dk_159 0 25 (dk_at dksJ3_checkInvariants_3 15 rfl rfl)
theorem dJ3_checkInvariants_88 : decode cJ3_checkInvariants 88 = .ok (.aload_n 0, 1) := dk_42 (dk_at dksJ3_checkInvariants_3 18 rfl rfl)
theorem dJ3_checkInvariants_89 : decode cJ3_checkInvariants 89 = .ok (.getfield 11, 3) := dk_180 0 11 (dk_at dksJ3_checkInvariants_3 19 rfl rfl)
theorem dJ3_checkInvariants_92 : decode cJ3_checkInvariants 92 = .ok (.aload_n 0, 1) := dk_42 (dk_at dksJ3_checkInvariants_3 22 rfl rfl)
theorem dJ3_checkInvariants_93 : decode cJ3_checkInvariants 93 = .ok (.getfield 7, 3) := dk_180 0 7 (dk_at dksJ3_checkInvariants_4 0 rfl rfl)
theorem dJ3_checkInvariants_96 : decode cJ3_checkInvariants 96 = .ok (.laload, 1) := dk_47 (dk_at dksJ3_checkInvariants_4 3 rfl rfl)
theorem dJ3_checkInvariants_97 : decode cJ3_checkInvariants 97 = .ok (.lconst 0, 1) := dk_9 (dk_at dksJ3_checkInvariants_4 4 rfl rfl)
theorem dJ3_checkInvariants_98 : decode cJ3_checkInvariants 98 = .ok (.lcmp, 1) := dk_148 (dk_at dksJ3_checkInvariants_4 5 rfl rfl)
theorem dJ3_checkInvariants_99 : decode cJ3_checkInvariants 99 = .ok (.ifCond .eq 11, 3) := dk_153 0 11 (dk_at dksJ3_checkInvariants_4 6 rfl rfl)
theorem dJ3_checkInvariants_102 : decode cJ3_checkInvariants 102 = .ok (.new 15, 3) := dk_187 0 15 (dk_at dksJ3_checkInvariants_4 9 rfl rfl)
theorem dJ3_checkInvariants_105 : decode cJ3_checkInvariants 105 = .ok (.dup, 1) := dk_89 (dk_at dksJ3_checkInvariants_4 12 rfl rfl)
theorem dJ3_checkInvariants_106 : decode cJ3_checkInvariants 106 = .ok (.invokespecial 17, 3) := dk_183 0 17 (dk_at dksJ3_checkInvariants_4 13 rfl rfl)
theorem dJ3_checkInvariants_109 : decode cJ3_checkInvariants 109 = .ok (.athrow, 1) := dk_191 (dk_at dksJ3_checkInvariants_4 16 rfl rfl)
theorem dJ3_checkInvariants_110 : decode cJ3_checkInvariants 110 = .ok (.return_, 1) := dk_177 (dk_at dksJ3_checkInvariants_4 17 rfl rfl)
abbrev cJ3_or : ByteArray := prog_54_method_37_code
def yJ3_or : MethodName := ⟨RJ3, "or", "(Ljava/util/BitSet;)V"⟩
def dkwJ3_or_4 : List UInt8 := [180, 0, 7, 28, 100, 184, 0, 199, 42, 182, 0, 56, 177]
abbrev dktJ3_or_4 : List UInt8 := dkwJ3_or_4 ++ []
def dkwJ3_or_3 : List UInt8 := [167, 255, 233, 28, 43, 180, 0, 7, 162, 0, 22, 43, 180, 0, 11, 28, 42, 180, 0, 11, 28, 42]
abbrev dktJ3_or_3 : List UInt8 := dkwJ3_or_3 ++ dktJ3_or_4
def dkwJ3_or_2 : List UInt8 := [29, 28, 162, 0, 24, 42, 180, 0, 11, 29, 92, 47, 43, 180, 0, 11, 29, 47, 129, 80, 132, 3, 1]
abbrev dktJ3_or_2 : List UInt8 := dkwJ3_or_2 ++ dktJ3_or_3
def dkwJ3_or_1 : List UInt8 := [180, 0, 7, 162, 0, 19, 42, 43, 180, 0, 7, 182, 0, 139, 42, 43, 180, 0, 7, 181, 0, 7, 3, 62]
abbrev dktJ3_or_1 : List UInt8 := dkwJ3_or_1 ++ dktJ3_or_2
def dkwJ3_or_0 : List UInt8 := [42, 43, 166, 0, 4, 177, 42, 180, 0, 7, 43, 180, 0, 7, 184, 0, 193, 61, 42, 180, 0, 7, 43]
abbrev dktJ3_or_0 : List UInt8 := dkwJ3_or_0 ++ dktJ3_or_1
theorem dksJ3_or_0 : cJ3_or.data.toList.drop 0 = dktJ3_or_0 := by decide +kernel
theorem dksJ3_or_1 : cJ3_or.data.toList.drop 23 = dktJ3_or_1 := dk_seg dksJ3_or_0 23 rfl rfl
theorem dksJ3_or_2 : cJ3_or.data.toList.drop 47 = dktJ3_or_2 := dk_seg dksJ3_or_1 24 rfl rfl
theorem dksJ3_or_3 : cJ3_or.data.toList.drop 70 = dktJ3_or_3 := dk_seg dksJ3_or_2 23 rfl rfl
theorem dksJ3_or_4 : cJ3_or.data.toList.drop 92 = dktJ3_or_4 := dk_seg dksJ3_or_3 22 rfl rfl
theorem dJ3_or_0 : decode cJ3_or 0 = .ok (.aload_n 0, 1) := dk_42 (dk_at dksJ3_or_0 0 rfl rfl)
theorem dJ3_or_1 : decode cJ3_or 1 = .ok (.aload_n 1, 1) := dk_43 (dk_at dksJ3_or_0 1 rfl rfl)
theorem dJ3_or_2 : decode cJ3_or 2 = .ok (.if_acmp .ne 4, 3) := dk_166 0 4 (dk_at dksJ3_or_0 2 rfl rfl)
theorem dJ3_or_5 : decode cJ3_or 5 = .ok (.return_, 1) := dk_177 (dk_at dksJ3_or_0 5 rfl rfl)
theorem dJ3_or_6 : decode cJ3_or 6 = .ok (.aload_n 0, 1) := dk_42 (dk_at dksJ3_or_0 6 rfl rfl)
theorem dJ3_or_7 : decode cJ3_or 7 = .ok (.getfield 7, 3) := dk_180 0 7 (dk_at dksJ3_or_0 7 rfl rfl)
theorem dJ3_or_10 : decode cJ3_or 10 = .ok (.aload_n 1, 1) := dk_43 (dk_at dksJ3_or_0 10 rfl rfl)
theorem dJ3_or_11 : decode cJ3_or 11 = .ok (.getfield 7, 3) := dk_180 0 7 (dk_at dksJ3_or_0 11 rfl rfl)
theorem dJ3_or_14 : decode cJ3_or 14 = .ok (.invokestatic 193, 3) := dk_184 0 193 (dk_at dksJ3_or_0 14 rfl rfl)
theorem dJ3_or_17 : decode cJ3_or 17 = .ok (.istore_n 2, 1) := dk_61 (dk_at dksJ3_or_0 17 rfl rfl)
theorem dJ3_or_18 : decode cJ3_or 18 = .ok (.aload_n 0, 1) := dk_42 (dk_at dksJ3_or_0 18 rfl rfl)
theorem dJ3_or_19 : decode cJ3_or 19 = .ok (.getfield 7, 3) := dk_180 0 7 (dk_at dksJ3_or_0 19 rfl rfl)
theorem dJ3_or_22 : decode cJ3_or 22 = .ok (.aload_n 1, 1) := dk_43 (dk_at dksJ3_or_0 22 rfl rfl)
theorem dJ3_or_23 : decode cJ3_or 23 = .ok (.getfield 7, 3) := dk_180 0 7 (dk_at dksJ3_or_1 0 rfl rfl)
theorem dJ3_or_26 : decode cJ3_or 26 = .ok (.if_icmp .ge 19, 3) := dk_162 0 19 (dk_at dksJ3_or_1 3 rfl rfl)
theorem dJ3_or_29 : decode cJ3_or 29 = .ok (.aload_n 0, 1) := dk_42 (dk_at dksJ3_or_1 6 rfl rfl)
theorem dJ3_or_30 : decode cJ3_or 30 = .ok (.aload_n 1, 1) := dk_43 (dk_at dksJ3_or_1 7 rfl rfl)
theorem dJ3_or_31 : decode cJ3_or 31 = .ok (.getfield 7, 3) := dk_180 0 7 (dk_at dksJ3_or_1 8 rfl rfl)
theorem dJ3_or_34 : decode cJ3_or 34 = .ok (.invokevirtual 139, 3) := dk_182 0 139 (dk_at dksJ3_or_1 11 rfl rfl)
theorem dJ3_or_37 : decode cJ3_or 37 = .ok (.aload_n 0, 1) := dk_42 (dk_at dksJ3_or_1 14 rfl rfl)
theorem dJ3_or_38 : decode cJ3_or 38 = .ok (.aload_n 1, 1) := dk_43 (dk_at dksJ3_or_1 15 rfl rfl)
theorem dJ3_or_39 : decode cJ3_or 39 = .ok (.getfield 7, 3) := dk_180 0 7 (dk_at dksJ3_or_1 16 rfl rfl)
theorem dJ3_or_42 : decode cJ3_or 42 = .ok (.putfield 7, 3) := dk_181 0 7 (dk_at dksJ3_or_1 19 rfl rfl)
theorem dJ3_or_45 : decode cJ3_or 45 = .ok (.iconst 0, 1) := dk_3 (dk_at dksJ3_or_1 22 rfl rfl)
theorem dJ3_or_46 : decode cJ3_or 46 = .ok (.istore_n 3, 1) := dk_62 (dk_at dksJ3_or_1 23 rfl rfl)
theorem dJ3_or_47 : decode cJ3_or 47 = .ok (.iload_n 3, 1) := dk_29 (dk_at dksJ3_or_2 0 rfl rfl)
theorem dJ3_or_48 : decode cJ3_or 48 = .ok (.iload_n 2, 1) := dk_28 (dk_at dksJ3_or_2 1 rfl rfl)
theorem dJ3_or_49 : decode cJ3_or 49 = .ok (.if_icmp .ge 24, 3) := dk_162 0 24 (dk_at dksJ3_or_2 2 rfl rfl)
theorem dJ3_or_52 : decode cJ3_or 52 = .ok (.aload_n 0, 1) := dk_42 (dk_at dksJ3_or_2 5 rfl rfl)
theorem dJ3_or_53 : decode cJ3_or 53 = .ok (.getfield 11, 3) := dk_180 0 11 (dk_at dksJ3_or_2 6 rfl rfl)
theorem dJ3_or_56 : decode cJ3_or 56 = .ok (.iload_n 3, 1) := dk_29 (dk_at dksJ3_or_2 9 rfl rfl)
theorem dJ3_or_57 : decode cJ3_or 57 = .ok (.dup2, 1) := dk_92 (dk_at dksJ3_or_2 10 rfl rfl)
theorem dJ3_or_58 : decode cJ3_or 58 = .ok (.laload, 1) := dk_47 (dk_at dksJ3_or_2 11 rfl rfl)
theorem dJ3_or_59 : decode cJ3_or 59 = .ok (.aload_n 1, 1) := dk_43 (dk_at dksJ3_or_2 12 rfl rfl)
theorem dJ3_or_60 : decode cJ3_or 60 = .ok (.getfield 11, 3) := dk_180 0 11 (dk_at dksJ3_or_2 13 rfl rfl)
theorem dJ3_or_63 : decode cJ3_or 63 = .ok (.iload_n 3, 1) := dk_29 (dk_at dksJ3_or_2 16 rfl rfl)
theorem dJ3_or_64 : decode cJ3_or 64 = .ok (.laload, 1) := dk_47 (dk_at dksJ3_or_2 17 rfl rfl)
theorem dJ3_or_65 : decode cJ3_or 65 = .ok (.lor, 1) := dk_129 (dk_at dksJ3_or_2 18 rfl rfl)
theorem dJ3_or_66 : decode cJ3_or 66 = .ok (.lastore, 1) := dk_80 (dk_at dksJ3_or_2 19 rfl rfl)
theorem dJ3_or_67 : decode cJ3_or 67 = .ok (.iinc 3 1, 3) := dk_132 3 1 (dk_at dksJ3_or_2 20 rfl rfl)
theorem dJ3_or_70 : decode cJ3_or 70 = .ok (.goto (-23), 3) := dk_167 255 233 (dk_at dksJ3_or_3 0 rfl rfl)
theorem dJ3_or_73 : decode cJ3_or 73 = .ok (.iload_n 2, 1) := dk_28 (dk_at dksJ3_or_3 3 rfl rfl)
theorem dJ3_or_74 : decode cJ3_or 74 = .ok (.aload_n 1, 1) := dk_43 (dk_at dksJ3_or_3 4 rfl rfl)
theorem dJ3_or_75 : decode cJ3_or 75 = .ok (.getfield 7, 3) := dk_180 0 7 (dk_at dksJ3_or_3 5 rfl rfl)
theorem dJ3_or_78 : decode cJ3_or 78 = .ok (.if_icmp .ge 22, 3) := dk_162 0 22 (dk_at dksJ3_or_3 8 rfl rfl)
theorem dJ3_or_81 : decode cJ3_or 81 = .ok (.aload_n 1, 1) := dk_43 (dk_at dksJ3_or_3 11 rfl rfl)
theorem dJ3_or_82 : decode cJ3_or 82 = .ok (.getfield 11, 3) := dk_180 0 11 (dk_at dksJ3_or_3 12 rfl rfl)
theorem dJ3_or_85 : decode cJ3_or 85 = .ok (.iload_n 2, 1) := dk_28 (dk_at dksJ3_or_3 15 rfl rfl)
theorem dJ3_or_86 : decode cJ3_or 86 = .ok (.aload_n 0, 1) := dk_42 (dk_at dksJ3_or_3 16 rfl rfl)
theorem dJ3_or_87 : decode cJ3_or 87 = .ok (.getfield 11, 3) := dk_180 0 11 (dk_at dksJ3_or_3 17 rfl rfl)
theorem dJ3_or_90 : decode cJ3_or 90 = .ok (.iload_n 2, 1) := dk_28 (dk_at dksJ3_or_3 20 rfl rfl)
theorem dJ3_or_91 : decode cJ3_or 91 = .ok (.aload_n 0, 1) := dk_42 (dk_at dksJ3_or_3 21 rfl rfl)
theorem dJ3_or_92 : decode cJ3_or 92 = .ok (.getfield 7, 3) := dk_180 0 7 (dk_at dksJ3_or_4 0 rfl rfl)
theorem dJ3_or_95 : decode cJ3_or 95 = .ok (.iload_n 2, 1) := dk_28 (dk_at dksJ3_or_4 3 rfl rfl)
theorem dJ3_or_96 : decode cJ3_or 96 = .ok (.isub, 1) := dk_100 (dk_at dksJ3_or_4 4 rfl rfl)
theorem dJ3_or_97 : decode cJ3_or 97 = .ok (.invokestatic 199, 3) := dk_184 0 199 (dk_at dksJ3_or_4 5 rfl rfl)
theorem dJ3_or_100 : decode cJ3_or 100 = .ok (.aload_n 0, 1) := dk_42 (dk_at dksJ3_or_4 8 rfl rfl)
theorem dJ3_or_101 : decode cJ3_or 101 = .ok (.invokevirtual 56, 3) := dk_182 0 56 (dk_at dksJ3_or_4 9 rfl rfl)
theorem dJ3_or_104 : decode cJ3_or 104 = .ok (.return_, 1) := dk_177 (dk_at dksJ3_or_4 12 rfl rfl)
abbrev cJ3_get : ByteArray := prog_54_method_26_code
def yJ3_get : MethodName := ⟨RJ3, "get", "(I)Z"⟩
def dkwJ3_get_2 : List UInt8 := [42, 180, 0, 11, 28, 47, 10, 27, 121, 127, 9, 148, 153, 0, 7, 4, 167, 0, 4, 3, 172]
abbrev dktJ3_get_2 : List UInt8 := dkwJ3_get_2 ++ []
def dkwJ3_get_1 : List UInt8 := [182, 0, 45, 183, 0, 146, 191, 42, 182, 0, 56, 27, 184, 0, 52, 61, 28, 42, 180, 0, 7, 162, 0, 22]
abbrev dktJ3_get_1 : List UInt8 := dkwJ3_get_1 ++ dktJ3_get_2
def dkwJ3_get_0 : List UInt8 := [27, 156, 0, 30, 187, 0, 142, 89, 187, 0, 33, 89, 183, 0, 35, 18, 153, 182, 0, 38, 27, 182, 0, 42]
abbrev dktJ3_get_0 : List UInt8 := dkwJ3_get_0 ++ dktJ3_get_1
theorem dksJ3_get_0 : cJ3_get.data.toList.drop 0 = dktJ3_get_0 := by decide +kernel
theorem dksJ3_get_1 : cJ3_get.data.toList.drop 24 = dktJ3_get_1 := dk_seg dksJ3_get_0 24 rfl rfl
theorem dksJ3_get_2 : cJ3_get.data.toList.drop 48 = dktJ3_get_2 := dk_seg dksJ3_get_1 24 rfl rfl
theorem dJ3_get_0 : decode cJ3_get 0 = .ok (.iload_n 1, 1) := dk_27 (dk_at dksJ3_get_0 0 rfl rfl)
theorem dJ3_get_1 : decode cJ3_get 1 = .ok (.ifCond .ge 30, 3) := dk_156 0 30 (dk_at dksJ3_get_0 1 rfl rfl)
theorem dJ3_get_4 : decode cJ3_get 4 = .ok (.new 142, 3) := dk_187 0 142 (dk_at dksJ3_get_0 4 rfl rfl)
theorem dJ3_get_7 : decode cJ3_get 7 = .ok (.dup, 1) := dk_89 (dk_at dksJ3_get_0 7 rfl rfl)
theorem dJ3_get_8 : decode cJ3_get 8 = .ok (.new 33, 3) := dk_187 0 33 (dk_at dksJ3_get_0 8 rfl rfl)
theorem dJ3_get_11 : decode cJ3_get 11 = .ok (.dup, 1) := dk_89 (dk_at dksJ3_get_0 11 rfl rfl)
theorem dJ3_get_12 : decode cJ3_get 12 = .ok (.invokespecial 35, 3) := dk_183 0 35 (dk_at dksJ3_get_0 12 rfl rfl)
theorem dJ3_get_15 : decode cJ3_get 15 = .ok (.ldc 153, 2) := dk_18 153 (dk_at dksJ3_get_0 15 rfl rfl)
theorem dJ3_get_17 : decode cJ3_get 17 = .ok (.invokevirtual 38, 3) := dk_182 0 38 (dk_at dksJ3_get_0 17 rfl rfl)
theorem dJ3_get_20 : decode cJ3_get 20 = .ok (.iload_n 1, 1) := dk_27 (dk_at dksJ3_get_0 20 rfl rfl)
theorem dJ3_get_21 : decode cJ3_get 21 = .ok (.invokevirtual 42, 3) := dk_182 0 42 (dk_at dksJ3_get_0 21 rfl rfl)
theorem dJ3_get_24 : decode cJ3_get 24 = .ok (.invokevirtual 45, 3) := dk_182 0 45 (dk_at dksJ3_get_1 0 rfl rfl)
theorem dJ3_get_27 : decode cJ3_get 27 = .ok (.invokespecial 146, 3) := dk_183 0 146 (dk_at dksJ3_get_1 3 rfl rfl)
theorem dJ3_get_30 : decode cJ3_get 30 = .ok (.athrow, 1) := dk_191 (dk_at dksJ3_get_1 6 rfl rfl)
theorem dJ3_get_31 : decode cJ3_get 31 = .ok (.aload_n 0, 1) := dk_42 (dk_at dksJ3_get_1 7 rfl rfl)
theorem dJ3_get_32 : decode cJ3_get 32 = .ok (.invokevirtual 56, 3) := dk_182 0 56 (dk_at dksJ3_get_1 8 rfl rfl)
theorem dJ3_get_35 : decode cJ3_get 35 = .ok (.iload_n 1, 1) := dk_27 (dk_at dksJ3_get_1 11 rfl rfl)
theorem dJ3_get_36 : decode cJ3_get 36 = .ok (.invokestatic 52, 3) := dk_184 0 52 (dk_at dksJ3_get_1 12 rfl rfl)
theorem dJ3_get_39 : decode cJ3_get 39 = .ok (.istore_n 2, 1) := dk_61 (dk_at dksJ3_get_1 15 rfl rfl)
theorem dJ3_get_40 : decode cJ3_get 40 = .ok (.iload_n 2, 1) := dk_28 (dk_at dksJ3_get_1 16 rfl rfl)
theorem dJ3_get_41 : decode cJ3_get 41 = .ok (.aload_n 0, 1) := dk_42 (dk_at dksJ3_get_1 17 rfl rfl)
theorem dJ3_get_42 : decode cJ3_get 42 = .ok (.getfield 7, 3) := dk_180 0 7 (dk_at dksJ3_get_1 18 rfl rfl)
theorem dJ3_get_45 : decode cJ3_get 45 = .ok (.if_icmp .ge 22, 3) := dk_162 0 22 (dk_at dksJ3_get_1 21 rfl rfl)
theorem dJ3_get_48 : decode cJ3_get 48 = .ok (.aload_n 0, 1) := dk_42 (dk_at dksJ3_get_2 0 rfl rfl)
theorem dJ3_get_49 : decode cJ3_get 49 = .ok (.getfield 11, 3) := dk_180 0 11 (dk_at dksJ3_get_2 1 rfl rfl)
theorem dJ3_get_52 : decode cJ3_get 52 = .ok (.iload_n 2, 1) := dk_28 (dk_at dksJ3_get_2 4 rfl rfl)
theorem dJ3_get_53 : decode cJ3_get 53 = .ok (.laload, 1) := dk_47 (dk_at dksJ3_get_2 5 rfl rfl)
theorem dJ3_get_54 : decode cJ3_get 54 = .ok (.lconst 1, 1) := dk_10 (dk_at dksJ3_get_2 6 rfl rfl)
theorem dJ3_get_55 : decode cJ3_get 55 = .ok (.iload_n 1, 1) := dk_27 (dk_at dksJ3_get_2 7 rfl rfl)
theorem dJ3_get_56 : decode cJ3_get 56 = .ok (.lshl, 1) := dk_121 (dk_at dksJ3_get_2 8 rfl rfl)
theorem dJ3_get_57 : decode cJ3_get 57 = .ok (.land, 1) := dk_127 (dk_at dksJ3_get_2 9 rfl rfl)
theorem dJ3_get_58 : decode cJ3_get 58 = .ok (.lconst 0, 1) := dk_9 (dk_at dksJ3_get_2 10 rfl rfl)
theorem dJ3_get_59 : decode cJ3_get 59 = .ok (.lcmp, 1) := dk_148 (dk_at dksJ3_get_2 11 rfl rfl)
theorem dJ3_get_60 : decode cJ3_get 60 = .ok (.ifCond .eq 7, 3) := dk_153 0 7 (dk_at dksJ3_get_2 12 rfl rfl)
theorem dJ3_get_63 : decode cJ3_get 63 = .ok (.iconst 1, 1) := dk_4 (dk_at dksJ3_get_2 15 rfl rfl)
theorem dJ3_get_64 : decode cJ3_get 64 = .ok (.goto 4, 3) := dk_167 0 4 (dk_at dksJ3_get_2 16 rfl rfl)
theorem dJ3_get_67 : decode cJ3_get 67 = .ok (.iconst 0, 1) := dk_3 (dk_at dksJ3_get_2 19 rfl rfl)
theorem dJ3_get_68 : decode cJ3_get 68 = .ok (.ireturn, 1) := dk_172 (dk_at dksJ3_get_2 20 rfl rfl)
abbrev cJ3_flip : ByteArray := prog_54_method_17_code
def yJ3_flip : MethodName := ⟨RJ3, "flip", "(I)V"⟩
def dkwJ3_flip_2 : List UInt8 := [10, 27, 121, 131, 80, 42, 182, 0, 158, 42, 182, 0, 56, 177]
abbrev dktJ3_flip_2 : List UInt8 := dkwJ3_flip_2 ++ []
def dkwJ3_flip_1 : List UInt8 := [182, 0, 45, 183, 0, 146, 191, 27, 184, 0, 52, 61, 42, 28, 182, 0, 155, 42, 180, 0, 11, 28, 92, 47]
abbrev dktJ3_flip_1 : List UInt8 := dkwJ3_flip_1 ++ dktJ3_flip_2
def dkwJ3_flip_0 : List UInt8 := [27, 156, 0, 30, 187, 0, 142, 89, 187, 0, 33, 89, 183, 0, 35, 18, 153, 182, 0, 38, 27, 182, 0, 42]
abbrev dktJ3_flip_0 : List UInt8 := dkwJ3_flip_0 ++ dktJ3_flip_1
theorem dksJ3_flip_0 : cJ3_flip.data.toList.drop 0 = dktJ3_flip_0 := by decide +kernel
theorem dksJ3_flip_1 : cJ3_flip.data.toList.drop 24 = dktJ3_flip_1 := dk_seg dksJ3_flip_0 24 rfl rfl
theorem dksJ3_flip_2 : cJ3_flip.data.toList.drop 48 = dktJ3_flip_2 := dk_seg dksJ3_flip_1 24 rfl rfl
theorem dJ3_flip_0 : decode cJ3_flip 0 = .ok (.iload_n 1, 1) := dk_27 (dk_at dksJ3_flip_0 0 rfl rfl)
theorem dJ3_flip_1 : decode cJ3_flip 1 = .ok (.ifCond .ge 30, 3) := dk_156 0 30 (dk_at dksJ3_flip_0 1 rfl rfl)
theorem dJ3_flip_4 : decode cJ3_flip 4 = .ok (.new 142, 3) := dk_187 0 142 (dk_at dksJ3_flip_0 4 rfl rfl)
theorem dJ3_flip_7 : decode cJ3_flip 7 = .ok (.dup, 1) := dk_89 (dk_at dksJ3_flip_0 7 rfl rfl)
theorem dJ3_flip_8 : decode cJ3_flip 8 = .ok (.new 33, 3) := dk_187 0 33 (dk_at dksJ3_flip_0 8 rfl rfl)
theorem dJ3_flip_11 : decode cJ3_flip 11 = .ok (.dup, 1) := dk_89 (dk_at dksJ3_flip_0 11 rfl rfl)
theorem dJ3_flip_12 : decode cJ3_flip 12 = .ok (.invokespecial 35, 3) := dk_183 0 35 (dk_at dksJ3_flip_0 12 rfl rfl)
theorem dJ3_flip_15 : decode cJ3_flip 15 = .ok (.ldc 153, 2) := dk_18 153 (dk_at dksJ3_flip_0 15 rfl rfl)
theorem dJ3_flip_17 : decode cJ3_flip 17 = .ok (.invokevirtual 38, 3) := dk_182 0 38 (dk_at dksJ3_flip_0 17 rfl rfl)
theorem dJ3_flip_20 : decode cJ3_flip 20 = .ok (.iload_n 1, 1) := dk_27 (dk_at dksJ3_flip_0 20 rfl rfl)
theorem dJ3_flip_21 : decode cJ3_flip 21 = .ok (.invokevirtual 42, 3) := dk_182 0 42 (dk_at dksJ3_flip_0 21 rfl rfl)
theorem dJ3_flip_24 : decode cJ3_flip 24 = .ok (.invokevirtual 45, 3) := dk_182 0 45 (dk_at dksJ3_flip_1 0 rfl rfl)
theorem dJ3_flip_27 : decode cJ3_flip 27 = .ok (.invokespecial 146, 3) := dk_183 0 146 (dk_at dksJ3_flip_1 3 rfl rfl)
theorem dJ3_flip_30 : decode cJ3_flip 30 = .ok (.athrow, 1) := dk_191 (dk_at dksJ3_flip_1 6 rfl rfl)
theorem dJ3_flip_31 : decode cJ3_flip 31 = .ok (.iload_n 1, 1) := dk_27 (dk_at dksJ3_flip_1 7 rfl rfl)
theorem dJ3_flip_32 : decode cJ3_flip 32 = .ok (.invokestatic 52, 3) := dk_184 0 52 (dk_at dksJ3_flip_1 8 rfl rfl)
theorem dJ3_flip_35 : decode cJ3_flip 35 = .ok (.istore_n 2, 1) := dk_61 (dk_at dksJ3_flip_1 11 rfl rfl)
theorem dJ3_flip_36 : decode cJ3_flip 36 = .ok (.aload_n 0, 1) := dk_42 (dk_at dksJ3_flip_1 12 rfl rfl)
theorem dJ3_flip_37 : decode cJ3_flip 37 = .ok (.iload_n 2, 1) := dk_28 (dk_at dksJ3_flip_1 13 rfl rfl)
theorem dJ3_flip_38 : decode cJ3_flip 38 = .ok (.invokevirtual 155, 3) := dk_182 0 155 (dk_at dksJ3_flip_1 14 rfl rfl)
theorem dJ3_flip_41 : decode cJ3_flip 41 = .ok (.aload_n 0, 1) := dk_42 (dk_at dksJ3_flip_1 17 rfl rfl)
theorem dJ3_flip_42 : decode cJ3_flip 42 = .ok (.getfield 11, 3) := dk_180 0 11 (dk_at dksJ3_flip_1 18 rfl rfl)
theorem dJ3_flip_45 : decode cJ3_flip 45 = .ok (.iload_n 2, 1) := dk_28 (dk_at dksJ3_flip_1 21 rfl rfl)
theorem dJ3_flip_46 : decode cJ3_flip 46 = .ok (.dup2, 1) := dk_92 (dk_at dksJ3_flip_1 22 rfl rfl)
theorem dJ3_flip_47 : decode cJ3_flip 47 = .ok (.laload, 1) := dk_47 (dk_at dksJ3_flip_1 23 rfl rfl)
theorem dJ3_flip_48 : decode cJ3_flip 48 = .ok (.lconst 1, 1) := dk_10 (dk_at dksJ3_flip_2 0 rfl rfl)
theorem dJ3_flip_49 : decode cJ3_flip 49 = .ok (.iload_n 1, 1) := dk_27 (dk_at dksJ3_flip_2 1 rfl rfl)
theorem dJ3_flip_50 : decode cJ3_flip 50 = .ok (.lshl, 1) := dk_121 (dk_at dksJ3_flip_2 2 rfl rfl)
theorem dJ3_flip_51 : decode cJ3_flip 51 = .ok (.lxor, 1) := dk_131 (dk_at dksJ3_flip_2 3 rfl rfl)
theorem dJ3_flip_52 : decode cJ3_flip 52 = .ok (.lastore, 1) := dk_80 (dk_at dksJ3_flip_2 4 rfl rfl)
theorem dJ3_flip_53 : decode cJ3_flip 53 = .ok (.aload_n 0, 1) := dk_42 (dk_at dksJ3_flip_2 5 rfl rfl)
theorem dJ3_flip_54 : decode cJ3_flip 54 = .ok (.invokevirtual 158, 3) := dk_182 0 158 (dk_at dksJ3_flip_2 6 rfl rfl)
theorem dJ3_flip_57 : decode cJ3_flip 57 = .ok (.aload_n 0, 1) := dk_42 (dk_at dksJ3_flip_2 9 rfl rfl)
theorem dJ3_flip_58 : decode cJ3_flip 58 = .ok (.invokevirtual 56, 3) := dk_182 0 56 (dk_at dksJ3_flip_2 10 rfl rfl)
theorem dJ3_flip_61 : decode cJ3_flip 61 = .ok (.return_, 1) := dk_177 (dk_at dksJ3_flip_2 13 rfl rfl)
abbrev cJ3_recalculateWordsInUse : ByteArray := prog_54_method_3_code
def yJ3_recalculateWordsInUse : MethodName := ⟨RJ3, "recalculateWordsInUse", "()V"⟩
def dkwJ3_recalculateWordsInUse_1 : List UInt8 := [167, 0, 9, 132, 1, 255, 167, 255, 235, 42, 27, 4, 96, 181, 0, 7, 177]
abbrev dktJ3_recalculateWordsInUse_1 : List UInt8 := dkwJ3_recalculateWordsInUse_1 ++ []
def dkwJ3_recalculateWordsInUse_0 : List UInt8 := [42, 180, 0, 7, 4, 100, 60, 27, 155, 0, 23, 42, 180, 0, 11, 27, 47, 9, 148, 153, 0, 6]
abbrev dktJ3_recalculateWordsInUse_0 : List UInt8 := dkwJ3_recalculateWordsInUse_0 ++ dktJ3_recalculateWordsInUse_1
theorem dksJ3_recalculateWordsInUse_0 : cJ3_recalculateWordsInUse.data.toList.drop 0 = dktJ3_recalculateWordsInUse_0 := by decide +kernel
theorem dksJ3_recalculateWordsInUse_1 : cJ3_recalculateWordsInUse.data.toList.drop 22 = dktJ3_recalculateWordsInUse_1 := dk_seg dksJ3_recalculateWordsInUse_0 22 rfl rfl
theorem dJ3_recalculateWordsInUse_0 : decode cJ3_recalculateWordsInUse 0 = .ok (.aload_n 0, 1) := dk_42 (dk_at dksJ3_recalculateWordsInUse_0 0 rfl rfl)
theorem dJ3_recalculateWordsInUse_1 : decode cJ3_recalculateWordsInUse 1 = .ok (.getfield 7, 3) := dk_180 0 7 (dk_at dksJ3_recalculateWordsInUse_0 1 rfl rfl)
theorem dJ3_recalculateWordsInUse_4 : decode cJ3_recalculateWordsInUse 4 = .ok (.iconst 1, 1) := dk_4 (dk_at dksJ3_recalculateWordsInUse_0 4 rfl rfl)
theorem dJ3_recalculateWordsInUse_5 : decode cJ3_recalculateWordsInUse 5 = .ok (.isub, 1) := dk_100 (dk_at dksJ3_recalculateWordsInUse_0 5 rfl rfl)
theorem dJ3_recalculateWordsInUse_6 : decode cJ3_recalculateWordsInUse 6 = .ok (.istore_n 1, 1) := dk_60 (dk_at dksJ3_recalculateWordsInUse_0 6 rfl rfl)
theorem dJ3_recalculateWordsInUse_7 : decode cJ3_recalculateWordsInUse 7 = .ok (.iload_n 1, 1) := dk_27 (dk_at dksJ3_recalculateWordsInUse_0 7 rfl rfl)
theorem dJ3_recalculateWordsInUse_8 : decode cJ3_recalculateWordsInUse 8 = .ok (.ifCond .lt 23, 3) := dk_155 0 23 (dk_at dksJ3_recalculateWordsInUse_0 8 rfl rfl)
theorem dJ3_recalculateWordsInUse_11 : decode cJ3_recalculateWordsInUse 11 = .ok (.aload_n 0, 1) := dk_42 (dk_at dksJ3_recalculateWordsInUse_0 11 rfl rfl)
theorem dJ3_recalculateWordsInUse_12 : decode cJ3_recalculateWordsInUse 12 = .ok (.getfield 11, 3) := dk_180 0 11 (dk_at dksJ3_recalculateWordsInUse_0 12 rfl rfl)
theorem dJ3_recalculateWordsInUse_15 : decode cJ3_recalculateWordsInUse 15 = .ok (.iload_n 1, 1) := dk_27 (dk_at dksJ3_recalculateWordsInUse_0 15 rfl rfl)
theorem dJ3_recalculateWordsInUse_16 : decode cJ3_recalculateWordsInUse 16 = .ok (.laload, 1) := dk_47 (dk_at dksJ3_recalculateWordsInUse_0 16 rfl rfl)
theorem dJ3_recalculateWordsInUse_17 : decode cJ3_recalculateWordsInUse 17 = .ok (.lconst 0, 1) := dk_9 (dk_at dksJ3_recalculateWordsInUse_0 17 rfl rfl)
theorem dJ3_recalculateWordsInUse_18 : decode cJ3_recalculateWordsInUse 18 = .ok (.lcmp, 1) := dk_148 (dk_at dksJ3_recalculateWordsInUse_0 18 rfl rfl)
theorem dJ3_recalculateWordsInUse_19 : decode cJ3_recalculateWordsInUse 19 = .ok (.ifCond .eq 6, 3) := dk_153 0 6 (dk_at dksJ3_recalculateWordsInUse_0 19 rfl rfl)
theorem dJ3_recalculateWordsInUse_22 : decode cJ3_recalculateWordsInUse 22 = .ok (.goto 9, 3) := dk_167 0 9 (dk_at dksJ3_recalculateWordsInUse_1 0 rfl rfl)
theorem dJ3_recalculateWordsInUse_25 : decode cJ3_recalculateWordsInUse 25 = .ok (.iinc 1 (-1), 3) := dk_132 1 255 (dk_at dksJ3_recalculateWordsInUse_1 3 rfl rfl)
theorem dJ3_recalculateWordsInUse_28 : decode cJ3_recalculateWordsInUse 28 = .ok (.goto (-21), 3) := dk_167 255 235 (dk_at dksJ3_recalculateWordsInUse_1 6 rfl rfl)
theorem dJ3_recalculateWordsInUse_31 : decode cJ3_recalculateWordsInUse 31 = .ok (.aload_n 0, 1) := dk_42 (dk_at dksJ3_recalculateWordsInUse_1 9 rfl rfl)
theorem dJ3_recalculateWordsInUse_32 : decode cJ3_recalculateWordsInUse 32 = .ok (.iload_n 1, 1) := dk_27 (dk_at dksJ3_recalculateWordsInUse_1 10 rfl rfl)
theorem dJ3_recalculateWordsInUse_33 : decode cJ3_recalculateWordsInUse 33 = .ok (.iconst 1, 1) := dk_4 (dk_at dksJ3_recalculateWordsInUse_1 11 rfl rfl)
theorem dJ3_recalculateWordsInUse_34 : decode cJ3_recalculateWordsInUse 34 = .ok (.iadd, 1) := dk_96 (dk_at dksJ3_recalculateWordsInUse_1 12 rfl rfl)
theorem dJ3_recalculateWordsInUse_35 : decode cJ3_recalculateWordsInUse 35 = .ok (.putfield 7, 3) := dk_181 0 7 (dk_at dksJ3_recalculateWordsInUse_1 13 rfl rfl)
theorem dJ3_recalculateWordsInUse_38 : decode cJ3_recalculateWordsInUse 38 = .ok (.return_, 1) := dk_177 (dk_at dksJ3_recalculateWordsInUse_1 16 rfl rfl)
abbrev cJ3_isEmpty : ByteArray := prog_54_method_33_code
def yJ3_isEmpty : MethodName := ⟨RJ3, "isEmpty", "()Z"⟩
def dkwJ3_isEmpty_0 : List UInt8 := [42, 180, 0, 7, 154, 0, 7, 4, 167, 0, 4, 3, 172]
abbrev dktJ3_isEmpty_0 : List UInt8 := dkwJ3_isEmpty_0 ++ []
theorem dksJ3_isEmpty_0 : cJ3_isEmpty.data.toList.drop 0 = dktJ3_isEmpty_0 := by decide +kernel
theorem dJ3_isEmpty_0 : decode cJ3_isEmpty 0 = .ok (.aload_n 0, 1) := dk_42 (dk_at dksJ3_isEmpty_0 0 rfl rfl)
theorem dJ3_isEmpty_1 : decode cJ3_isEmpty 1 = .ok (.getfield 7, 3) := dk_180 0 7 (dk_at dksJ3_isEmpty_0 1 rfl rfl)
theorem dJ3_isEmpty_4 : decode cJ3_isEmpty 4 = .ok (.ifCond .ne 7, 3) := dk_154 0 7 (dk_at dksJ3_isEmpty_0 4 rfl rfl)
theorem dJ3_isEmpty_7 : decode cJ3_isEmpty 7 = .ok (.iconst 1, 1) := dk_4 (dk_at dksJ3_isEmpty_0 7 rfl rfl)
theorem dJ3_isEmpty_8 : decode cJ3_isEmpty 8 = .ok (.goto 4, 3) := dk_167 0 4 (dk_at dksJ3_isEmpty_0 8 rfl rfl)
theorem dJ3_isEmpty_11 : decode cJ3_isEmpty 11 = .ok (.iconst 0, 1) := dk_3 (dk_at dksJ3_isEmpty_0 11 rfl rfl)
theorem dJ3_isEmpty_12 : decode cJ3_isEmpty 12 = .ok (.ireturn, 1) := dk_172 (dk_at dksJ3_isEmpty_0 12 rfl rfl)
theorem q107 : (Jvm.Cond.initialized "java/util/BitSet") ∈ lw_all := lw_g (lw_at lw_m1 6 rfl) rfl
theorem q205 : (Jvm.Cond.instantiable "java/util/BitSet" (3 : Nat)) ∈ lw_all := lw_g (lw_at lw_m1 104 rfl) rfl
theorem q207 : (Jvm.Cond.instanceMethod ({ cls := "java/util/BitSet", name := "<init>", desc := "()V" } : Jvm.MethodName)) ∈ lw_all := lw_g (lw_at lw_m1 106 rfl) rfl
theorem q208 : (Jvm.Cond.code ({ cls := "java/util/BitSet", name := "<init>", desc := "()V" } : Jvm.MethodName) prog_54_method_4_code (1 : Nat) (Option.none : Option Jvm.ClassFile.FieldType)) ∈ lw_all := lw_g (lw_at lw_m1 107 rfl) rfl
theorem q209 : (Jvm.Cond.methodLink "java/util/BitSet" (21 : Nat) ({ cls := "java/lang/Object", name := "<init>", desc := "()V" } : Jvm.MethodName)) ∈ lw_all := lw_g (lw_at lw_m1 108 rfl) rfl
theorem q210 : (Jvm.Cond.methodLink "java/util/BitSet" (27 : Nat) ({ cls := "java/util/BitSet", name := "initWords", desc := "(I)V" } : Jvm.MethodName)) ∈ lw_all := lw_g (lw_at lw_m1 109 rfl) rfl
theorem q211 : (Jvm.Cond.privateMethod ({ cls := "java/util/BitSet", name := "initWords", desc := "(I)V" } : Jvm.MethodName)) ∈ lw_tbl := lw_at lw_m1 110 rfl
theorem q212 : (Jvm.Cond.instanceMethod ({ cls := "java/util/BitSet", name := "initWords", desc := "(I)V" } : Jvm.MethodName)) ∈ lw_all := lw_g (lw_at lw_m1 111 rfl) rfl
theorem q213 : (Jvm.Cond.code ({ cls := "java/util/BitSet", name := "initWords", desc := "(I)V" } : Jvm.MethodName) prog_54_method_6_code (2 : Nat) (Option.none : Option Jvm.ClassFile.FieldType)) ∈ lw_all := lw_g (lw_at lw_m1 112 rfl) rfl
theorem q214 : (Jvm.Cond.methodLink "java/util/BitSet" (52 : Nat) ({ cls := "java/util/BitSet", name := "wordIndex", desc := "(I)I" } : Jvm.MethodName)) ∈ lw_all := lw_g (lw_at lw_m1 113 rfl) rfl
theorem q215 : (Jvm.Cond.static ({ cls := "java/util/BitSet", name := "wordIndex", desc := "(I)I" } : Jvm.MethodName)) ∈ lw_all := lw_g (lw_at lw_m1 114 rfl) rfl
theorem q216 : (Jvm.Cond.code ({ cls := "java/util/BitSet", name := "wordIndex", desc := "(I)I" } : Jvm.MethodName) prog_54_method_1_code (1 : Nat) (Option.some Jvm.ClassFile.FieldType.int)) ∈ lw_all := lw_g (lw_at lw_m1 115 rfl) rfl
theorem q217 : (Jvm.Cond.fieldLink "java/util/BitSet" (11 : Nat) "java/util/BitSet" "words" "[J") ∈ lw_all := lw_g (lw_at lw_m1 116 rfl) rfl
theorem q218 : (Jvm.Cond.fieldLink "java/util/BitSet" (7 : Nat) "java/util/BitSet" "wordsInUse" "I") ∈ lw_all := lw_g (lw_at lw_m1 117 rfl) rfl
theorem q219 : (Jvm.Cond.fieldLink "java/util/BitSet" (24 : Nat) "java/util/BitSet" "sizeIsSticky" "Z") ∈ lw_all := lw_g (lw_at lw_m1 118 rfl) rfl
theorem q220 : (Jvm.Cond.lays "java/util/BitSet" "java/util/BitSet" "words" "[J") ∈ lw_all := lw_g (lw_at lw_m1 119 rfl) rfl
theorem q221 : (Jvm.Cond.soleField "java/util/BitSet" "words") ∈ lw_all := lw_g (lw_at lw_m1 120 rfl) rfl
theorem q222 : (Jvm.Cond.lays "java/util/BitSet" "java/util/BitSet" "wordsInUse" "I") ∈ lw_all := lw_g (lw_at lw_m1 121 rfl) rfl
theorem q223 : (Jvm.Cond.soleField "java/util/BitSet" "wordsInUse") ∈ lw_all := lw_g (lw_at lw_m1 122 rfl) rfl
theorem q224 : (Jvm.Cond.lays "java/util/BitSet" "java/util/BitSet" "sizeIsSticky" "Z") ∈ lw_all := lw_g (lw_at lw_m1 123 rfl) rfl
theorem q225 : (Jvm.Cond.soleField "java/util/BitSet" "sizeIsSticky") ∈ lw_all := lw_g (lw_at lw_m1 124 rfl) rfl
theorem q226 : (Jvm.Cond.superclass "java/util/BitSet" "java/lang/Object") ∈ lw_all := lw_g (lw_at lw_m1 125 rfl) rfl
theorem q312 : (Jvm.Cond.selects "java/util/BitSet" ({ cls := "java/lang/Object", name := "getClass", desc := "()Ljava/lang/Class;" } : Jvm.MethodName) ({ cls := "java/lang/Object", name := "getClass", desc := "()Ljava/lang/Class;" } : Jvm.MethodName)) ∈ lw_all := lw_g (lw_at lw_m1 211 rfl) rfl
theorem q338 : (Jvm.Cond.instanceMethod ({ cls := "java/util/BitSet", name := "set", desc := "(I)V" } : Jvm.MethodName)) ∈ lw_all := lw_g (lw_at lw_m1 237 rfl) rfl
theorem q339 : (Jvm.Cond.selects "java/util/BitSet" ({ cls := "java/util/BitSet", name := "set", desc := "(I)V" } : Jvm.MethodName) ({ cls := "java/util/BitSet", name := "set", desc := "(I)V" } : Jvm.MethodName)) ∈ lw_all := lw_g (lw_at lw_m1 238 rfl) rfl
theorem q340 : (Jvm.Cond.code ({ cls := "java/util/BitSet", name := "set", desc := "(I)V" } : Jvm.MethodName) prog_54_method_19_code (3 : Nat) (Option.none : Option Jvm.ClassFile.FieldType)) ∈ lw_all := lw_g (lw_at lw_m1 239 rfl) rfl
theorem q341 : (Jvm.Cond.classLink "java/util/BitSet" (142 : Nat) "java/lang/IndexOutOfBoundsException") ∈ lw_all := lw_g (lw_at lw_m2 0 rfl) rfl
theorem q385 : (Jvm.Cond.classLink "java/util/BitSet" (33 : Nat) "java/lang/StringBuilder") ∈ lw_all := lw_g (lw_at lw_m2 44 rfl) rfl
theorem q387 : (Jvm.Cond.methodLink "java/util/BitSet" (35 : Nat) ({ cls := "java/lang/StringBuilder", name := "<init>", desc := "()V" } : Jvm.MethodName)) ∈ lw_all := lw_g (lw_at lw_m2 46 rfl) rfl
theorem q417 : (Jvm.Cond.stringRef "java/util/BitSet" (153 : Nat) "bitIndex < 0: ") ∈ lw_tbl := lw_at lw_m2 76 rfl
theorem q418 : (Jvm.Cond.methodLink "java/util/BitSet" (38 : Nat) ({ cls := "java/lang/StringBuilder", name := "append", desc := "(Ljava/lang/String;)Ljava/lang/StringBuilder;" } : Jvm.MethodName)) ∈ lw_all := lw_g (lw_at lw_m2 77 rfl) rfl
theorem q523 : (Jvm.Cond.methodLink "java/util/BitSet" (42 : Nat) ({ cls := "java/lang/StringBuilder", name := "append", desc := "(I)Ljava/lang/StringBuilder;" } : Jvm.MethodName)) ∈ lw_all := lw_g (lw_at lw_m2 182 rfl) rfl
theorem q548 : (Jvm.Cond.methodLink "java/util/BitSet" (45 : Nat) ({ cls := "java/lang/StringBuilder", name := "toString", desc := "()Ljava/lang/String;" } : Jvm.MethodName)) ∈ lw_all := lw_g (lw_at lw_m2 207 rfl) rfl
theorem q648 : (Jvm.Cond.methodLink "java/util/BitSet" (146 : Nat) ({ cls := "java/lang/IndexOutOfBoundsException", name := "<init>", desc := "(Ljava/lang/String;)V" } : Jvm.MethodName)) ∈ lw_all := lw_g (lw_at lw_m3 67 rfl) rfl
theorem q654 : (Jvm.Cond.methodLink "java/util/BitSet" (155 : Nat) ({ cls := "java/util/BitSet", name := "expandTo", desc := "(I)V" } : Jvm.MethodName)) ∈ lw_all := lw_g (lw_at lw_m3 73 rfl) rfl
theorem q655 : (Jvm.Cond.privateMethod ({ cls := "java/util/BitSet", name := "expandTo", desc := "(I)V" } : Jvm.MethodName)) ∈ lw_tbl := lw_at lw_m3 74 rfl
theorem q656 : (Jvm.Cond.instanceMethod ({ cls := "java/util/BitSet", name := "expandTo", desc := "(I)V" } : Jvm.MethodName)) ∈ lw_all := lw_g (lw_at lw_m3 75 rfl) rfl
theorem q657 : (Jvm.Cond.code ({ cls := "java/util/BitSet", name := "expandTo", desc := "(I)V" } : Jvm.MethodName) prog_54_method_15_code (3 : Nat) (Option.none : Option Jvm.ClassFile.FieldType)) ∈ lw_all := lw_g (lw_at lw_m3 76 rfl) rfl
theorem q658 : (Jvm.Cond.methodLink "java/util/BitSet" (139 : Nat) ({ cls := "java/util/BitSet", name := "ensureCapacity", desc := "(I)V" } : Jvm.MethodName)) ∈ lw_all := lw_g (lw_at lw_m3 77 rfl) rfl
theorem q659 : (Jvm.Cond.privateMethod ({ cls := "java/util/BitSet", name := "ensureCapacity", desc := "(I)V" } : Jvm.MethodName)) ∈ lw_tbl := lw_at lw_m3 78 rfl
theorem q660 : (Jvm.Cond.instanceMethod ({ cls := "java/util/BitSet", name := "ensureCapacity", desc := "(I)V" } : Jvm.MethodName)) ∈ lw_all := lw_g (lw_at lw_m3 79 rfl) rfl
theorem q661 : (Jvm.Cond.code ({ cls := "java/util/BitSet", name := "ensureCapacity", desc := "(I)V" } : Jvm.MethodName) prog_54_method_14_code (3 : Nat) (Option.none : Option Jvm.ClassFile.FieldType)) ∈ lw_all := lw_g (lw_at lw_m3 80 rfl) rfl
theorem q662 : (Jvm.Cond.methodLink "java/util/BitSet" (133 : Nat) ({ cls := "java/lang/Math", name := "max", desc := "(II)I" } : Jvm.MethodName)) ∈ lw_all := lw_g (lw_at lw_m3 81 rfl) rfl
theorem q663 : (Jvm.Cond.methodLink "java/util/BitSet" (59 : Nat) ({ cls := "java/util/Arrays", name := "copyOf", desc := "([JI)[J" } : Jvm.MethodName)) ∈ lw_all := lw_g (lw_at lw_m3 82 rfl) rfl
theorem q671 : (Jvm.Cond.methodLink "java/util/BitSet" (56 : Nat) ({ cls := "java/util/BitSet", name := "checkInvariants", desc := "()V" } : Jvm.MethodName)) ∈ lw_all := lw_g (lw_at lw_m3 90 rfl) rfl
theorem q672 : (Jvm.Cond.privateMethod ({ cls := "java/util/BitSet", name := "checkInvariants", desc := "()V" } : Jvm.MethodName)) ∈ lw_tbl := lw_at lw_m3 91 rfl
theorem q673 : (Jvm.Cond.instanceMethod ({ cls := "java/util/BitSet", name := "checkInvariants", desc := "()V" } : Jvm.MethodName)) ∈ lw_all := lw_g (lw_at lw_m3 92 rfl) rfl
theorem q674 : (Jvm.Cond.code ({ cls := "java/util/BitSet", name := "checkInvariants", desc := "()V" } : Jvm.MethodName) prog_54_method_2_code (1 : Nat) (Option.none : Option Jvm.ClassFile.FieldType)) ∈ lw_all := lw_g (lw_at lw_m3 93 rfl) rfl
theorem q675 : (Jvm.Cond.fieldLink "java/util/BitSet" (3 : Nat) "java/util/BitSet" "$assertionsDisabled" "Z") ∈ lw_all := lw_g (lw_at lw_m3 94 rfl) rfl
theorem q676 : (Jvm.Cond.laysStatic "java/util/BitSet" "$assertionsDisabled" "Z") ∈ lw_tbl := lw_at lw_m3 95 rfl
theorem q1184 : (Jvm.Cond.instanceMethod ({ cls := "java/util/BitSet", name := "or", desc := "(Ljava/util/BitSet;)V" } : Jvm.MethodName)) ∈ lw_all := lw_g (lw_at lw_m5 123 rfl) rfl
theorem q1185 : (Jvm.Cond.selects "java/util/BitSet" ({ cls := "java/util/BitSet", name := "or", desc := "(Ljava/util/BitSet;)V" } : Jvm.MethodName) ({ cls := "java/util/BitSet", name := "or", desc := "(Ljava/util/BitSet;)V" } : Jvm.MethodName)) ∈ lw_all := lw_g (lw_at lw_m5 124 rfl) rfl
theorem q1186 : (Jvm.Cond.code ({ cls := "java/util/BitSet", name := "or", desc := "(Ljava/util/BitSet;)V" } : Jvm.MethodName) prog_54_method_37_code (4 : Nat) (Option.none : Option Jvm.ClassFile.FieldType)) ∈ lw_all := lw_g (lw_at lw_m5 125 rfl) rfl
theorem q1187 : (Jvm.Cond.methodLink "java/util/BitSet" (193 : Nat) ({ cls := "java/lang/Math", name := "min", desc := "(II)I" } : Jvm.MethodName)) ∈ lw_all := lw_g (lw_at lw_m5 126 rfl) rfl
theorem q1188 : (Jvm.Cond.methodLink "java/util/BitSet" (199 : Nat) ({ cls := "java/lang/System", name := "arraycopy", desc := "(Ljava/lang/Object;ILjava/lang/Object;II)V" } : Jvm.MethodName)) ∈ lw_all := lw_g (lw_at lw_m5 127 rfl) rfl
theorem q1236 : (Jvm.Cond.instanceMethod ({ cls := "java/util/BitSet", name := "get", desc := "(I)Z" } : Jvm.MethodName)) ∈ lw_all := lw_g (lw_at lw_m5 175 rfl) rfl
theorem q1237 : (Jvm.Cond.selects "java/util/BitSet" ({ cls := "java/util/BitSet", name := "get", desc := "(I)Z" } : Jvm.MethodName) ({ cls := "java/util/BitSet", name := "get", desc := "(I)Z" } : Jvm.MethodName)) ∈ lw_all := lw_g (lw_at lw_m5 176 rfl) rfl
theorem q1238 : (Jvm.Cond.code ({ cls := "java/util/BitSet", name := "get", desc := "(I)Z" } : Jvm.MethodName) prog_54_method_26_code (3 : Nat) (Option.some Jvm.ClassFile.FieldType.boolean)) ∈ lw_all := lw_g (lw_at lw_m5 177 rfl) rfl
theorem q2092 : (Jvm.Cond.instanceMethod ({ cls := "java/util/BitSet", name := "flip", desc := "(I)V" } : Jvm.MethodName)) ∈ lw_all := lw_g (lw_at lw_m9 71 rfl) rfl
theorem q2093 : (Jvm.Cond.selects "java/util/BitSet" ({ cls := "java/util/BitSet", name := "flip", desc := "(I)V" } : Jvm.MethodName) ({ cls := "java/util/BitSet", name := "flip", desc := "(I)V" } : Jvm.MethodName)) ∈ lw_all := lw_g (lw_at lw_m9 72 rfl) rfl
theorem q2094 : (Jvm.Cond.code ({ cls := "java/util/BitSet", name := "flip", desc := "(I)V" } : Jvm.MethodName) prog_54_method_17_code (3 : Nat) (Option.none : Option Jvm.ClassFile.FieldType)) ∈ lw_all := lw_g (lw_at lw_m9 73 rfl) rfl
theorem q2095 : (Jvm.Cond.methodLink "java/util/BitSet" (158 : Nat) ({ cls := "java/util/BitSet", name := "recalculateWordsInUse", desc := "()V" } : Jvm.MethodName)) ∈ lw_all := lw_g (lw_at lw_m9 74 rfl) rfl
theorem q2096 : (Jvm.Cond.privateMethod ({ cls := "java/util/BitSet", name := "recalculateWordsInUse", desc := "()V" } : Jvm.MethodName)) ∈ lw_tbl := lw_at lw_m9 75 rfl
theorem q2097 : (Jvm.Cond.instanceMethod ({ cls := "java/util/BitSet", name := "recalculateWordsInUse", desc := "()V" } : Jvm.MethodName)) ∈ lw_all := lw_g (lw_at lw_m9 76 rfl) rfl
theorem q2098 : (Jvm.Cond.code ({ cls := "java/util/BitSet", name := "recalculateWordsInUse", desc := "()V" } : Jvm.MethodName) prog_54_method_3_code (2 : Nat) (Option.none : Option Jvm.ClassFile.FieldType)) ∈ lw_all := lw_g (lw_at lw_m9 77 rfl) rfl
theorem q2468 : (Jvm.Cond.instanceMethod ({ cls := "java/util/BitSet", name := "isEmpty", desc := "()Z" } : Jvm.MethodName)) ∈ lw_all := lw_g (lw_at lw_m10 207 rfl) rfl
theorem q2469 : (Jvm.Cond.selects "java/util/BitSet" ({ cls := "java/util/BitSet", name := "isEmpty", desc := "()Z" } : Jvm.MethodName) ({ cls := "java/util/BitSet", name := "isEmpty", desc := "()Z" } : Jvm.MethodName)) ∈ lw_all := lw_g (lw_at lw_m10 208 rfl) rfl
theorem q2470 : (Jvm.Cond.code ({ cls := "java/util/BitSet", name := "isEmpty", desc := "()Z" } : Jvm.MethodName) prog_54_method_33_code (1 : Nat) (Option.some Jvm.ClassFile.FieldType.boolean)) ∈ lw_all := lw_g (lw_at lw_m10 209 rfl) rfl
theorem q3299 : (Jvm.Cond.castable "java/util/BitSet" "java/lang/Object") ∈ lw_tbl := lw_at lw_m14 78 rfl
theorem in_J3 : ∀ w ∈ wsJ30, w ∈ lw_all := lw_in wsJ30 [220, 222, 224] (by decide +kernel) (by decide +kernel)
/-! java/lang/Character -/
set_option maxRecDepth 100000
def RJ30 : String := "java/lang/Character"
theorem q141 : (Jvm.Cond.initialized "java/lang/Character") ∈ lw_all := lw_g (lw_at lw_m1 40 rfl) rfl
theorem q2206 : (Jvm.Cond.static ({ cls := "java/lang/Character", name := "isValidCodePoint", desc := "(I)Z" } : Jvm.MethodName)) ∈ lw_all := lw_g (lw_at lw_m9 185 rfl) rfl
theorem q2207 : (Jvm.Cond.code ({ cls := "java/lang/Character", name := "isValidCodePoint", desc := "(I)Z" } : Jvm.MethodName) prog_21_method_11_code (2 : Nat) (Option.some Jvm.ClassFile.FieldType.boolean)) ∈ lw_all := lw_g (lw_at lw_m9 186 rfl) rfl
theorem q2209 : (Jvm.Cond.static ({ cls := "java/lang/Character", name := "highSurrogate", desc := "(I)C" } : Jvm.MethodName)) ∈ lw_all := lw_g (lw_at lw_m9 188 rfl) rfl
theorem q2210 : (Jvm.Cond.code ({ cls := "java/lang/Character", name := "highSurrogate", desc := "(I)C" } : Jvm.MethodName) prog_21_method_28_code (1 : Nat) (Option.some Jvm.ClassFile.FieldType.char)) ∈ lw_all := lw_g (lw_at lw_m9 189 rfl) rfl
theorem q2211 : (Jvm.Cond.constant "java/lang/Character" (110 : Nat) (55232 : Int32)) ∈ lw_all := lw_g (lw_at lw_m9 190 rfl) rfl
theorem q2213 : (Jvm.Cond.static ({ cls := "java/lang/Character", name := "lowSurrogate", desc := "(I)C" } : Jvm.MethodName)) ∈ lw_all := lw_g (lw_at lw_m9 192 rfl) rfl
theorem q2214 : (Jvm.Cond.code ({ cls := "java/lang/Character", name := "lowSurrogate", desc := "(I)C" } : Jvm.MethodName) prog_21_method_29_code (1 : Nat) (Option.some Jvm.ClassFile.FieldType.char)) ∈ lw_all := lw_g (lw_at lw_m9 193 rfl) rfl
theorem q2215 : (Jvm.Cond.constant "java/lang/Character" (76 : Nat) (56320 : Int32)) ∈ lw_all := lw_g (lw_at lw_m9 194 rfl) rfl
/-! java/util/ArrayDeque$DeqIterator -/
set_option maxRecDepth 100000
def RJ31 : String := "java/util/ArrayDeque$DeqIterator"
def TJ31 : u_T := fun k => match k with
  | 0 => ("java/util/ArrayDeque$DeqIterator", "cursor", "I", false)
  | 1 => ("java/util/ArrayDeque$DeqIterator", "remaining", "I", false)
  | 2 => ("java/util/ArrayDeque$DeqIterator", "lastRet", "I", false)
  | _ => ("java/util/ArrayDeque$DeqIterator", "this$0", "Ljava/util/ArrayDeque;", true)
def tyJ31 : Nat → FieldType := fun k => match k with
  | 0 => .int
  | 1 => .int
  | 2 => .int
  | _ => .object "java/util/ArrayDeque"
abbrev wsJ310 : List Cond := u_ws RJ31 TJ31 4
theorem nmJ31 : ∀ a, a < 4 → ∀ b, b < 4 → a ≠ b → (TJ31 a).2.1 ≠ (TJ31 b).2.1 := by decide +kernel
theorem tyJ31_ok : ∀ k, k < 4 → parseFieldDescriptor (TJ31 k).2.2.1 = some (tyJ31 k) := by decide +kernel
theorem q142 : (Jvm.Cond.initialized "java/util/ArrayDeque$DeqIterator") ∈ lw_all := lw_g (lw_at lw_m1 41 rfl) rfl
theorem q309 : (Jvm.Cond.selects "java/util/ArrayDeque$DeqIterator" ({ cls := "java/lang/Object", name := "getClass", desc := "()Ljava/lang/Class;" } : Jvm.MethodName) ({ cls := "java/lang/Object", name := "getClass", desc := "()Ljava/lang/Class;" } : Jvm.MethodName)) ∈ lw_all := lw_g (lw_at lw_m1 208 rfl) rfl
theorem q904 : (Jvm.Cond.fieldLink "java/util/ArrayDeque$DeqIterator" (35 : Nat) "java/util/ArrayDeque" "elements" "[Ljava/lang/Object;") ∈ lw_all := lw_g (lw_at lw_m4 83 rfl) rfl
theorem q905 : (Jvm.Cond.fieldLink "java/util/ArrayDeque$DeqIterator" (26 : Nat) "java/util/ArrayDeque" "head" "I") ∈ lw_all := lw_g (lw_at lw_m4 84 rfl) rfl
theorem q1300 : (Jvm.Cond.castable "java/util/ArrayDeque$DeqIterator" "java/util/Iterator") ∈ lw_tbl := lw_at lw_m5 239 rfl
theorem q1301 : (Jvm.Cond.selects "java/util/ArrayDeque$DeqIterator" ({ cls := "java/util/Iterator", name := "hasNext", desc := "()Z" } : Jvm.MethodName) ({ cls := "java/util/ArrayDeque$DeqIterator", name := "hasNext", desc := "()Z" } : Jvm.MethodName)) ∈ lw_all := lw_g (lw_at lw_m6 0 rfl) rfl
theorem q1302 : (Jvm.Cond.unhidden "java/util/ArrayDeque$DeqIterator" "hasNext" "()Z") ∈ lw_tbl := lw_at lw_m6 1 rfl
theorem q1303 : (Jvm.Cond.instanceMethod ({ cls := "java/util/ArrayDeque$DeqIterator", name := "hasNext", desc := "()Z" } : Jvm.MethodName)) ∈ lw_all := lw_g (lw_at lw_m6 2 rfl) rfl
theorem q1304 : (Jvm.Cond.publicMethod ({ cls := "java/util/ArrayDeque$DeqIterator", name := "hasNext", desc := "()Z" } : Jvm.MethodName)) ∈ lw_tbl := lw_at lw_m6 3 rfl
theorem q1305 : (Jvm.Cond.code ({ cls := "java/util/ArrayDeque$DeqIterator", name := "hasNext", desc := "()Z" } : Jvm.MethodName) prog_50_method_2_code (1 : Nat) (Option.some Jvm.ClassFile.FieldType.boolean)) ∈ lw_all := lw_g (lw_at lw_m6 4 rfl) rfl
theorem q1329 : (Jvm.Cond.selects "java/util/ArrayDeque$DeqIterator" ({ cls := "java/util/Iterator", name := "next", desc := "()Ljava/lang/Object;" } : Jvm.MethodName) ({ cls := "java/util/ArrayDeque$DeqIterator", name := "next", desc := "()Ljava/lang/Object;" } : Jvm.MethodName)) ∈ lw_all := lw_g (lw_at lw_m6 28 rfl) rfl
theorem q1330 : (Jvm.Cond.unhidden "java/util/ArrayDeque$DeqIterator" "next" "()Ljava/lang/Object;") ∈ lw_tbl := lw_at lw_m6 29 rfl
theorem q1331 : (Jvm.Cond.instanceMethod ({ cls := "java/util/ArrayDeque$DeqIterator", name := "next", desc := "()Ljava/lang/Object;" } : Jvm.MethodName)) ∈ lw_all := lw_g (lw_at lw_m6 30 rfl) rfl
theorem q1332 : (Jvm.Cond.publicMethod ({ cls := "java/util/ArrayDeque$DeqIterator", name := "next", desc := "()Ljava/lang/Object;" } : Jvm.MethodName)) ∈ lw_tbl := lw_at lw_m6 31 rfl
theorem q1333 : (Jvm.Cond.code ({ cls := "java/util/ArrayDeque$DeqIterator", name := "next", desc := "()Ljava/lang/Object;" } : Jvm.MethodName) prog_50_method_3_code (3 : Nat) (Option.some (Jvm.ClassFile.FieldType.object "java/lang/Object"))) ∈ lw_all := lw_g (lw_at lw_m6 32 rfl) rfl
theorem q1334 : (Jvm.Cond.classLink "java/util/ArrayDeque$DeqIterator" (32 : Nat) "java/util/NoSuchElementException") ∈ lw_all := lw_g (lw_at lw_m6 33 rfl) rfl
theorem q1335 : (Jvm.Cond.methodLink "java/util/ArrayDeque$DeqIterator" (34 : Nat) ({ cls := "java/util/NoSuchElementException", name := "<init>", desc := "()V" } : Jvm.MethodName)) ∈ lw_all := lw_g (lw_at lw_m6 34 rfl) rfl
theorem q1336 : (Jvm.Cond.methodLink "java/util/ArrayDeque$DeqIterator" (39 : Nat) ({ cls := "java/util/ArrayDeque", name := "nonNullElementAt", desc := "([Ljava/lang/Object;I)Ljava/lang/Object;" } : Jvm.MethodName)) ∈ lw_all := lw_g (lw_at lw_m6 35 rfl) rfl
theorem q1339 : (Jvm.Cond.methodLink "java/util/ArrayDeque$DeqIterator" (43 : Nat) ({ cls := "java/util/ArrayDeque", name := "inc", desc := "(II)I" } : Jvm.MethodName)) ∈ lw_all := lw_g (lw_at lw_m6 38 rfl) rfl
theorem q2269 : (Jvm.Cond.instantiable "java/util/ArrayDeque$DeqIterator" (4 : Nat)) ∈ lw_all := lw_g (lw_at lw_m10 8 rfl) rfl
theorem q2271 : (Jvm.Cond.instanceMethod ({ cls := "java/util/ArrayDeque$DeqIterator", name := "<init>", desc := "(Ljava/util/ArrayDeque;)V" } : Jvm.MethodName)) ∈ lw_all := lw_g (lw_at lw_m10 10 rfl) rfl
theorem q2272 : (Jvm.Cond.code ({ cls := "java/util/ArrayDeque$DeqIterator", name := "<init>", desc := "(Ljava/util/ArrayDeque;)V" } : Jvm.MethodName) prog_50_method_1_code (2 : Nat) (Option.none : Option Jvm.ClassFile.FieldType)) ∈ lw_all := lw_g (lw_at lw_m10 11 rfl) rfl
theorem q2273 : (Jvm.Cond.methodLink "java/util/ArrayDeque$DeqIterator" (7 : Nat) ({ cls := "java/lang/Object", name := "<init>", desc := "()V" } : Jvm.MethodName)) ∈ lw_all := lw_g (lw_at lw_m10 12 rfl) rfl
theorem q2274 : (Jvm.Cond.methodLink "java/util/ArrayDeque$DeqIterator" (13 : Nat) ({ cls := "java/util/ArrayDeque", name := "size", desc := "()I" } : Jvm.MethodName)) ∈ lw_all := lw_g (lw_at lw_m10 13 rfl) rfl
theorem q2275 : (Jvm.Cond.fieldLink "java/util/ArrayDeque$DeqIterator" (29 : Nat) "java/util/ArrayDeque$DeqIterator" "cursor" "I") ∈ lw_all := lw_g (lw_at lw_m10 14 rfl) rfl
theorem q2276 : (Jvm.Cond.fieldLink "java/util/ArrayDeque$DeqIterator" (19 : Nat) "java/util/ArrayDeque$DeqIterator" "remaining" "I") ∈ lw_all := lw_g (lw_at lw_m10 15 rfl) rfl
theorem q2277 : (Jvm.Cond.fieldLink "java/util/ArrayDeque$DeqIterator" (23 : Nat) "java/util/ArrayDeque$DeqIterator" "lastRet" "I") ∈ lw_all := lw_g (lw_at lw_m10 16 rfl) rfl
theorem q2278 : (Jvm.Cond.fieldLink "java/util/ArrayDeque$DeqIterator" (1 : Nat) "java/util/ArrayDeque$DeqIterator" "this$0" "Ljava/util/ArrayDeque;") ∈ lw_all := lw_g (lw_at lw_m10 17 rfl) rfl
theorem q2279 : (Jvm.Cond.lays "java/util/ArrayDeque$DeqIterator" "java/util/ArrayDeque$DeqIterator" "cursor" "I") ∈ lw_all := lw_g (lw_at lw_m10 18 rfl) rfl
theorem q2280 : (Jvm.Cond.soleField "java/util/ArrayDeque$DeqIterator" "cursor") ∈ lw_all := lw_g (lw_at lw_m10 19 rfl) rfl
theorem q2281 : (Jvm.Cond.lays "java/util/ArrayDeque$DeqIterator" "java/util/ArrayDeque$DeqIterator" "remaining" "I") ∈ lw_all := lw_g (lw_at lw_m10 20 rfl) rfl
theorem q2282 : (Jvm.Cond.soleField "java/util/ArrayDeque$DeqIterator" "remaining") ∈ lw_all := lw_g (lw_at lw_m10 21 rfl) rfl
theorem q2283 : (Jvm.Cond.lays "java/util/ArrayDeque$DeqIterator" "java/util/ArrayDeque$DeqIterator" "lastRet" "I") ∈ lw_all := lw_g (lw_at lw_m10 22 rfl) rfl
theorem q2284 : (Jvm.Cond.soleField "java/util/ArrayDeque$DeqIterator" "lastRet") ∈ lw_all := lw_g (lw_at lw_m10 23 rfl) rfl
theorem q2285 : (Jvm.Cond.laysFinal "java/util/ArrayDeque$DeqIterator" "java/util/ArrayDeque$DeqIterator" "this$0" "Ljava/util/ArrayDeque;") ∈ lw_all := lw_g (lw_at lw_m10 24 rfl) rfl
theorem q2286 : (Jvm.Cond.soleField "java/util/ArrayDeque$DeqIterator" "this$0") ∈ lw_all := lw_g (lw_at lw_m10 25 rfl) rfl
theorem q2287 : (Jvm.Cond.superclass "java/util/ArrayDeque$DeqIterator" "java/lang/Object") ∈ lw_all := lw_g (lw_at lw_m10 26 rfl) rfl
theorem q3326 : (Jvm.Cond.castable "java/util/ArrayDeque$DeqIterator" "java/lang/Object") ∈ lw_tbl := lw_at lw_m14 105 rfl
theorem in_J31 : ∀ w ∈ wsJ310, w ∈ lw_all := lw_in wsJ310 [2279, 2281, 2283, 2285] (by decide +kernel) (by decide +kernel)
/-! java/util/PriorityQueue$Itr -/
set_option maxRecDepth 100000
def RJ32 : String := "java/util/PriorityQueue$Itr"
def TJ32 : u_T := fun k => match k with
  | 0 => ("java/util/PriorityQueue$Itr", "cursor", "I", false)
  | 1 => ("java/util/PriorityQueue$Itr", "lastRet", "I", false)
  | 2 => ("java/util/PriorityQueue$Itr", "forgetMeNot", "Ljava/util/ArrayDeque;", false)
  | 3 => ("java/util/PriorityQueue$Itr", "lastRetElt", "Ljava/lang/Object;", false)
  | 4 => ("java/util/PriorityQueue$Itr", "expectedModCount", "I", false)
  | _ => ("java/util/PriorityQueue$Itr", "this$0", "Ljava/util/PriorityQueue;", true)
def tyJ32 : Nat → FieldType := fun k => match k with
  | 0 => .int
  | 1 => .int
  | 2 => .object "java/util/ArrayDeque"
  | 3 => .object "java/lang/Object"
  | 4 => .int
  | _ => .object "java/util/PriorityQueue"
abbrev wsJ320 : List Cond := u_ws RJ32 TJ32 6
theorem nmJ32 : ∀ a, a < 6 → ∀ b, b < 6 → a ≠ b → (TJ32 a).2.1 ≠ (TJ32 b).2.1 := by decide +kernel
theorem tyJ32_ok : ∀ k, k < 6 → parseFieldDescriptor (TJ32 k).2.2.1 = some (tyJ32 k) := by decide +kernel
theorem q143 : (Jvm.Cond.initialized "java/util/PriorityQueue$Itr") ∈ lw_all := lw_g (lw_at lw_m1 42 rfl) rfl
theorem q315 : (Jvm.Cond.selects "java/util/PriorityQueue$Itr" ({ cls := "java/lang/Object", name := "getClass", desc := "()Ljava/lang/Class;" } : Jvm.MethodName) ({ cls := "java/lang/Object", name := "getClass", desc := "()Ljava/lang/Class;" } : Jvm.MethodName)) ∈ lw_all := lw_g (lw_at lw_m1 214 rfl) rfl
theorem q1312 : (Jvm.Cond.castable "java/util/PriorityQueue$Itr" "java/util/Iterator") ∈ lw_tbl := lw_at lw_m6 11 rfl
theorem q1313 : (Jvm.Cond.selects "java/util/PriorityQueue$Itr" ({ cls := "java/util/Iterator", name := "hasNext", desc := "()Z" } : Jvm.MethodName) ({ cls := "java/util/PriorityQueue$Itr", name := "hasNext", desc := "()Z" } : Jvm.MethodName)) ∈ lw_all := lw_g (lw_at lw_m6 12 rfl) rfl
theorem q1314 : (Jvm.Cond.unhidden "java/util/PriorityQueue$Itr" "hasNext" "()Z") ∈ lw_tbl := lw_at lw_m6 13 rfl
theorem q1315 : (Jvm.Cond.instanceMethod ({ cls := "java/util/PriorityQueue$Itr", name := "hasNext", desc := "()Z" } : Jvm.MethodName)) ∈ lw_all := lw_g (lw_at lw_m6 14 rfl) rfl
theorem q1316 : (Jvm.Cond.publicMethod ({ cls := "java/util/PriorityQueue$Itr", name := "hasNext", desc := "()Z" } : Jvm.MethodName)) ∈ lw_tbl := lw_at lw_m6 15 rfl
theorem q1317 : (Jvm.Cond.code ({ cls := "java/util/PriorityQueue$Itr", name := "hasNext", desc := "()Z" } : Jvm.MethodName) prog_67_method_2_code (1 : Nat) (Option.some Jvm.ClassFile.FieldType.boolean)) ∈ lw_all := lw_g (lw_at lw_m6 16 rfl) rfl
theorem q1318 : (Jvm.Cond.methodLink "java/util/PriorityQueue$Itr" (35 : Nat) ({ cls := "java/util/ArrayDeque", name := "isEmpty", desc := "()Z" } : Jvm.MethodName)) ∈ lw_all := lw_g (lw_at lw_m6 17 rfl) rfl
theorem q1351 : (Jvm.Cond.selects "java/util/PriorityQueue$Itr" ({ cls := "java/util/Iterator", name := "next", desc := "()Ljava/lang/Object;" } : Jvm.MethodName) ({ cls := "java/util/PriorityQueue$Itr", name := "next", desc := "()Ljava/lang/Object;" } : Jvm.MethodName)) ∈ lw_all := lw_g (lw_at lw_m6 50 rfl) rfl
theorem q1352 : (Jvm.Cond.unhidden "java/util/PriorityQueue$Itr" "next" "()Ljava/lang/Object;") ∈ lw_tbl := lw_at lw_m6 51 rfl
theorem q1353 : (Jvm.Cond.instanceMethod ({ cls := "java/util/PriorityQueue$Itr", name := "next", desc := "()Ljava/lang/Object;" } : Jvm.MethodName)) ∈ lw_all := lw_g (lw_at lw_m6 52 rfl) rfl
theorem q1354 : (Jvm.Cond.publicMethod ({ cls := "java/util/PriorityQueue$Itr", name := "next", desc := "()Ljava/lang/Object;" } : Jvm.MethodName)) ∈ lw_tbl := lw_at lw_m6 53 rfl
theorem q1355 : (Jvm.Cond.code ({ cls := "java/util/PriorityQueue$Itr", name := "next", desc := "()Ljava/lang/Object;" } : Jvm.MethodName) prog_67_method_3_code (1 : Nat) (Option.some (Jvm.ClassFile.FieldType.object "java/lang/Object"))) ∈ lw_all := lw_g (lw_at lw_m6 54 rfl) rfl
theorem q1356 : (Jvm.Cond.methodLink "java/util/PriorityQueue$Itr" (48 : Nat) ({ cls := "java/util/ArrayDeque", name := "poll", desc := "()Ljava/lang/Object;" } : Jvm.MethodName)) ∈ lw_all := lw_g (lw_at lw_m6 55 rfl) rfl
theorem q1360 : (Jvm.Cond.classLink "java/util/PriorityQueue$Itr" (56 : Nat) "java/util/NoSuchElementException") ∈ lw_all := lw_g (lw_at lw_m6 59 rfl) rfl
theorem q1361 : (Jvm.Cond.methodLink "java/util/PriorityQueue$Itr" (58 : Nat) ({ cls := "java/util/NoSuchElementException", name := "<init>", desc := "()V" } : Jvm.MethodName)) ∈ lw_all := lw_g (lw_at lw_m6 60 rfl) rfl
theorem q1452 : (Jvm.Cond.fieldLink "java/util/PriorityQueue$Itr" (44 : Nat) "java/util/PriorityQueue" "queue" "[Ljava/lang/Object;") ∈ lw_all := lw_g (lw_at lw_m6 151 rfl) rfl
theorem q1454 : (Jvm.Cond.fieldLink "java/util/PriorityQueue$Itr" (28 : Nat) "java/util/PriorityQueue" "size" "I") ∈ lw_all := lw_g (lw_at lw_m6 153 rfl) rfl
theorem q1457 : (Jvm.Cond.fieldLink "java/util/PriorityQueue$Itr" (17 : Nat) "java/util/PriorityQueue" "modCount" "I") ∈ lw_all := lw_g (lw_at lw_m6 156 rfl) rfl
theorem q2293 : (Jvm.Cond.instantiable "java/util/PriorityQueue$Itr" (6 : Nat)) ∈ lw_all := lw_g (lw_at lw_m10 32 rfl) rfl
theorem q2295 : (Jvm.Cond.instanceMethod ({ cls := "java/util/PriorityQueue$Itr", name := "<init>", desc := "(Ljava/util/PriorityQueue;)V" } : Jvm.MethodName)) ∈ lw_all := lw_g (lw_at lw_m10 34 rfl) rfl
theorem q2296 : (Jvm.Cond.code ({ cls := "java/util/PriorityQueue$Itr", name := "<init>", desc := "(Ljava/util/PriorityQueue;)V" } : Jvm.MethodName) prog_67_method_1_code (2 : Nat) (Option.none : Option Jvm.ClassFile.FieldType)) ∈ lw_all := lw_g (lw_at lw_m10 35 rfl) rfl
theorem q2297 : (Jvm.Cond.methodLink "java/util/PriorityQueue$Itr" (7 : Nat) ({ cls := "java/lang/Object", name := "<init>", desc := "()V" } : Jvm.MethodName)) ∈ lw_all := lw_g (lw_at lw_m10 36 rfl) rfl
theorem q2298 : (Jvm.Cond.fieldLink "java/util/PriorityQueue$Itr" (25 : Nat) "java/util/PriorityQueue$Itr" "cursor" "I") ∈ lw_all := lw_g (lw_at lw_m10 37 rfl) rfl
theorem q2299 : (Jvm.Cond.fieldLink "java/util/PriorityQueue$Itr" (13 : Nat) "java/util/PriorityQueue$Itr" "lastRet" "I") ∈ lw_all := lw_g (lw_at lw_m10 38 rfl) rfl
theorem q2300 : (Jvm.Cond.fieldLink "java/util/PriorityQueue$Itr" (31 : Nat) "java/util/PriorityQueue$Itr" "forgetMeNot" "Ljava/util/ArrayDeque;") ∈ lw_all := lw_g (lw_at lw_m10 39 rfl) rfl
theorem q2301 : (Jvm.Cond.fieldLink "java/util/PriorityQueue$Itr" (52 : Nat) "java/util/PriorityQueue$Itr" "lastRetElt" "Ljava/lang/Object;") ∈ lw_all := lw_g (lw_at lw_m10 40 rfl) rfl
theorem q2302 : (Jvm.Cond.fieldLink "java/util/PriorityQueue$Itr" (22 : Nat) "java/util/PriorityQueue$Itr" "expectedModCount" "I") ∈ lw_all := lw_g (lw_at lw_m10 41 rfl) rfl
theorem q2303 : (Jvm.Cond.fieldLink "java/util/PriorityQueue$Itr" (1 : Nat) "java/util/PriorityQueue$Itr" "this$0" "Ljava/util/PriorityQueue;") ∈ lw_all := lw_g (lw_at lw_m10 42 rfl) rfl
theorem q2304 : (Jvm.Cond.lays "java/util/PriorityQueue$Itr" "java/util/PriorityQueue$Itr" "cursor" "I") ∈ lw_all := lw_g (lw_at lw_m10 43 rfl) rfl
theorem q2305 : (Jvm.Cond.soleField "java/util/PriorityQueue$Itr" "cursor") ∈ lw_all := lw_g (lw_at lw_m10 44 rfl) rfl
theorem q2306 : (Jvm.Cond.lays "java/util/PriorityQueue$Itr" "java/util/PriorityQueue$Itr" "lastRet" "I") ∈ lw_all := lw_g (lw_at lw_m10 45 rfl) rfl
theorem q2307 : (Jvm.Cond.soleField "java/util/PriorityQueue$Itr" "lastRet") ∈ lw_all := lw_g (lw_at lw_m10 46 rfl) rfl
theorem q2308 : (Jvm.Cond.lays "java/util/PriorityQueue$Itr" "java/util/PriorityQueue$Itr" "forgetMeNot" "Ljava/util/ArrayDeque;") ∈ lw_all := lw_g (lw_at lw_m10 47 rfl) rfl
theorem q2309 : (Jvm.Cond.soleField "java/util/PriorityQueue$Itr" "forgetMeNot") ∈ lw_all := lw_g (lw_at lw_m10 48 rfl) rfl
theorem q2310 : (Jvm.Cond.lays "java/util/PriorityQueue$Itr" "java/util/PriorityQueue$Itr" "lastRetElt" "Ljava/lang/Object;") ∈ lw_all := lw_g (lw_at lw_m10 49 rfl) rfl
theorem q2311 : (Jvm.Cond.soleField "java/util/PriorityQueue$Itr" "lastRetElt") ∈ lw_all := lw_g (lw_at lw_m10 50 rfl) rfl
theorem q2312 : (Jvm.Cond.lays "java/util/PriorityQueue$Itr" "java/util/PriorityQueue$Itr" "expectedModCount" "I") ∈ lw_all := lw_g (lw_at lw_m10 51 rfl) rfl
theorem q2313 : (Jvm.Cond.soleField "java/util/PriorityQueue$Itr" "expectedModCount") ∈ lw_all := lw_g (lw_at lw_m10 52 rfl) rfl
theorem q2314 : (Jvm.Cond.laysFinal "java/util/PriorityQueue$Itr" "java/util/PriorityQueue$Itr" "this$0" "Ljava/util/PriorityQueue;") ∈ lw_all := lw_g (lw_at lw_m10 53 rfl) rfl
theorem q2315 : (Jvm.Cond.soleField "java/util/PriorityQueue$Itr" "this$0") ∈ lw_all := lw_g (lw_at lw_m10 54 rfl) rfl
theorem q2316 : (Jvm.Cond.superclass "java/util/PriorityQueue$Itr" "java/lang/Object") ∈ lw_all := lw_g (lw_at lw_m10 55 rfl) rfl
theorem q3327 : (Jvm.Cond.castable "java/util/PriorityQueue$Itr" "java/lang/Object") ∈ lw_tbl := lw_at lw_m14 106 rfl
theorem in_J32 : ∀ w ∈ wsJ320, w ∈ lw_all := lw_in wsJ320 [2304, 2306, 2308, 2310, 2312, 2314] (by decide +kernel) (by decide +kernel)
/-! java/util/TreeMap$PrivateEntryIterator -/
set_option maxRecDepth 100000
def RJ33 : String := "java/util/TreeMap$PrivateEntryIterator"
theorem q144 : (Jvm.Cond.initialized "java/util/TreeMap$PrivateEntryIterator") ∈ lw_all := lw_g (lw_at lw_m1 43 rfl) rfl
theorem q1322 : (Jvm.Cond.instanceMethod ({ cls := "java/util/TreeMap$PrivateEntryIterator", name := "hasNext", desc := "()Z" } : Jvm.MethodName)) ∈ lw_all := lw_g (lw_at lw_m6 21 rfl) rfl
theorem q1323 : (Jvm.Cond.publicMethod ({ cls := "java/util/TreeMap$PrivateEntryIterator", name := "hasNext", desc := "()Z" } : Jvm.MethodName)) ∈ lw_tbl := lw_at lw_m6 22 rfl
theorem q1324 : (Jvm.Cond.code ({ cls := "java/util/TreeMap$PrivateEntryIterator", name := "hasNext", desc := "()Z" } : Jvm.MethodName) prog_81_method_2_code (1 : Nat) (Option.some Jvm.ClassFile.FieldType.boolean)) ∈ lw_all := lw_g (lw_at lw_m6 23 rfl) rfl
theorem q1369 : (Jvm.Cond.declares ({ cls := "java/util/TreeMap$PrivateEntryIterator", name := "nextEntry", desc := "()Ljava/util/TreeMap$Entry;" } : Jvm.MethodName)) ∈ lw_tbl := lw_at lw_m6 68 rfl
theorem q1371 : (Jvm.Cond.instanceMethod ({ cls := "java/util/TreeMap$PrivateEntryIterator", name := "nextEntry", desc := "()Ljava/util/TreeMap$Entry;" } : Jvm.MethodName)) ∈ lw_all := lw_g (lw_at lw_m6 70 rfl) rfl
theorem q1372 : (Jvm.Cond.code ({ cls := "java/util/TreeMap$PrivateEntryIterator", name := "nextEntry", desc := "()Ljava/util/TreeMap$Entry;" } : Jvm.MethodName) prog_81_method_3_code (2 : Nat) (Option.some (Jvm.ClassFile.FieldType.object "java/util/TreeMap$Entry"))) ∈ lw_all := lw_g (lw_at lw_m6 71 rfl) rfl
theorem q1373 : (Jvm.Cond.classLink "java/util/TreeMap$PrivateEntryIterator" (29 : Nat) "java/util/NoSuchElementException") ∈ lw_all := lw_g (lw_at lw_m6 72 rfl) rfl
theorem q1374 : (Jvm.Cond.methodLink "java/util/TreeMap$PrivateEntryIterator" (31 : Nat) ({ cls := "java/util/NoSuchElementException", name := "<init>", desc := "()V" } : Jvm.MethodName)) ∈ lw_all := lw_g (lw_at lw_m6 73 rfl) rfl
theorem q1375 : (Jvm.Cond.methodLink "java/util/TreeMap$PrivateEntryIterator" (35 : Nat) ({ cls := "java/util/TreeMap", name := "successor", desc := "(Ljava/util/TreeMap$Entry;)Ljava/util/TreeMap$Entry;" } : Jvm.MethodName)) ∈ lw_all := lw_g (lw_at lw_m6 74 rfl) rfl
theorem q1766 : (Jvm.Cond.fieldLinkNest "java/util/TreeMap$PrivateEntryIterator" (13 : Nat) "java/util/TreeMap" "modCount" "I" "java/util/TreeMap") ∈ lw_tbl := lw_at lw_m7 225 rfl
theorem q2335 : (Jvm.Cond.instanceMethod ({ cls := "java/util/TreeMap$PrivateEntryIterator", name := "<init>", desc := "(Ljava/util/TreeMap;Ljava/util/TreeMap$Entry;)V" } : Jvm.MethodName)) ∈ lw_all := lw_g (lw_at lw_m10 74 rfl) rfl
theorem q2336 : (Jvm.Cond.code ({ cls := "java/util/TreeMap$PrivateEntryIterator", name := "<init>", desc := "(Ljava/util/TreeMap;Ljava/util/TreeMap$Entry;)V" } : Jvm.MethodName) prog_81_method_1_code (3 : Nat) (Option.none : Option Jvm.ClassFile.FieldType)) ∈ lw_all := lw_g (lw_at lw_m10 75 rfl) rfl
theorem q2337 : (Jvm.Cond.methodLink "java/util/TreeMap$PrivateEntryIterator" (7 : Nat) ({ cls := "java/lang/Object", name := "<init>", desc := "()V" } : Jvm.MethodName)) ∈ lw_all := lw_g (lw_at lw_m10 76 rfl) rfl
theorem q2338 : (Jvm.Cond.fieldLink "java/util/TreeMap$PrivateEntryIterator" (26 : Nat) "java/util/TreeMap$PrivateEntryIterator" "next" "Ljava/util/TreeMap$Entry;") ∈ lw_all := lw_g (lw_at lw_m10 77 rfl) rfl
theorem q2339 : (Jvm.Cond.fieldLink "java/util/TreeMap$PrivateEntryIterator" (22 : Nat) "java/util/TreeMap$PrivateEntryIterator" "lastReturned" "Ljava/util/TreeMap$Entry;") ∈ lw_all := lw_g (lw_at lw_m10 78 rfl) rfl
theorem q2340 : (Jvm.Cond.fieldLink "java/util/TreeMap$PrivateEntryIterator" (19 : Nat) "java/util/TreeMap$PrivateEntryIterator" "expectedModCount" "I") ∈ lw_all := lw_g (lw_at lw_m10 79 rfl) rfl
theorem q2341 : (Jvm.Cond.fieldLink "java/util/TreeMap$PrivateEntryIterator" (1 : Nat) "java/util/TreeMap$PrivateEntryIterator" "this$0" "Ljava/util/TreeMap;") ∈ lw_all := lw_g (lw_at lw_m10 80 rfl) rfl
theorem q2343 : (Jvm.Cond.soleField "java/util/TreeMap$PrivateEntryIterator" "next") ∈ lw_all := lw_g (lw_at lw_m10 82 rfl) rfl
theorem q2345 : (Jvm.Cond.soleField "java/util/TreeMap$PrivateEntryIterator" "lastReturned") ∈ lw_all := lw_g (lw_at lw_m10 84 rfl) rfl
theorem q2347 : (Jvm.Cond.soleField "java/util/TreeMap$PrivateEntryIterator" "expectedModCount") ∈ lw_all := lw_g (lw_at lw_m10 86 rfl) rfl
theorem q2349 : (Jvm.Cond.soleField "java/util/TreeMap$PrivateEntryIterator" "this$0") ∈ lw_all := lw_g (lw_at lw_m10 88 rfl) rfl
/-! java/util/TreeMap$KeyIterator -/
set_option maxRecDepth 100000
def RJ34 : String := "java/util/TreeMap$KeyIterator"
def TJ34 : u_T := fun k => match k with
  | 0 => ("java/util/TreeMap$PrivateEntryIterator", "next", "Ljava/util/TreeMap$Entry;", false)
  | 1 => ("java/util/TreeMap$PrivateEntryIterator", "lastReturned", "Ljava/util/TreeMap$Entry;", false)
  | 2 => ("java/util/TreeMap$PrivateEntryIterator", "expectedModCount", "I", false)
  | _ => ("java/util/TreeMap$PrivateEntryIterator", "this$0", "Ljava/util/TreeMap;", true)
def tyJ34 : Nat → FieldType := fun k => match k with
  | 0 => .object "java/util/TreeMap$Entry"
  | 1 => .object "java/util/TreeMap$Entry"
  | 2 => .int
  | _ => .object "java/util/TreeMap"
abbrev wsJ340 : List Cond := u_ws RJ34 TJ34 4
theorem nmJ34 : ∀ a, a < 4 → ∀ b, b < 4 → a ≠ b → (TJ34 a).2.1 ≠ (TJ34 b).2.1 := by decide +kernel
theorem tyJ34_ok : ∀ k, k < 4 → parseFieldDescriptor (TJ34 k).2.2.1 = some (tyJ34 k) := by decide +kernel
theorem q145 : (Jvm.Cond.initialized "java/util/TreeMap$KeyIterator") ∈ lw_all := lw_g (lw_at lw_m1 44 rfl) rfl
theorem q318 : (Jvm.Cond.selects "java/util/TreeMap$KeyIterator" ({ cls := "java/lang/Object", name := "getClass", desc := "()Ljava/lang/Class;" } : Jvm.MethodName) ({ cls := "java/lang/Object", name := "getClass", desc := "()Ljava/lang/Class;" } : Jvm.MethodName)) ∈ lw_all := lw_g (lw_at lw_m1 217 rfl) rfl
theorem q1319 : (Jvm.Cond.castable "java/util/TreeMap$KeyIterator" "java/util/Iterator") ∈ lw_tbl := lw_at lw_m6 18 rfl
theorem q1320 : (Jvm.Cond.selects "java/util/TreeMap$KeyIterator" ({ cls := "java/util/Iterator", name := "hasNext", desc := "()Z" } : Jvm.MethodName) ({ cls := "java/util/TreeMap$PrivateEntryIterator", name := "hasNext", desc := "()Z" } : Jvm.MethodName)) ∈ lw_all := lw_g (lw_at lw_m6 19 rfl) rfl
theorem q1321 : (Jvm.Cond.unhidden "java/util/TreeMap$KeyIterator" "hasNext" "()Z") ∈ lw_tbl := lw_at lw_m6 20 rfl
theorem q1362 : (Jvm.Cond.selects "java/util/TreeMap$KeyIterator" ({ cls := "java/util/Iterator", name := "next", desc := "()Ljava/lang/Object;" } : Jvm.MethodName) ({ cls := "java/util/TreeMap$KeyIterator", name := "next", desc := "()Ljava/lang/Object;" } : Jvm.MethodName)) ∈ lw_all := lw_g (lw_at lw_m6 61 rfl) rfl
theorem q1363 : (Jvm.Cond.unhidden "java/util/TreeMap$KeyIterator" "next" "()Ljava/lang/Object;") ∈ lw_tbl := lw_at lw_m6 62 rfl
theorem q1364 : (Jvm.Cond.instanceMethod ({ cls := "java/util/TreeMap$KeyIterator", name := "next", desc := "()Ljava/lang/Object;" } : Jvm.MethodName)) ∈ lw_all := lw_g (lw_at lw_m6 63 rfl) rfl
theorem q1365 : (Jvm.Cond.publicMethod ({ cls := "java/util/TreeMap$KeyIterator", name := "next", desc := "()Ljava/lang/Object;" } : Jvm.MethodName)) ∈ lw_tbl := lw_at lw_m6 64 rfl
theorem q1366 : (Jvm.Cond.code ({ cls := "java/util/TreeMap$KeyIterator", name := "next", desc := "()Ljava/lang/Object;" } : Jvm.MethodName) prog_78_method_2_code (1 : Nat) (Option.some (Jvm.ClassFile.FieldType.object "java/lang/Object"))) ∈ lw_all := lw_g (lw_at lw_m6 65 rfl) rfl
theorem q1367 : (Jvm.Cond.methodLink "java/util/TreeMap$KeyIterator" (7 : Nat) ({ cls := "java/util/TreeMap$KeyIterator", name := "nextEntry", desc := "()Ljava/util/TreeMap$Entry;" } : Jvm.MethodName)) ∈ lw_all := lw_g (lw_at lw_m6 66 rfl) rfl
theorem q1368 : (Jvm.Cond.sameMethod "java/util/TreeMap$KeyIterator" "java/util/TreeMap$PrivateEntryIterator" "nextEntry" "()Ljava/util/TreeMap$Entry;") ∈ lw_all := lw_g (lw_at lw_m6 67 rfl) rfl
theorem q1370 : (Jvm.Cond.selects "java/util/TreeMap$KeyIterator" ({ cls := "java/util/TreeMap$KeyIterator", name := "nextEntry", desc := "()Ljava/util/TreeMap$Entry;" } : Jvm.MethodName) ({ cls := "java/util/TreeMap$PrivateEntryIterator", name := "nextEntry", desc := "()Ljava/util/TreeMap$Entry;" } : Jvm.MethodName)) ∈ lw_all := lw_g (lw_at lw_m6 69 rfl) rfl
theorem q1834 : (Jvm.Cond.fieldLink "java/util/TreeMap$KeyIterator" (13 : Nat) "java/util/TreeMap$Entry" "key" "Ljava/lang/Object;") ∈ lw_all := lw_g (lw_at lw_m8 53 rfl) rfl
theorem q2326 : (Jvm.Cond.instantiable "java/util/TreeMap$KeyIterator" (4 : Nat)) ∈ lw_all := lw_g (lw_at lw_m10 65 rfl) rfl
theorem q2332 : (Jvm.Cond.instanceMethod ({ cls := "java/util/TreeMap$KeyIterator", name := "<init>", desc := "(Ljava/util/TreeMap;Ljava/util/TreeMap$Entry;)V" } : Jvm.MethodName)) ∈ lw_all := lw_g (lw_at lw_m10 71 rfl) rfl
theorem q2333 : (Jvm.Cond.code ({ cls := "java/util/TreeMap$KeyIterator", name := "<init>", desc := "(Ljava/util/TreeMap;Ljava/util/TreeMap$Entry;)V" } : Jvm.MethodName) prog_78_method_1_code (3 : Nat) (Option.none : Option Jvm.ClassFile.FieldType)) ∈ lw_all := lw_g (lw_at lw_m10 72 rfl) rfl
theorem q2334 : (Jvm.Cond.methodLink "java/util/TreeMap$KeyIterator" (1 : Nat) ({ cls := "java/util/TreeMap$PrivateEntryIterator", name := "<init>", desc := "(Ljava/util/TreeMap;Ljava/util/TreeMap$Entry;)V" } : Jvm.MethodName)) ∈ lw_all := lw_g (lw_at lw_m10 73 rfl) rfl
theorem q2342 : (Jvm.Cond.lays "java/util/TreeMap$KeyIterator" "java/util/TreeMap$PrivateEntryIterator" "next" "Ljava/util/TreeMap$Entry;") ∈ lw_all := lw_g (lw_at lw_m10 81 rfl) rfl
theorem q2344 : (Jvm.Cond.lays "java/util/TreeMap$KeyIterator" "java/util/TreeMap$PrivateEntryIterator" "lastReturned" "Ljava/util/TreeMap$Entry;") ∈ lw_all := lw_g (lw_at lw_m10 83 rfl) rfl
theorem q2346 : (Jvm.Cond.lays "java/util/TreeMap$KeyIterator" "java/util/TreeMap$PrivateEntryIterator" "expectedModCount" "I") ∈ lw_all := lw_g (lw_at lw_m10 85 rfl) rfl
theorem q2348 : (Jvm.Cond.laysFinal "java/util/TreeMap$KeyIterator" "java/util/TreeMap$PrivateEntryIterator" "this$0" "Ljava/util/TreeMap;") ∈ lw_all := lw_g (lw_at lw_m10 87 rfl) rfl
theorem q2350 : (Jvm.Cond.superclass "java/util/TreeMap$KeyIterator" "java/util/TreeMap$PrivateEntryIterator") ∈ lw_all := lw_g (lw_at lw_m10 89 rfl) rfl
theorem q3329 : (Jvm.Cond.castable "java/util/TreeMap$KeyIterator" "java/lang/Object") ∈ lw_tbl := lw_at lw_m14 108 rfl
theorem in_J34 : ∀ w ∈ wsJ340, w ∈ lw_all := lw_in wsJ340 [2342, 2344, 2346, 2348] (by decide +kernel) (by decide +kernel)
/-! java/util/AbstractSet -/
set_option maxRecDepth 100000
def RJ35 : String := "java/util/AbstractSet"
abbrev cJ35_init : ByteArray := prog_48_method_1_code
def yJ35_init : MethodName := ⟨RJ35, "<init>", "()V"⟩
theorem dJ35_init_0 : decode cJ35_init 0 = .ok (.aload_n 0, 1) := by decide +kernel
theorem dJ35_init_1 : decode cJ35_init 1 = .ok (.invokespecial 1, 3) := by decide +kernel
theorem dJ35_init_4 : decode cJ35_init 4 = .ok (.return_, 1) := by decide +kernel
theorem q146 : (Jvm.Cond.initialized "java/util/AbstractSet") ∈ lw_all := lw_g (lw_at lw_m1 45 rfl) rfl
theorem q2373 : (Jvm.Cond.instanceMethod ({ cls := "java/util/AbstractSet", name := "<init>", desc := "()V" } : Jvm.MethodName)) ∈ lw_all := lw_g (lw_at lw_m10 112 rfl) rfl
theorem q2374 : (Jvm.Cond.code ({ cls := "java/util/AbstractSet", name := "<init>", desc := "()V" } : Jvm.MethodName) prog_48_method_1_code (1 : Nat) (Option.none : Option Jvm.ClassFile.FieldType)) ∈ lw_all := lw_g (lw_at lw_m10 113 rfl) rfl
theorem q2375 : (Jvm.Cond.methodLink "java/util/AbstractSet" (1 : Nat) ({ cls := "java/util/AbstractCollection", name := "<init>", desc := "()V" } : Jvm.MethodName)) ∈ lw_all := lw_g (lw_at lw_m10 114 rfl) rfl
/-! java/util/TreeMap$KeySet -/
set_option maxRecDepth 100000
def RJ36 : String := "java/util/TreeMap$KeySet"
def TJ36 : u_T := fun k => match k with
  | _ => ("java/util/TreeMap$KeySet", "m", "Ljava/util/NavigableMap;", true)
def tyJ36 : Nat → FieldType := fun k => match k with
  | _ => .object "java/util/NavigableMap"
abbrev wsJ360 : List Cond := u_ws RJ36 TJ36 1
theorem nmJ36 : ∀ a, a < 1 → ∀ b, b < 1 → a ≠ b → (TJ36 a).2.1 ≠ (TJ36 b).2.1 := by decide +kernel
theorem tyJ36_ok : ∀ k, k < 1 → parseFieldDescriptor (TJ36 k).2.2.1 = some (tyJ36 k) := by decide +kernel
theorem q147 : (Jvm.Cond.initialized "java/util/TreeMap$KeySet") ∈ lw_all := lw_g (lw_at lw_m1 46 rfl) rfl
theorem q319 : (Jvm.Cond.selects "java/util/TreeMap$KeySet" ({ cls := "java/lang/Object", name := "getClass", desc := "()Ljava/lang/Class;" } : Jvm.MethodName) ({ cls := "java/lang/Object", name := "getClass", desc := "()Ljava/lang/Class;" } : Jvm.MethodName)) ∈ lw_all := lw_g (lw_at lw_m1 218 rfl) rfl
theorem q1689 : (Jvm.Cond.selects "java/util/TreeMap$KeySet" ({ cls := "java/util/AbstractCollection", name := "size", desc := "()I" } : Jvm.MethodName) ({ cls := "java/util/TreeMap$KeySet", name := "size", desc := "()I" } : Jvm.MethodName)) ∈ lw_all := lw_g (lw_at lw_m7 148 rfl) rfl
theorem q1690 : (Jvm.Cond.instanceMethod ({ cls := "java/util/TreeMap$KeySet", name := "size", desc := "()I" } : Jvm.MethodName)) ∈ lw_all := lw_g (lw_at lw_m7 149 rfl) rfl
theorem q1691 : (Jvm.Cond.code ({ cls := "java/util/TreeMap$KeySet", name := "size", desc := "()I" } : Jvm.MethodName) prog_79_method_4_code (1 : Nat) (Option.some Jvm.ClassFile.FieldType.int)) ∈ lw_all := lw_g (lw_at lw_m7 150 rfl) rfl
theorem q1692 : (Jvm.Cond.interfaceEntry "java/util/TreeMap$KeySet" (26 : Nat)) ∈ lw_tbl := lw_at lw_m7 151 rfl
theorem q2255 : (Jvm.Cond.castable "java/util/TreeMap$KeySet" "java/util/Collection") ∈ lw_tbl := lw_at lw_m9 234 rfl
theorem q2256 : (Jvm.Cond.selects "java/util/TreeMap$KeySet" ({ cls := "java/util/Collection", name := "toArray", desc := "()[Ljava/lang/Object;" } : Jvm.MethodName) ({ cls := "java/util/AbstractCollection", name := "toArray", desc := "()[Ljava/lang/Object;" } : Jvm.MethodName)) ∈ lw_all := lw_g (lw_at lw_m9 235 rfl) rfl
theorem q2257 : (Jvm.Cond.unhidden "java/util/TreeMap$KeySet" "toArray" "()[Ljava/lang/Object;") ∈ lw_tbl := lw_at lw_m9 236 rfl
theorem q2317 : (Jvm.Cond.selects "java/util/TreeMap$KeySet" ({ cls := "java/util/AbstractCollection", name := "iterator", desc := "()Ljava/util/Iterator;" } : Jvm.MethodName) ({ cls := "java/util/TreeMap$KeySet", name := "iterator", desc := "()Ljava/util/Iterator;" } : Jvm.MethodName)) ∈ lw_all := lw_g (lw_at lw_m10 56 rfl) rfl
theorem q2318 : (Jvm.Cond.instanceMethod ({ cls := "java/util/TreeMap$KeySet", name := "iterator", desc := "()Ljava/util/Iterator;" } : Jvm.MethodName)) ∈ lw_all := lw_g (lw_at lw_m10 57 rfl) rfl
theorem q2319 : (Jvm.Cond.code ({ cls := "java/util/TreeMap$KeySet", name := "iterator", desc := "()Ljava/util/Iterator;" } : Jvm.MethodName) prog_79_method_2_code (1 : Nat) (Option.some (Jvm.ClassFile.FieldType.object "java/util/Iterator"))) ∈ lw_all := lw_g (lw_at lw_m10 58 rfl) rfl
theorem q2320 : (Jvm.Cond.classLink "java/util/TreeMap$KeySet" (13 : Nat) "java/util/TreeMap") ∈ lw_all := lw_g (lw_at lw_m10 59 rfl) rfl
theorem q2321 : (Jvm.Cond.methodLink "java/util/TreeMap$KeySet" (15 : Nat) ({ cls := "java/util/TreeMap", name := "keyIterator", desc := "()Ljava/util/Iterator;" } : Jvm.MethodName)) ∈ lw_all := lw_g (lw_at lw_m10 60 rfl) rfl
theorem q2351 : (Jvm.Cond.classLink "java/util/TreeMap$KeySet" (19 : Nat) "java/util/TreeMap$NavigableSubMap") ∈ lw_all := lw_g (lw_at lw_m10 90 rfl) rfl
theorem q2352 : (Jvm.Cond.methodLink "java/util/TreeMap$KeySet" (21 : Nat) ({ cls := "java/util/TreeMap$NavigableSubMap", name := "keyIterator", desc := "()Ljava/util/Iterator;" } : Jvm.MethodName)) ∈ lw_all := lw_g (lw_at lw_m10 91 rfl) rfl
theorem q2368 : (Jvm.Cond.instantiable "java/util/TreeMap$KeySet" (1 : Nat)) ∈ lw_all := lw_g (lw_at lw_m10 107 rfl) rfl
theorem q2370 : (Jvm.Cond.instanceMethod ({ cls := "java/util/TreeMap$KeySet", name := "<init>", desc := "(Ljava/util/NavigableMap;)V" } : Jvm.MethodName)) ∈ lw_all := lw_g (lw_at lw_m10 109 rfl) rfl
theorem q2371 : (Jvm.Cond.code ({ cls := "java/util/TreeMap$KeySet", name := "<init>", desc := "(Ljava/util/NavigableMap;)V" } : Jvm.MethodName) prog_79_method_1_code (2 : Nat) (Option.none : Option Jvm.ClassFile.FieldType)) ∈ lw_all := lw_g (lw_at lw_m10 110 rfl) rfl
theorem q2372 : (Jvm.Cond.methodLink "java/util/TreeMap$KeySet" (1 : Nat) ({ cls := "java/util/AbstractSet", name := "<init>", desc := "()V" } : Jvm.MethodName)) ∈ lw_all := lw_g (lw_at lw_m10 111 rfl) rfl
theorem q2376 : (Jvm.Cond.fieldLink "java/util/TreeMap$KeySet" (7 : Nat) "java/util/TreeMap$KeySet" "m" "Ljava/util/NavigableMap;") ∈ lw_all := lw_g (lw_at lw_m10 115 rfl) rfl
theorem q2377 : (Jvm.Cond.laysFinal "java/util/TreeMap$KeySet" "java/util/TreeMap$KeySet" "m" "Ljava/util/NavigableMap;") ∈ lw_all := lw_g (lw_at lw_m10 116 rfl) rfl
theorem q2378 : (Jvm.Cond.soleField "java/util/TreeMap$KeySet" "m") ∈ lw_all := lw_g (lw_at lw_m10 117 rfl) rfl
theorem q2379 : (Jvm.Cond.superclass "java/util/TreeMap$KeySet" "java/util/AbstractSet") ∈ lw_all := lw_g (lw_at lw_m10 118 rfl) rfl
theorem q2384 : (Jvm.Cond.castable "java/util/TreeMap$KeySet" "java/util/NavigableSet") ∈ lw_tbl := lw_at lw_m10 123 rfl
theorem q2385 : (Jvm.Cond.selects "java/util/TreeMap$KeySet" ({ cls := "java/util/NavigableSet", name := "iterator", desc := "()Ljava/util/Iterator;" } : Jvm.MethodName) ({ cls := "java/util/TreeMap$KeySet", name := "iterator", desc := "()Ljava/util/Iterator;" } : Jvm.MethodName)) ∈ lw_all := lw_g (lw_at lw_m10 124 rfl) rfl
theorem q2386 : (Jvm.Cond.unhidden "java/util/TreeMap$KeySet" "iterator" "()Ljava/util/Iterator;") ∈ lw_tbl := lw_at lw_m10 125 rfl
theorem q2387 : (Jvm.Cond.publicMethod ({ cls := "java/util/TreeMap$KeySet", name := "iterator", desc := "()Ljava/util/Iterator;" } : Jvm.MethodName)) ∈ lw_tbl := lw_at lw_m10 126 rfl
theorem q3328 : (Jvm.Cond.castable "java/util/TreeMap$KeySet" "java/lang/Object") ∈ lw_tbl := lw_at lw_m14 107 rfl
theorem in_J36 : ∀ w ∈ wsJ360, w ∈ lw_all := lw_in wsJ360 [2377] (by decide +kernel) (by decide +kernel)
/-! java/util/AbstractQueue -/
set_option maxRecDepth 100000
def RJ37 : String := "java/util/AbstractQueue"
abbrev cJ37_init : ByteArray := prog_47_method_1_code
def yJ37_init : MethodName := ⟨RJ37, "<init>", "()V"⟩
theorem dJ37_init_0 : decode cJ37_init 0 = .ok (.aload_n 0, 1) := by decide +kernel
theorem dJ37_init_1 : decode cJ37_init 1 = .ok (.invokespecial 1, 3) := by decide +kernel
theorem dJ37_init_4 : decode cJ37_init 4 = .ok (.return_, 1) := by decide +kernel
theorem q150 : (Jvm.Cond.initialized "java/util/AbstractQueue") ∈ lw_all := lw_g (lw_at lw_m1 49 rfl) rfl
theorem q1443 : (Jvm.Cond.instanceMethod ({ cls := "java/util/AbstractQueue", name := "<init>", desc := "()V" } : Jvm.MethodName)) ∈ lw_all := lw_g (lw_at lw_m6 142 rfl) rfl
theorem q1444 : (Jvm.Cond.code ({ cls := "java/util/AbstractQueue", name := "<init>", desc := "()V" } : Jvm.MethodName) prog_47_method_1_code (1 : Nat) (Option.none : Option Jvm.ClassFile.FieldType)) ∈ lw_all := lw_g (lw_at lw_m6 143 rfl) rfl
theorem q1445 : (Jvm.Cond.methodLink "java/util/AbstractQueue" (1 : Nat) ({ cls := "java/util/AbstractCollection", name := "<init>", desc := "()V" } : Jvm.MethodName)) ∈ lw_all := lw_g (lw_at lw_m6 144 rfl) rfl
/-! java/util/PriorityQueue -/
set_option maxRecDepth 100000
def RJ38 : String := "java/util/PriorityQueue"
def TJ38 : u_T := fun k => match k with
  | 0 => ("java/util/PriorityQueue", "queue", "[Ljava/lang/Object;", false)
  | 1 => ("java/util/PriorityQueue", "size", "I", false)
  | 2 => ("java/util/PriorityQueue", "comparator", "Ljava/util/Comparator;", true)
  | _ => ("java/util/PriorityQueue", "modCount", "I", false)
def tyJ38 : Nat → FieldType := fun k => match k with
  | 0 => .array (.object "java/lang/Object")
  | 1 => .int
  | 2 => .object "java/util/Comparator"
  | _ => .int
abbrev wsJ380 : List Cond := u_ws RJ38 TJ38 4
theorem nmJ38 : ∀ a, a < 4 → ∀ b, b < 4 → a ≠ b → (TJ38 a).2.1 ≠ (TJ38 b).2.1 := by decide +kernel
theorem tyJ38_ok : ∀ k, k < 4 → parseFieldDescriptor (TJ38 k).2.2.1 = some (tyJ38 k) := by decide +kernel
abbrev cJ38_init : ByteArray := prog_66_method_1_code
def yJ38_init : MethodName := ⟨RJ38, "<init>", "()V"⟩
def dkwJ38_init_0 : List UInt8 := [42, 16, 11, 1, 183, 0, 3, 177]
abbrev dktJ38_init_0 : List UInt8 := dkwJ38_init_0 ++ []
theorem dksJ38_init_0 : cJ38_init.data.toList.drop 0 = dktJ38_init_0 := by decide +kernel
theorem dJ38_init_0 : decode cJ38_init 0 = .ok (.aload_n 0, 1) := dk_42 (dk_at dksJ38_init_0 0 rfl rfl)
theorem dJ38_init_1 : decode cJ38_init 1 = .ok (.bipush 11, 2) := dk_16 11 (dk_at dksJ38_init_0 1 rfl rfl)
theorem dJ38_init_3 : decode cJ38_init 3 = .ok (.aconst_null, 1) := dk_1 (dk_at dksJ38_init_0 3 rfl rfl)
theorem dJ38_init_4 : decode cJ38_init 4 = .ok (.invokespecial 3, 3) := dk_183 0 3 (dk_at dksJ38_init_0 4 rfl rfl)
theorem dJ38_init_7 : decode cJ38_init 7 = .ok (.return_, 1) := dk_177 (dk_at dksJ38_init_0 7 rfl rfl)
abbrev cJ38_init_2 : ByteArray := prog_66_method_4_code
def yJ38_init_2 : MethodName := ⟨RJ38, "<init>", "(ILjava/util/Comparator;)V"⟩
def dkwJ38_init_2_1 : List UInt8 := [181, 0, 17, 42, 44, 181, 0, 21, 177]
abbrev dktJ38_init_2_1 : List UInt8 := dkwJ38_init_2_1 ++ []
def dkwJ38_init_2_0 : List UInt8 := [42, 183, 0, 7, 27, 4, 162, 0, 11, 187, 0, 12, 89, 183, 0, 14, 191, 42, 27, 189, 0, 15]
abbrev dktJ38_init_2_0 : List UInt8 := dkwJ38_init_2_0 ++ dktJ38_init_2_1
theorem dksJ38_init_2_0 : cJ38_init_2.data.toList.drop 0 = dktJ38_init_2_0 := by decide +kernel
theorem dksJ38_init_2_1 : cJ38_init_2.data.toList.drop 22 = dktJ38_init_2_1 := dk_seg dksJ38_init_2_0 22 rfl rfl
theorem dJ38_init_2_0 : decode cJ38_init_2 0 = .ok (.aload_n 0, 1) := dk_42 (dk_at dksJ38_init_2_0 0 rfl rfl)
theorem dJ38_init_2_1 : decode cJ38_init_2 1 = .ok (.invokespecial 7, 3) := dk_183 0 7 (dk_at dksJ38_init_2_0 1 rfl rfl)
theorem dJ38_init_2_4 : decode cJ38_init_2 4 = .ok (.iload_n 1, 1) := dk_27 (dk_at dksJ38_init_2_0 4 rfl rfl)
theorem dJ38_init_2_5 : decode cJ38_init_2 5 = .ok (.iconst 1, 1) := dk_4 (dk_at dksJ38_init_2_0 5 rfl rfl)
theorem dJ38_init_2_6 : decode cJ38_init_2 6 = .ok (.if_icmp .ge 11, 3) := dk_162 0 11 (dk_at dksJ38_init_2_0 6 rfl rfl)
theorem dJ38_init_2_9 : decode cJ38_init_2 9 = .ok (.new 12, 3) := dk_187 0 12 (dk_at dksJ38_init_2_0 9 rfl rfl)
theorem dJ38_init_2_12 : decode cJ38_init_2 12 = .ok (.dup, 1) := dk_89 (dk_at dksJ38_init_2_0 12 rfl rfl)
theorem dJ38_init_2_13 : decode cJ38_init_2 13 = .ok (.invokespecial 14, 3) := dk_183 0 14 (dk_at dksJ38_init_2_0 13 rfl rfl)
theorem dJ38_init_2_16 : decode cJ38_init_2 16 = .ok (.athrow, 1) := dk_191 (dk_at dksJ38_init_2_0 16 rfl rfl)
theorem dJ38_init_2_17 : decode cJ38_init_2 17 = .ok (.aload_n 0, 1) := dk_42 (dk_at dksJ38_init_2_0 17 rfl rfl)
theorem dJ38_init_2_18 : decode cJ38_init_2 18 = .ok (.iload_n 1, 1) := dk_27 (dk_at dksJ38_init_2_0 18 rfl rfl)
theorem dJ38_init_2_19 : decode cJ38_init_2 19 = .ok (.anewarray 15, 3) := dk_189 0 15 (dk_at dksJ38_init_2_0 19 rfl rfl)
theorem dJ38_init_2_22 : decode cJ38_init_2 22 = .ok (.putfield 17, 3) := dk_181 0 17 (dk_at dksJ38_init_2_1 0 rfl rfl)
theorem dJ38_init_2_25 : decode cJ38_init_2 25 = .ok (.aload_n 0, 1) := dk_42 (dk_at dksJ38_init_2_1 3 rfl rfl)
theorem dJ38_init_2_26 : decode cJ38_init_2 26 = .ok (.aload_n 2, 1) := dk_44 (dk_at dksJ38_init_2_1 4 rfl rfl)
theorem dJ38_init_2_27 : decode cJ38_init_2 27 = .ok (.putfield 21, 3) := dk_181 0 21 (dk_at dksJ38_init_2_1 5 rfl rfl)
theorem dJ38_init_2_30 : decode cJ38_init_2 30 = .ok (.return_, 1) := dk_177 (dk_at dksJ38_init_2_1 8 rfl rfl)
abbrev cJ38_offer : ByteArray := prog_66_method_14_code
def yJ38_offer : MethodName := ⟨RJ38, "offer", "(Ljava/lang/Object;)Z"⟩
def dkwJ38_offer_2 : List UInt8 := [182, 0, 100, 42, 28, 4, 96, 181, 0, 58, 4, 172]
abbrev dktJ38_offer_2 : List UInt8 := dkwJ38_offer_2 ++ []
def dkwJ38_offer_1 : List UInt8 := [180, 0, 58, 61, 28, 42, 180, 0, 17, 190, 161, 0, 10, 42, 28, 4, 96, 182, 0, 96, 42, 28, 43]
abbrev dktJ38_offer_1 : List UInt8 := dkwJ38_offer_1 ++ dktJ38_offer_2
def dkwJ38_offer_0 : List UInt8 := [43, 199, 0, 11, 187, 0, 74, 89, 183, 0, 76, 191, 42, 89, 180, 0, 93, 4, 96, 181, 0, 93, 42]
abbrev dktJ38_offer_0 : List UInt8 := dkwJ38_offer_0 ++ dktJ38_offer_1
theorem dksJ38_offer_0 : cJ38_offer.data.toList.drop 0 = dktJ38_offer_0 := by decide +kernel
theorem dksJ38_offer_1 : cJ38_offer.data.toList.drop 23 = dktJ38_offer_1 := dk_seg dksJ38_offer_0 23 rfl rfl
theorem dksJ38_offer_2 : cJ38_offer.data.toList.drop 46 = dktJ38_offer_2 := dk_seg dksJ38_offer_1 23 rfl rfl
theorem dJ38_offer_0 : decode cJ38_offer 0 = .ok (.aload_n 1, 1) := dk_43 (dk_at dksJ38_offer_0 0 rfl rfl)
theorem dJ38_offer_1 : decode cJ38_offer 1 = .ok (.ifnonnull 11, 3) := dk_199 0 11 (dk_at dksJ38_offer_0 1 rfl rfl)
theorem dJ38_offer_4 : decode cJ38_offer 4 = .ok (.new 74, 3) := dk_187 0 74 (dk_at dksJ38_offer_0 4 rfl rfl)
theorem dJ38_offer_7 : decode cJ38_offer 7 = .ok (.dup, 1) := dk_89 (dk_at dksJ38_offer_0 7 rfl rfl)
theorem dJ38_offer_8 : decode cJ38_offer 8 = .ok (.invokespecial 76, 3) := dk_183 0 76 (dk_at dksJ38_offer_0 8 rfl rfl)
theorem dJ38_offer_11 : decode cJ38_offer 11 = .ok (.athrow, 1) := dk_191 (dk_at dksJ38_offer_0 11 rfl rfl)
theorem dJ38_offer_12 : decode cJ38_offer 12 = .ok (.aload_n 0, 1) := dk_42 (dk_at dksJ38_offer_0 12 rfl rfl)
theorem dJ38_offer_13 : decode cJ38_offer 13 = .ok (.dup, 1) := dk_89 (dk_at dksJ38_offer_0 13 rfl rfl)
theorem dJ38_offer_14 : decode cJ38_offer 14 = .ok (.getfield 93, 3) := dk_180 0 93 (dk_at dksJ38_offer_0 14 rfl rfl)
theorem dJ38_offer_17 : decode cJ38_offer 17 = .ok (.iconst 1, 1) := dk_4 (dk_at dksJ38_offer_0 17 rfl rfl)
theorem dJ38_offer_18 : decode cJ38_offer 18 = .ok (.iadd, 1) := dk_96 (dk_at dksJ38_offer_0 18 rfl rfl)
theorem dJ38_offer_19 : decode cJ38_offer 19 = .ok (.putfield 93, 3) := dk_181 0 93 (dk_at dksJ38_offer_0 19 rfl rfl)
theorem dJ38_offer_22 : decode cJ38_offer 22 = .ok (.aload_n 0, 1) := dk_42 (dk_at dksJ38_offer_0 22 rfl rfl)
theorem dJ38_offer_23 : decode cJ38_offer 23 = .ok (.getfield 58, 3) := dk_180 0 58 (dk_at dksJ38_offer_1 0 rfl rfl)
theorem dJ38_offer_26 : decode cJ38_offer 26 = .ok (.istore_n 2, 1) := dk_61 (dk_at dksJ38_offer_1 3 rfl rfl)
theorem dJ38_offer_27 : decode cJ38_offer 27 = .ok (.iload_n 2, 1) := dk_28 (dk_at dksJ38_offer_1 4 rfl rfl)
theorem dJ38_offer_28 : decode cJ38_offer 28 = .ok (.aload_n 0, 1) := dk_42 (dk_at dksJ38_offer_1 5 rfl rfl)
theorem dJ38_offer_29 : decode cJ38_offer 29 = .ok (.getfield 17, 3) := dk_180 0 17 (dk_at dksJ38_offer_1 6 rfl rfl)
theorem dJ38_offer_32 : decode cJ38_offer 32 = .ok (.arraylength, 1) := dk_190 (dk_at dksJ38_offer_1 9 rfl rfl)
theorem dJ38_offer_33 : decode cJ38_offer 33 = .ok (.if_icmp .lt 10, 3) := dk_161 0 10 (dk_at dksJ38_offer_1 10 rfl rfl)
theorem dJ38_offer_36 : decode cJ38_offer 36 = .ok (.aload_n 0, 1) := dk_42 (dk_at dksJ38_offer_1 13 rfl rfl)
theorem dJ38_offer_37 : decode cJ38_offer 37 = .ok (.iload_n 2, 1) := dk_28 (dk_at dksJ38_offer_1 14 rfl rfl)
theorem dJ38_offer_38 : decode cJ38_offer 38 = .ok (.iconst 1, 1) := dk_4 (dk_at dksJ38_offer_1 15 rfl rfl)
theorem dJ38_offer_39 : decode cJ38_offer 39 = .ok (.iadd, 1) := dk_96 (dk_at dksJ38_offer_1 16 rfl rfl)
theorem dJ38_offer_40 : decode cJ38_offer 40 = .ok (.invokevirtual 96, 3) := dk_182 0 96 (dk_at dksJ38_offer_1 17 rfl rfl)
theorem dJ38_offer_43 : decode cJ38_offer 43 = .ok (.aload_n 0, 1) := dk_42 (dk_at dksJ38_offer_1 20 rfl rfl)
theorem dJ38_offer_44 : decode cJ38_offer 44 = .ok (.iload_n 2, 1) := dk_28 (dk_at dksJ38_offer_1 21 rfl rfl)
theorem dJ38_offer_45 : decode cJ38_offer 45 = .ok (.aload_n 1, 1) := dk_43 (dk_at dksJ38_offer_1 22 rfl rfl)
theorem dJ38_offer_46 : decode cJ38_offer 46 = .ok (.invokevirtual 100, 3) := dk_182 0 100 (dk_at dksJ38_offer_2 0 rfl rfl)
theorem dJ38_offer_49 : decode cJ38_offer 49 = .ok (.aload_n 0, 1) := dk_42 (dk_at dksJ38_offer_2 3 rfl rfl)
theorem dJ38_offer_50 : decode cJ38_offer 50 = .ok (.iload_n 2, 1) := dk_28 (dk_at dksJ38_offer_2 4 rfl rfl)
theorem dJ38_offer_51 : decode cJ38_offer 51 = .ok (.iconst 1, 1) := dk_4 (dk_at dksJ38_offer_2 5 rfl rfl)
theorem dJ38_offer_52 : decode cJ38_offer 52 = .ok (.iadd, 1) := dk_96 (dk_at dksJ38_offer_2 6 rfl rfl)
theorem dJ38_offer_53 : decode cJ38_offer 53 = .ok (.putfield 58, 3) := dk_181 0 58 (dk_at dksJ38_offer_2 7 rfl rfl)
theorem dJ38_offer_56 : decode cJ38_offer 56 = .ok (.iconst 1, 1) := dk_4 (dk_at dksJ38_offer_2 10 rfl rfl)
theorem dJ38_offer_57 : decode cJ38_offer 57 = .ok (.ireturn, 1) := dk_172 (dk_at dksJ38_offer_2 11 rfl rfl)
abbrev cJ38_grow : ByteArray := prog_66_method_12_code
def yJ38_grow : MethodName := ⟨RJ38, "grow", "(I)V"⟩
def dkwJ38_grow_1 : List UInt8 := [122, 184, 0, 80, 62, 42, 42, 180, 0, 17, 29, 184, 0, 86, 181, 0, 17, 177]
abbrev dktJ38_grow_1 : List UInt8 := dkwJ38_grow_1 ++ []
def dkwJ38_grow_0 : List UInt8 := [42, 180, 0, 17, 190, 61, 28, 27, 28, 100, 28, 16, 64, 162, 0, 9, 28, 5, 96, 167, 0, 6, 28, 4]
abbrev dktJ38_grow_0 : List UInt8 := dkwJ38_grow_0 ++ dktJ38_grow_1
theorem dksJ38_grow_0 : cJ38_grow.data.toList.drop 0 = dktJ38_grow_0 := by decide +kernel
theorem dksJ38_grow_1 : cJ38_grow.data.toList.drop 24 = dktJ38_grow_1 := dk_seg dksJ38_grow_0 24 rfl rfl
theorem dJ38_grow_0 : decode cJ38_grow 0 = .ok (.aload_n 0, 1) := dk_42 (dk_at dksJ38_grow_0 0 rfl rfl)
theorem dJ38_grow_1 : decode cJ38_grow 1 = .ok (.getfield 17, 3) := dk_180 0 17 (dk_at dksJ38_grow_0 1 rfl rfl)
theorem dJ38_grow_4 : decode cJ38_grow 4 = .ok (.arraylength, 1) := dk_190 (dk_at dksJ38_grow_0 4 rfl rfl)
theorem dJ38_grow_5 : decode cJ38_grow 5 = .ok (.istore_n 2, 1) := dk_61 (dk_at dksJ38_grow_0 5 rfl rfl)
theorem dJ38_grow_6 : decode cJ38_grow 6 = .ok (.iload_n 2, 1) := dk_28 (dk_at dksJ38_grow_0 6 rfl rfl)
theorem dJ38_grow_7 : decode cJ38_grow 7 = .ok (.iload_n 1, 1) := dk_27 (dk_at dksJ38_grow_0 7 rfl rfl)
theorem dJ38_grow_8 : decode cJ38_grow 8 = .ok (.iload_n 2, 1) := dk_28 (dk_at dksJ38_grow_0 8 rfl rfl)
theorem dJ38_grow_9 : decode cJ38_grow 9 = .ok (.isub, 1) := dk_100 (dk_at dksJ38_grow_0 9 rfl rfl)
theorem dJ38_grow_10 : decode cJ38_grow 10 = .ok (.iload_n 2, 1) := dk_28 (dk_at dksJ38_grow_0 10 rfl rfl)
theorem dJ38_grow_11 : decode cJ38_grow 11 = .ok (.bipush 64, 2) := dk_16 64 (dk_at dksJ38_grow_0 11 rfl rfl)
theorem dJ38_grow_13 : decode cJ38_grow 13 = .ok (.if_icmp .ge 9, 3) := dk_162 0 9 (dk_at dksJ38_grow_0 13 rfl rfl)
theorem dJ38_grow_16 : decode cJ38_grow 16 = .ok (.iload_n 2, 1) := dk_28 (dk_at dksJ38_grow_0 16 rfl rfl)
theorem dJ38_grow_17 : decode cJ38_grow 17 = .ok (.iconst 2, 1) := dk_5 (dk_at dksJ38_grow_0 17 rfl rfl)
theorem dJ38_grow_18 : decode cJ38_grow 18 = .ok (.iadd, 1) := dk_96 (dk_at dksJ38_grow_0 18 rfl rfl)
theorem dJ38_grow_19 : decode cJ38_grow 19 = .ok (.goto 6, 3) := dk_167 0 6 (dk_at dksJ38_grow_0 19 rfl rfl)
theorem dJ38_grow_22 : decode cJ38_grow 22 = .ok (.iload_n 2, 1) := dk_28 (dk_at dksJ38_grow_0 22 rfl rfl)
theorem dJ38_grow_23 : decode cJ38_grow 23 = .ok (.iconst 1, 1) := dk_4 (dk_at dksJ38_grow_0 23 rfl rfl)
theorem dJ38_grow_24 : decode cJ38_grow 24 = .ok (.ishr, 1) := dk_122 (dk_at dksJ38_grow_1 0 rfl rfl)
theorem dJ38_grow_25 : decode cJ38_grow 25 = .ok (.invokestatic 80, 3) := dk_184 0 80 (dk_at dksJ38_grow_1 1 rfl rfl)
theorem dJ38_grow_28 : decode cJ38_grow 28 = .ok (.istore_n 3, 1) := dk_62 (dk_at dksJ38_grow_1 4 rfl rfl)
theorem dJ38_grow_29 : decode cJ38_grow 29 = .ok (.aload_n 0, 1) := dk_42 (dk_at dksJ38_grow_1 5 rfl rfl)
theorem dJ38_grow_30 : decode cJ38_grow 30 = .ok (.aload_n 0, 1) := dk_42 (dk_at dksJ38_grow_1 6 rfl rfl)
theorem dJ38_grow_31 : decode cJ38_grow 31 = .ok (.getfield 17, 3) := dk_180 0 17 (dk_at dksJ38_grow_1 7 rfl rfl)
theorem dJ38_grow_34 : decode cJ38_grow 34 = .ok (.iload_n 3, 1) := dk_29 (dk_at dksJ38_grow_1 10 rfl rfl)
theorem dJ38_grow_35 : decode cJ38_grow 35 = .ok (.invokestatic 86, 3) := dk_184 0 86 (dk_at dksJ38_grow_1 11 rfl rfl)
theorem dJ38_grow_38 : decode cJ38_grow 38 = .ok (.putfield 17, 3) := dk_181 0 17 (dk_at dksJ38_grow_1 14 rfl rfl)
theorem dJ38_grow_41 : decode cJ38_grow 41 = .ok (.return_, 1) := dk_177 (dk_at dksJ38_grow_1 17 rfl rfl)
abbrev cJ38_siftUp : ByteArray := prog_66_method_27_code
def yJ38_siftUp : MethodName := ⟨RJ38, "siftUp", "(ILjava/lang/Object;)V"⟩
def dkwJ38_siftUp_1 : List UInt8 := [44, 42, 180, 0, 17, 184, 0, 140, 177]
abbrev dktJ38_siftUp_1 : List UInt8 := dkwJ38_siftUp_1 ++ []
def dkwJ38_siftUp_0 : List UInt8 := [42, 180, 0, 21, 198, 0, 19, 27, 44, 42, 180, 0, 17, 42, 180, 0, 21, 184, 0, 136, 167, 0, 12, 27]
abbrev dktJ38_siftUp_0 : List UInt8 := dkwJ38_siftUp_0 ++ dktJ38_siftUp_1
theorem dksJ38_siftUp_0 : cJ38_siftUp.data.toList.drop 0 = dktJ38_siftUp_0 := by decide +kernel
theorem dksJ38_siftUp_1 : cJ38_siftUp.data.toList.drop 24 = dktJ38_siftUp_1 := dk_seg dksJ38_siftUp_0 24 rfl rfl
theorem dJ38_siftUp_0 : decode cJ38_siftUp 0 = .ok (.aload_n 0, 1) := dk_42 (dk_at dksJ38_siftUp_0 0 rfl rfl)
theorem dJ38_siftUp_1 : decode cJ38_siftUp 1 = .ok (.getfield 21, 3) := dk_180 0 21 (dk_at dksJ38_siftUp_0 1 rfl rfl)
theorem dJ38_siftUp_4 : decode cJ38_siftUp 4 = .ok (.ifnull 19, 3) := dk_198 0 19 (dk_at dksJ38_siftUp_0 4 rfl rfl)
theorem dJ38_siftUp_7 : decode cJ38_siftUp 7 = .ok (.iload_n 1, 1) := dk_27 (dk_at dksJ38_siftUp_0 7 rfl rfl)
theorem dJ38_siftUp_8 : decode cJ38_siftUp 8 = .ok (.aload_n 2, 1) := dk_44 (dk_at dksJ38_siftUp_0 8 rfl rfl)
theorem dJ38_siftUp_9 : decode cJ38_siftUp 9 = .ok (.aload_n 0, 1) := dk_42 (dk_at dksJ38_siftUp_0 9 rfl rfl)
theorem dJ38_siftUp_10 : decode cJ38_siftUp 10 = .ok (.getfield 17, 3) := dk_180 0 17 (dk_at dksJ38_siftUp_0 10 rfl rfl)
theorem dJ38_siftUp_13 : decode cJ38_siftUp 13 = .ok (.aload_n 0, 1) := dk_42 (dk_at dksJ38_siftUp_0 13 rfl rfl)
theorem dJ38_siftUp_14 : decode cJ38_siftUp 14 = .ok (.getfield 21, 3) := dk_180 0 21 (dk_at dksJ38_siftUp_0 14 rfl rfl)
theorem dJ38_siftUp_17 : decode cJ38_siftUp 17 = .ok (.invokestatic 136, 3) := dk_184 0 136 (dk_at dksJ38_siftUp_0 17 rfl rfl)
theorem dJ38_siftUp_20 : decode cJ38_siftUp 20 = .ok (.goto 12, 3) := dk_167 0 12 (dk_at dksJ38_siftUp_0 20 rfl rfl)
theorem dJ38_siftUp_23 : decode cJ38_siftUp 23 = .ok (.iload_n 1, 1) := dk_27 (dk_at dksJ38_siftUp_0 23 rfl rfl)
theorem dJ38_siftUp_24 : decode cJ38_siftUp 24 = .ok (.aload_n 2, 1) := dk_44 (dk_at dksJ38_siftUp_1 0 rfl rfl)
theorem dJ38_siftUp_25 : decode cJ38_siftUp 25 = .ok (.aload_n 0, 1) := dk_42 (dk_at dksJ38_siftUp_1 1 rfl rfl)
theorem dJ38_siftUp_26 : decode cJ38_siftUp 26 = .ok (.getfield 17, 3) := dk_180 0 17 (dk_at dksJ38_siftUp_1 2 rfl rfl)
theorem dJ38_siftUp_29 : decode cJ38_siftUp 29 = .ok (.invokestatic 140, 3) := dk_184 0 140 (dk_at dksJ38_siftUp_1 5 rfl rfl)
theorem dJ38_siftUp_32 : decode cJ38_siftUp 32 = .ok (.return_, 1) := dk_177 (dk_at dksJ38_siftUp_1 8 rfl rfl)
abbrev cJ38_siftUpComparable : ByteArray := prog_66_method_28_code
def yJ38_siftUpComparable : MethodName := ⟨RJ38, "siftUpComparable", "(ILjava/lang/Object;[Ljava/lang/Object;)V"⟩
def dkwJ38_siftUpComparable_2 : List UInt8 := [44, 26, 45, 83, 177]
abbrev dktJ38_siftUpComparable_2 : List UInt8 := dkwJ38_siftUpComparable_2 ++ []
def dkwJ38_siftUpComparable_1 : List UInt8 := [25, 5, 185, 0, 146, 2, 0, 155, 0, 6, 167, 0, 14, 44, 26, 25, 5, 83, 21, 4, 59, 167, 255, 217]
abbrev dktJ38_siftUpComparable_1 : List UInt8 := dkwJ38_siftUpComparable_1 ++ dktJ38_siftUpComparable_2
def dkwJ38_siftUpComparable_0 : List UInt8 := [43, 192, 0, 144, 78, 26, 158, 0, 41, 26, 4, 100, 4, 124, 54, 4, 44, 21, 4, 50, 58, 5, 45]
abbrev dktJ38_siftUpComparable_0 : List UInt8 := dkwJ38_siftUpComparable_0 ++ dktJ38_siftUpComparable_1
theorem dksJ38_siftUpComparable_0 : cJ38_siftUpComparable.data.toList.drop 0 = dktJ38_siftUpComparable_0 := by decide +kernel
theorem dksJ38_siftUpComparable_1 : cJ38_siftUpComparable.data.toList.drop 23 = dktJ38_siftUpComparable_1 := dk_seg dksJ38_siftUpComparable_0 23 rfl rfl
theorem dksJ38_siftUpComparable_2 : cJ38_siftUpComparable.data.toList.drop 47 = dktJ38_siftUpComparable_2 := dk_seg dksJ38_siftUpComparable_1 24 rfl rfl
theorem dJ38_siftUpComparable_0 : decode cJ38_siftUpComparable 0 = .ok (.aload_n 1, 1) := dk_43 (dk_at dksJ38_siftUpComparable_0 0 rfl rfl)
theorem dJ38_siftUpComparable_1 : decode cJ38_siftUpComparable 1 = .ok (.checkcast 144, 3) := dk_192 0 144 (dk_at dksJ38_siftUpComparable_0 1 rfl rfl)
theorem dJ38_siftUpComparable_4 : decode cJ38_siftUpComparable 4 = .ok (.astore_n 3, 1) := dk_78 (dk_at dksJ38_siftUpComparable_0 4 rfl rfl)
theorem dJ38_siftUpComparable_5 : decode cJ38_siftUpComparable 5 = .ok (.iload_n 0, 1) := dk_26 (dk_at dksJ38_siftUpComparable_0 5 rfl rfl)
theorem dJ38_siftUpComparable_6 : decode cJ38_siftUpComparable 6 = .ok (.ifCond .le 41, 3) := dk_158 0 41 (dk_at dksJ38_siftUpComparable_0 6 rfl rfl)
theorem dJ38_siftUpComparable_9 : decode cJ38_siftUpComparable 9 = .ok (.iload_n 0, 1) := dk_26 (dk_at dksJ38_siftUpComparable_0 9 rfl rfl)
theorem dJ38_siftUpComparable_10 : decode cJ38_siftUpComparable 10 = .ok (.iconst 1, 1) := dk_4 (dk_at dksJ38_siftUpComparable_0 10 rfl rfl)
theorem dJ38_siftUpComparable_11 : decode cJ38_siftUpComparable 11 = .ok (.isub, 1) := dk_100 (dk_at dksJ38_siftUpComparable_0 11 rfl rfl)
theorem dJ38_siftUpComparable_12 : decode cJ38_siftUpComparable 12 = .ok (.iconst 1, 1) := dk_4 (dk_at dksJ38_siftUpComparable_0 12 rfl rfl)
theorem dJ38_siftUpComparable_13 : decode cJ38_siftUpComparable 13 = .ok (.iushr, 1) := dk_124 (dk_at dksJ38_siftUpComparable_0 13 rfl rfl)
theorem dJ38_siftUpComparable_14 : decode cJ38_siftUpComparable 14 = .ok (.istore 4, 2) := dk_54 4 (dk_at dksJ38_siftUpComparable_0 14 rfl rfl)
theorem dJ38_siftUpComparable_16 : decode cJ38_siftUpComparable 16 = .ok (.aload_n 2, 1) := dk_44 (dk_at dksJ38_siftUpComparable_0 16 rfl rfl)
theorem dJ38_siftUpComparable_17 : decode cJ38_siftUpComparable 17 = .ok (.iload 4, 2) := dk_21 4 (dk_at dksJ38_siftUpComparable_0 17 rfl rfl)
theorem dJ38_siftUpComparable_19 : decode cJ38_siftUpComparable 19 = .ok (.aaload, 1) := dk_50 (dk_at dksJ38_siftUpComparable_0 19 rfl rfl)
theorem dJ38_siftUpComparable_20 : decode cJ38_siftUpComparable 20 = .ok (.astore 5, 2) := dk_58 5 (dk_at dksJ38_siftUpComparable_0 20 rfl rfl)
theorem dJ38_siftUpComparable_22 : decode cJ38_siftUpComparable 22 = .ok (.aload_n 3, 1) := dk_45 (dk_at dksJ38_siftUpComparable_0 22 rfl rfl)
theorem dJ38_siftUpComparable_23 : decode cJ38_siftUpComparable 23 = .ok (.aload 5, 2) := dk_25 5 (dk_at dksJ38_siftUpComparable_1 0 rfl rfl)
theorem dJ38_siftUpComparable_25 : decode cJ38_siftUpComparable 25 = .ok (.invokeinterface 146 2, 5) := by decide +kernel
theorem dJ38_siftUpComparable_30 : decode cJ38_siftUpComparable 30 = .ok (.ifCond .lt 6, 3) := dk_155 0 6 (dk_at dksJ38_siftUpComparable_1 7 rfl rfl)
theorem dJ38_siftUpComparable_33 : decode cJ38_siftUpComparable 33 = .ok (.goto 14, 3) := dk_167 0 14 (dk_at dksJ38_siftUpComparable_1 10 rfl rfl)
theorem dJ38_siftUpComparable_36 : decode cJ38_siftUpComparable 36 = .ok (.aload_n 2, 1) := dk_44 (dk_at dksJ38_siftUpComparable_1 13 rfl rfl)
theorem dJ38_siftUpComparable_37 : decode cJ38_siftUpComparable 37 = .ok (.iload_n 0, 1) := dk_26 (dk_at dksJ38_siftUpComparable_1 14 rfl rfl)
theorem dJ38_siftUpComparable_38 : decode cJ38_siftUpComparable 38 = .ok (.aload 5, 2) := dk_25 5 (dk_at dksJ38_siftUpComparable_1 15 rfl rfl)
theorem dJ38_siftUpComparable_40 : decode cJ38_siftUpComparable 40 = .ok (.aastore, 1) := dk_83 (dk_at dksJ38_siftUpComparable_1 17 rfl rfl)
theorem dJ38_siftUpComparable_41 : decode cJ38_siftUpComparable 41 = .ok (.iload 4, 2) := dk_21 4 (dk_at dksJ38_siftUpComparable_1 18 rfl rfl)
theorem dJ38_siftUpComparable_43 : decode cJ38_siftUpComparable 43 = .ok (.istore_n 0, 1) := dk_59 (dk_at dksJ38_siftUpComparable_1 20 rfl rfl)
theorem dJ38_siftUpComparable_44 : decode cJ38_siftUpComparable 44 = .ok (.goto (-39), 3) := dk_167 255 217 (dk_at dksJ38_siftUpComparable_1 21 rfl rfl)
theorem dJ38_siftUpComparable_47 : decode cJ38_siftUpComparable 47 = .ok (.aload_n 2, 1) := dk_44 (dk_at dksJ38_siftUpComparable_2 0 rfl rfl)
theorem dJ38_siftUpComparable_48 : decode cJ38_siftUpComparable 48 = .ok (.iload_n 0, 1) := dk_26 (dk_at dksJ38_siftUpComparable_2 1 rfl rfl)
theorem dJ38_siftUpComparable_49 : decode cJ38_siftUpComparable 49 = .ok (.aload_n 3, 1) := dk_45 (dk_at dksJ38_siftUpComparable_2 2 rfl rfl)
theorem dJ38_siftUpComparable_50 : decode cJ38_siftUpComparable 50 = .ok (.aastore, 1) := dk_83 (dk_at dksJ38_siftUpComparable_2 3 rfl rfl)
theorem dJ38_siftUpComparable_51 : decode cJ38_siftUpComparable 51 = .ok (.return_, 1) := dk_177 (dk_at dksJ38_siftUpComparable_2 4 rfl rfl)
abbrev cJ38_size : ByteArray := prog_66_method_23_code
def yJ38_size : MethodName := ⟨RJ38, "size", "()I"⟩
theorem dJ38_size_0 : decode cJ38_size 0 = .ok (.aload_n 0, 1) := by decide +kernel
theorem dJ38_size_1 : decode cJ38_size 1 = .ok (.getfield 58, 3) := by decide +kernel
theorem dJ38_size_4 : decode cJ38_size 4 = .ok (.ireturn, 1) := by decide +kernel
abbrev cJ38_poll : ByteArray := prog_66_method_25_code
def yJ38_poll : MethodName := ⟨RJ38, "poll", "()Ljava/lang/Object;"⟩
def dkwJ38_poll_3 : List UInt8 := [43, 29, 25, 5, 184, 0, 129, 44, 176]
abbrev dktJ38_poll_3 : List UInt8 := dkwJ38_poll_3 ++ []
def dkwJ38_poll_2 : List UInt8 := [42, 180, 0, 21, 89, 58, 5, 199, 0, 14, 3, 25, 4, 43, 29, 184, 0, 125, 167, 0, 13, 3, 25, 4]
abbrev dktJ38_poll_2 : List UInt8 := dkwJ38_poll_2 ++ dktJ38_poll_3
def dkwJ38_poll_1 : List UInt8 := [42, 89, 180, 0, 58, 4, 100, 90, 181, 0, 58, 89, 62, 50, 58, 4, 43, 29, 1, 83, 29, 158, 0, 34]
abbrev dktJ38_poll_1 : List UInt8 := dkwJ38_poll_1 ++ dktJ38_poll_2
def dkwJ38_poll_0 : List UInt8 := [42, 180, 0, 17, 89, 76, 3, 50, 89, 77, 198, 0, 69, 42, 89, 180, 0, 93, 4, 96, 181, 0, 93, 43]
abbrev dktJ38_poll_0 : List UInt8 := dkwJ38_poll_0 ++ dktJ38_poll_1
theorem dksJ38_poll_0 : cJ38_poll.data.toList.drop 0 = dktJ38_poll_0 := by decide +kernel
theorem dksJ38_poll_1 : cJ38_poll.data.toList.drop 24 = dktJ38_poll_1 := dk_seg dksJ38_poll_0 24 rfl rfl
theorem dksJ38_poll_2 : cJ38_poll.data.toList.drop 48 = dktJ38_poll_2 := dk_seg dksJ38_poll_1 24 rfl rfl
theorem dksJ38_poll_3 : cJ38_poll.data.toList.drop 72 = dktJ38_poll_3 := dk_seg dksJ38_poll_2 24 rfl rfl
theorem dJ38_poll_0 : decode cJ38_poll 0 = .ok (.aload_n 0, 1) := dk_42 (dk_at dksJ38_poll_0 0 rfl rfl)
theorem dJ38_poll_1 : decode cJ38_poll 1 = .ok (.getfield 17, 3) := dk_180 0 17 (dk_at dksJ38_poll_0 1 rfl rfl)
theorem dJ38_poll_4 : decode cJ38_poll 4 = .ok (.dup, 1) := dk_89 (dk_at dksJ38_poll_0 4 rfl rfl)
theorem dJ38_poll_5 : decode cJ38_poll 5 = .ok (.astore_n 1, 1) := dk_76 (dk_at dksJ38_poll_0 5 rfl rfl)
theorem dJ38_poll_6 : decode cJ38_poll 6 = .ok (.iconst 0, 1) := dk_3 (dk_at dksJ38_poll_0 6 rfl rfl)
theorem dJ38_poll_7 : decode cJ38_poll 7 = .ok (.aaload, 1) := dk_50 (dk_at dksJ38_poll_0 7 rfl rfl)
theorem dJ38_poll_8 : decode cJ38_poll 8 = .ok (.dup, 1) := dk_89 (dk_at dksJ38_poll_0 8 rfl rfl)
theorem dJ38_poll_9 : decode cJ38_poll 9 = .ok (.astore_n 2, 1) := dk_77 (dk_at dksJ38_poll_0 9 rfl rfl)
theorem dJ38_poll_10 : decode cJ38_poll 10 = .ok (.ifnull 69, 3) := dk_198 0 69 (dk_at dksJ38_poll_0 10 rfl rfl)
theorem dJ38_poll_13 : decode cJ38_poll 13 = .ok (.aload_n 0, 1) := dk_42 (dk_at dksJ38_poll_0 13 rfl rfl)
theorem dJ38_poll_14 : decode cJ38_poll 14 = .ok (.dup, 1) := dk_89 (dk_at dksJ38_poll_0 14 rfl rfl)
theorem dJ38_poll_15 : decode cJ38_poll 15 = .ok (.getfield 93, 3) := dk_180 0 93 (dk_at dksJ38_poll_0 15 rfl rfl)
theorem dJ38_poll_18 : decode cJ38_poll 18 = .ok (.iconst 1, 1) := dk_4 (dk_at dksJ38_poll_0 18 rfl rfl)
theorem dJ38_poll_19 : decode cJ38_poll 19 = .ok (.iadd, 1) := dk_96 (dk_at dksJ38_poll_0 19 rfl rfl)
theorem dJ38_poll_20 : decode cJ38_poll 20 = .ok (.putfield 93, 3) := dk_181 0 93 (dk_at dksJ38_poll_0 20 rfl rfl)
theorem dJ38_poll_23 : decode cJ38_poll 23 = .ok (.aload_n 1, 1) := dk_43 (dk_at dksJ38_poll_0 23 rfl rfl)
theorem dJ38_poll_24 : decode cJ38_poll 24 = .ok (.aload_n 0, 1) := dk_42 (dk_at dksJ38_poll_1 0 rfl rfl)
theorem dJ38_poll_25 : decode cJ38_poll 25 = .ok (.dup, 1) := dk_89 (dk_at dksJ38_poll_1 1 rfl rfl)
theorem dJ38_poll_26 : decode cJ38_poll 26 = .ok (.getfield 58, 3) := dk_180 0 58 (dk_at dksJ38_poll_1 2 rfl rfl)
theorem dJ38_poll_29 : decode cJ38_poll 29 = .ok (.iconst 1, 1) := dk_4 (dk_at dksJ38_poll_1 5 rfl rfl)
theorem dJ38_poll_30 : decode cJ38_poll 30 = .ok (.isub, 1) := dk_100 (dk_at dksJ38_poll_1 6 rfl rfl)
theorem dJ38_poll_31 : decode cJ38_poll 31 = .ok (.dup_x1, 1) := dk_90 (dk_at dksJ38_poll_1 7 rfl rfl)
theorem dJ38_poll_32 : decode cJ38_poll 32 = .ok (.putfield 58, 3) := dk_181 0 58 (dk_at dksJ38_poll_1 8 rfl rfl)
theorem dJ38_poll_35 : decode cJ38_poll 35 = .ok (.dup, 1) := dk_89 (dk_at dksJ38_poll_1 11 rfl rfl)
theorem dJ38_poll_36 : decode cJ38_poll 36 = .ok (.istore_n 3, 1) := dk_62 (dk_at dksJ38_poll_1 12 rfl rfl)
theorem dJ38_poll_37 : decode cJ38_poll 37 = .ok (.aaload, 1) := dk_50 (dk_at dksJ38_poll_1 13 rfl rfl)
theorem dJ38_poll_38 : decode cJ38_poll 38 = .ok (.astore 4, 2) := dk_58 4 (dk_at dksJ38_poll_1 14 rfl rfl)
theorem dJ38_poll_40 : decode cJ38_poll 40 = .ok (.aload_n 1, 1) := dk_43 (dk_at dksJ38_poll_1 16 rfl rfl)
theorem dJ38_poll_41 : decode cJ38_poll 41 = .ok (.iload_n 3, 1) := dk_29 (dk_at dksJ38_poll_1 17 rfl rfl)
theorem dJ38_poll_42 : decode cJ38_poll 42 = .ok (.aconst_null, 1) := dk_1 (dk_at dksJ38_poll_1 18 rfl rfl)
theorem dJ38_poll_43 : decode cJ38_poll 43 = .ok (.aastore, 1) := dk_83 (dk_at dksJ38_poll_1 19 rfl rfl)
theorem dJ38_poll_44 : decode cJ38_poll 44 = .ok (.iload_n 3, 1) := dk_29 (dk_at dksJ38_poll_1 20 rfl rfl)
theorem dJ38_poll_45 : decode cJ38_poll 45 = .ok (.ifCond .le 34, 3) := dk_158 0 34 (dk_at dksJ38_poll_1 21 rfl rfl)
theorem dJ38_poll_48 : decode cJ38_poll 48 = .ok (.aload_n 0, 1) := dk_42 (dk_at dksJ38_poll_2 0 rfl rfl)
theorem dJ38_poll_49 : decode cJ38_poll 49 = .ok (.getfield 21, 3) := dk_180 0 21 (dk_at dksJ38_poll_2 1 rfl rfl)
theorem dJ38_poll_52 : decode cJ38_poll 52 = .ok (.dup, 1) := dk_89 (dk_at dksJ38_poll_2 4 rfl rfl)
theorem dJ38_poll_53 : decode cJ38_poll 53 = .ok (.astore 5, 2) := dk_58 5 (dk_at dksJ38_poll_2 5 rfl rfl)
theorem dJ38_poll_55 : decode cJ38_poll 55 = .ok (.ifnonnull 14, 3) := dk_199 0 14 (dk_at dksJ38_poll_2 7 rfl rfl)
theorem dJ38_poll_58 : decode cJ38_poll 58 = .ok (.iconst 0, 1) := dk_3 (dk_at dksJ38_poll_2 10 rfl rfl)
theorem dJ38_poll_59 : decode cJ38_poll 59 = .ok (.aload 4, 2) := dk_25 4 (dk_at dksJ38_poll_2 11 rfl rfl)
theorem dJ38_poll_61 : decode cJ38_poll 61 = .ok (.aload_n 1, 1) := dk_43 (dk_at dksJ38_poll_2 13 rfl rfl)
theorem dJ38_poll_62 : decode cJ38_poll 62 = .ok (.iload_n 3, 1) := dk_29 (dk_at dksJ38_poll_2 14 rfl rfl)
theorem dJ38_poll_63 : decode cJ38_poll 63 = .ok (.invokestatic 125, 3) := dk_184 0 125 (dk_at dksJ38_poll_2 15 rfl rfl)
theorem dJ38_poll_66 : decode cJ38_poll 66 = .ok (.goto 13, 3) := dk_167 0 13 (dk_at dksJ38_poll_2 18 rfl rfl)
theorem dJ38_poll_69 : decode cJ38_poll 69 = .ok (.iconst 0, 1) := dk_3 (dk_at dksJ38_poll_2 21 rfl rfl)
theorem dJ38_poll_70 : decode cJ38_poll 70 = .ok (.aload 4, 2) := dk_25 4 (dk_at dksJ38_poll_2 22 rfl rfl)
theorem dJ38_poll_72 : decode cJ38_poll 72 = .ok (.aload_n 1, 1) := dk_43 (dk_at dksJ38_poll_3 0 rfl rfl)
theorem dJ38_poll_73 : decode cJ38_poll 73 = .ok (.iload_n 3, 1) := dk_29 (dk_at dksJ38_poll_3 1 rfl rfl)
theorem dJ38_poll_74 : decode cJ38_poll 74 = .ok (.aload 5, 2) := dk_25 5 (dk_at dksJ38_poll_3 2 rfl rfl)
theorem dJ38_poll_76 : decode cJ38_poll 76 = .ok (.invokestatic 129, 3) := dk_184 0 129 (dk_at dksJ38_poll_3 4 rfl rfl)
theorem dJ38_poll_79 : decode cJ38_poll 79 = .ok (.aload_n 2, 1) := dk_44 (dk_at dksJ38_poll_3 7 rfl rfl)
theorem dJ38_poll_80 : decode cJ38_poll 80 = .ok (.areturn, 1) := dk_176 (dk_at dksJ38_poll_3 8 rfl rfl)
abbrev cJ38_siftDownComparable : ByteArray := prog_66_method_31_code
def yJ38_siftDownComparable : MethodName := ⟨RJ38, "siftDownComparable", "(ILjava/lang/Object;[Ljava/lang/Object;I)V"⟩
def dkwJ38_siftDownComparable_4 : List UInt8 := [25, 4, 83, 177]
abbrev dktJ38_siftDownComparable_4 : List UInt8 := dkwJ38_siftDownComparable_4 ++ []
def dkwJ38_siftDownComparable_3 : List UInt8 := [185, 0, 146, 2, 0, 157, 0, 6, 167, 0, 14, 44, 26, 25, 7, 83, 21, 6, 59, 167, 255, 176, 44, 26]
abbrev dktJ38_siftDownComparable_3 : List UInt8 := dkwJ38_siftDownComparable_3 ++ dktJ38_siftDownComparable_4
def dkwJ38_siftDownComparable_2 : List UInt8 := [21, 8, 50, 185, 0, 146, 2, 0, 158, 0, 12, 44, 21, 8, 89, 54, 6, 50, 58, 7, 25, 4, 25, 7]
abbrev dktJ38_siftDownComparable_2 : List UInt8 := dkwJ38_siftDownComparable_2 ++ dktJ38_siftDownComparable_3
def dkwJ38_siftDownComparable_1 : List UInt8 := [44, 21, 6, 50, 58, 7, 21, 6, 4, 96, 54, 8, 21, 8, 29, 162, 0, 29, 25, 7, 192, 0, 144, 44]
abbrev dktJ38_siftDownComparable_1 : List UInt8 := dkwJ38_siftDownComparable_1 ++ dktJ38_siftDownComparable_2
def dkwJ38_siftDownComparable_0 : List UInt8 := [43, 192, 0, 144, 58, 4, 29, 4, 124, 54, 5, 26, 21, 5, 162, 0, 80, 26, 4, 120, 4, 96, 54, 6]
abbrev dktJ38_siftDownComparable_0 : List UInt8 := dkwJ38_siftDownComparable_0 ++ dktJ38_siftDownComparable_1
theorem dksJ38_siftDownComparable_0 : cJ38_siftDownComparable.data.toList.drop 0 = dktJ38_siftDownComparable_0 := by decide +kernel
theorem dksJ38_siftDownComparable_1 : cJ38_siftDownComparable.data.toList.drop 24 = dktJ38_siftDownComparable_1 := dk_seg dksJ38_siftDownComparable_0 24 rfl rfl
theorem dksJ38_siftDownComparable_2 : cJ38_siftDownComparable.data.toList.drop 48 = dktJ38_siftDownComparable_2 := dk_seg dksJ38_siftDownComparable_1 24 rfl rfl
theorem dksJ38_siftDownComparable_3 : cJ38_siftDownComparable.data.toList.drop 72 = dktJ38_siftDownComparable_3 := dk_seg dksJ38_siftDownComparable_2 24 rfl rfl
theorem dksJ38_siftDownComparable_4 : cJ38_siftDownComparable.data.toList.drop 96 = dktJ38_siftDownComparable_4 := dk_seg dksJ38_siftDownComparable_3 24 rfl rfl
theorem dJ38_siftDownComparable_0 : decode cJ38_siftDownComparable 0 = .ok (.aload_n 1, 1) := dk_43 (dk_at dksJ38_siftDownComparable_0 0 rfl rfl)
theorem dJ38_siftDownComparable_1 : decode cJ38_siftDownComparable 1 = .ok (.checkcast 144, 3) := dk_192 0 144 (dk_at dksJ38_siftDownComparable_0 1 rfl rfl)
theorem dJ38_siftDownComparable_4 : decode cJ38_siftDownComparable 4 = .ok (.astore 4, 2) := dk_58 4 (dk_at dksJ38_siftDownComparable_0 4 rfl rfl)
theorem dJ38_siftDownComparable_6 : decode cJ38_siftDownComparable 6 = .ok (.iload_n 3, 1) := dk_29 (dk_at dksJ38_siftDownComparable_0 6 rfl rfl)
theorem dJ38_siftDownComparable_7 : decode cJ38_siftDownComparable 7 = .ok (.iconst 1, 1) := dk_4 (dk_at dksJ38_siftDownComparable_0 7 rfl rfl)
theorem dJ38_siftDownComparable_8 : decode cJ38_siftDownComparable 8 = .ok (.iushr, 1) := dk_124 (dk_at dksJ38_siftDownComparable_0 8 rfl rfl)
theorem dJ38_siftDownComparable_9 : decode cJ38_siftDownComparable 9 = .ok (.istore 5, 2) := dk_54 5 (dk_at dksJ38_siftDownComparable_0 9 rfl rfl)
theorem dJ38_siftDownComparable_11 : decode cJ38_siftDownComparable 11 = .ok (.iload_n 0, 1) := dk_26 (dk_at dksJ38_siftDownComparable_0 11 rfl rfl)
theorem dJ38_siftDownComparable_12 : decode cJ38_siftDownComparable 12 = .ok (.iload 5, 2) := dk_21 5 (dk_at dksJ38_siftDownComparable_0 12 rfl rfl)
theorem dJ38_siftDownComparable_14 : decode cJ38_siftDownComparable 14 = .ok (.if_icmp .ge 80, 3) := dk_162 0 80 (dk_at dksJ38_siftDownComparable_0 14 rfl rfl)
theorem dJ38_siftDownComparable_17 : decode cJ38_siftDownComparable 17 = .ok (.iload_n 0, 1) := dk_26 (dk_at dksJ38_siftDownComparable_0 17 rfl rfl)
theorem dJ38_siftDownComparable_18 : decode cJ38_siftDownComparable 18 = .ok (.iconst 1, 1) := dk_4 (dk_at dksJ38_siftDownComparable_0 18 rfl rfl)
theorem dJ38_siftDownComparable_19 : decode cJ38_siftDownComparable 19 = .ok (.ishl, 1) := dk_120 (dk_at dksJ38_siftDownComparable_0 19 rfl rfl)
theorem dJ38_siftDownComparable_20 : decode cJ38_siftDownComparable 20 = .ok (.iconst 1, 1) := dk_4 (dk_at dksJ38_siftDownComparable_0 20 rfl rfl)
theorem dJ38_siftDownComparable_21 : decode cJ38_siftDownComparable 21 = .ok (.iadd, 1) := dk_96 (dk_at dksJ38_siftDownComparable_0 21 rfl rfl)
theorem dJ38_siftDownComparable_22 : decode cJ38_siftDownComparable 22 = .ok (.istore 6, 2) := dk_54 6 (dk_at dksJ38_siftDownComparable_0 22 rfl rfl)
theorem dJ38_siftDownComparable_24 : decode cJ38_siftDownComparable 24 = .ok (.aload_n 2, 1) := dk_44 (dk_at dksJ38_siftDownComparable_1 0 rfl rfl)
theorem dJ38_siftDownComparable_25 : decode cJ38_siftDownComparable 25 = .ok (.iload 6, 2) := dk_21 6 (dk_at dksJ38_siftDownComparable_1 1 rfl rfl)
theorem dJ38_siftDownComparable_27 : decode cJ38_siftDownComparable 27 = .ok (.aaload, 1) := dk_50 (dk_at dksJ38_siftDownComparable_1 3 rfl rfl)
theorem dJ38_siftDownComparable_28 : decode cJ38_siftDownComparable 28 = .ok (.astore 7, 2) := dk_58 7 (dk_at dksJ38_siftDownComparable_1 4 rfl rfl)
theorem dJ38_siftDownComparable_30 : decode cJ38_siftDownComparable 30 = .ok (.iload 6, 2) := dk_21 6 (dk_at dksJ38_siftDownComparable_1 6 rfl rfl)
theorem dJ38_siftDownComparable_32 : decode cJ38_siftDownComparable 32 = .ok (.iconst 1, 1) := dk_4 (dk_at dksJ38_siftDownComparable_1 8 rfl rfl)
theorem dJ38_siftDownComparable_33 : decode cJ38_siftDownComparable 33 = .ok (.iadd, 1) := dk_96 (dk_at dksJ38_siftDownComparable_1 9 rfl rfl)
theorem dJ38_siftDownComparable_34 : decode cJ38_siftDownComparable 34 = .ok (.istore 8, 2) := dk_54 8 (dk_at dksJ38_siftDownComparable_1 10 rfl rfl)
theorem dJ38_siftDownComparable_36 : decode cJ38_siftDownComparable 36 = .ok (.iload 8, 2) := dk_21 8 (dk_at dksJ38_siftDownComparable_1 12 rfl rfl)
theorem dJ38_siftDownComparable_38 : decode cJ38_siftDownComparable 38 = .ok (.iload_n 3, 1) := dk_29 (dk_at dksJ38_siftDownComparable_1 14 rfl rfl)
theorem dJ38_siftDownComparable_39 : decode cJ38_siftDownComparable 39 = .ok (.if_icmp .ge 29, 3) := dk_162 0 29 (dk_at dksJ38_siftDownComparable_1 15 rfl rfl)
theorem dJ38_siftDownComparable_42 : decode cJ38_siftDownComparable 42 = .ok (.aload 7, 2) := dk_25 7 (dk_at dksJ38_siftDownComparable_1 18 rfl rfl)
theorem dJ38_siftDownComparable_44 : decode cJ38_siftDownComparable 44 = .ok (.checkcast 144, 3) := dk_192 0 144 (dk_at dksJ38_siftDownComparable_1 20 rfl rfl)
theorem dJ38_siftDownComparable_47 : decode cJ38_siftDownComparable 47 = .ok (.aload_n 2, 1) := dk_44 (dk_at dksJ38_siftDownComparable_1 23 rfl rfl)
theorem dJ38_siftDownComparable_48 : decode cJ38_siftDownComparable 48 = .ok (.iload 8, 2) := dk_21 8 (dk_at dksJ38_siftDownComparable_2 0 rfl rfl)
theorem dJ38_siftDownComparable_50 : decode cJ38_siftDownComparable 50 = .ok (.aaload, 1) := dk_50 (dk_at dksJ38_siftDownComparable_2 2 rfl rfl)
theorem dJ38_siftDownComparable_51 : decode cJ38_siftDownComparable 51 = .ok (.invokeinterface 146 2, 5) := by decide +kernel
theorem dJ38_siftDownComparable_56 : decode cJ38_siftDownComparable 56 = .ok (.ifCond .le 12, 3) := dk_158 0 12 (dk_at dksJ38_siftDownComparable_2 8 rfl rfl)
theorem dJ38_siftDownComparable_59 : decode cJ38_siftDownComparable 59 = .ok (.aload_n 2, 1) := dk_44 (dk_at dksJ38_siftDownComparable_2 11 rfl rfl)
theorem dJ38_siftDownComparable_60 : decode cJ38_siftDownComparable 60 = .ok (.iload 8, 2) := dk_21 8 (dk_at dksJ38_siftDownComparable_2 12 rfl rfl)
theorem dJ38_siftDownComparable_62 : decode cJ38_siftDownComparable 62 = .ok (.dup, 1) := dk_89 (dk_at dksJ38_siftDownComparable_2 14 rfl rfl)
theorem dJ38_siftDownComparable_63 : decode cJ38_siftDownComparable 63 = .ok (.istore 6, 2) := dk_54 6 (dk_at dksJ38_siftDownComparable_2 15 rfl rfl)
theorem dJ38_siftDownComparable_65 : decode cJ38_siftDownComparable 65 = .ok (.aaload, 1) := dk_50 (dk_at dksJ38_siftDownComparable_2 17 rfl rfl)
theorem dJ38_siftDownComparable_66 : decode cJ38_siftDownComparable 66 = .ok (.astore 7, 2) := dk_58 7 (dk_at dksJ38_siftDownComparable_2 18 rfl rfl)
theorem dJ38_siftDownComparable_68 : decode cJ38_siftDownComparable 68 = .ok (.aload 4, 2) := dk_25 4 (dk_at dksJ38_siftDownComparable_2 20 rfl rfl)
theorem dJ38_siftDownComparable_70 : decode cJ38_siftDownComparable 70 = .ok (.aload 7, 2) := dk_25 7 (dk_at dksJ38_siftDownComparable_2 22 rfl rfl)
theorem dJ38_siftDownComparable_72 : decode cJ38_siftDownComparable 72 = .ok (.invokeinterface 146 2, 5) := by decide +kernel
theorem dJ38_siftDownComparable_77 : decode cJ38_siftDownComparable 77 = .ok (.ifCond .gt 6, 3) := dk_157 0 6 (dk_at dksJ38_siftDownComparable_3 5 rfl rfl)
theorem dJ38_siftDownComparable_80 : decode cJ38_siftDownComparable 80 = .ok (.goto 14, 3) := dk_167 0 14 (dk_at dksJ38_siftDownComparable_3 8 rfl rfl)
theorem dJ38_siftDownComparable_83 : decode cJ38_siftDownComparable 83 = .ok (.aload_n 2, 1) := dk_44 (dk_at dksJ38_siftDownComparable_3 11 rfl rfl)
theorem dJ38_siftDownComparable_84 : decode cJ38_siftDownComparable 84 = .ok (.iload_n 0, 1) := dk_26 (dk_at dksJ38_siftDownComparable_3 12 rfl rfl)
theorem dJ38_siftDownComparable_85 : decode cJ38_siftDownComparable 85 = .ok (.aload 7, 2) := dk_25 7 (dk_at dksJ38_siftDownComparable_3 13 rfl rfl)
theorem dJ38_siftDownComparable_87 : decode cJ38_siftDownComparable 87 = .ok (.aastore, 1) := dk_83 (dk_at dksJ38_siftDownComparable_3 15 rfl rfl)
theorem dJ38_siftDownComparable_88 : decode cJ38_siftDownComparable 88 = .ok (.iload 6, 2) := dk_21 6 (dk_at dksJ38_siftDownComparable_3 16 rfl rfl)
theorem dJ38_siftDownComparable_90 : decode cJ38_siftDownComparable 90 = .ok (.istore_n 0, 1) := dk_59 (dk_at dksJ38_siftDownComparable_3 18 rfl rfl)
theorem dJ38_siftDownComparable_91 : decode cJ38_siftDownComparable 91 = .ok (.goto (-80), 3) := dk_167 255 176 (dk_at dksJ38_siftDownComparable_3 19 rfl rfl)
theorem dJ38_siftDownComparable_94 : decode cJ38_siftDownComparable 94 = .ok (.aload_n 2, 1) := dk_44 (dk_at dksJ38_siftDownComparable_3 22 rfl rfl)
theorem dJ38_siftDownComparable_95 : decode cJ38_siftDownComparable 95 = .ok (.iload_n 0, 1) := dk_26 (dk_at dksJ38_siftDownComparable_3 23 rfl rfl)
theorem dJ38_siftDownComparable_96 : decode cJ38_siftDownComparable 96 = .ok (.aload 4, 2) := dk_25 4 (dk_at dksJ38_siftDownComparable_4 0 rfl rfl)
theorem dJ38_siftDownComparable_98 : decode cJ38_siftDownComparable 98 = .ok (.aastore, 1) := dk_83 (dk_at dksJ38_siftDownComparable_4 2 rfl rfl)
theorem dJ38_siftDownComparable_99 : decode cJ38_siftDownComparable 99 = .ok (.return_, 1) := dk_177 (dk_at dksJ38_siftDownComparable_4 3 rfl rfl)
theorem q151 : (Jvm.Cond.initialized "java/util/PriorityQueue") ∈ lw_all := lw_g (lw_at lw_m1 50 rfl) rfl
theorem q314 : (Jvm.Cond.selects "java/util/PriorityQueue" ({ cls := "java/lang/Object", name := "getClass", desc := "()Ljava/lang/Class;" } : Jvm.MethodName) ({ cls := "java/lang/Object", name := "getClass", desc := "()Ljava/lang/Class;" } : Jvm.MethodName)) ∈ lw_all := lw_g (lw_at lw_m1 213 rfl) rfl
theorem q1435 : (Jvm.Cond.instantiable "java/util/PriorityQueue" (4 : Nat)) ∈ lw_all := lw_g (lw_at lw_m6 134 rfl) rfl
theorem q1437 : (Jvm.Cond.instanceMethod ({ cls := "java/util/PriorityQueue", name := "<init>", desc := "()V" } : Jvm.MethodName)) ∈ lw_all := lw_g (lw_at lw_m6 136 rfl) rfl
theorem q1438 : (Jvm.Cond.code ({ cls := "java/util/PriorityQueue", name := "<init>", desc := "()V" } : Jvm.MethodName) prog_66_method_1_code (1 : Nat) (Option.none : Option Jvm.ClassFile.FieldType)) ∈ lw_all := lw_g (lw_at lw_m6 137 rfl) rfl
theorem q1439 : (Jvm.Cond.methodLink "java/util/PriorityQueue" (3 : Nat) ({ cls := "java/util/PriorityQueue", name := "<init>", desc := "(ILjava/util/Comparator;)V" } : Jvm.MethodName)) ∈ lw_all := lw_g (lw_at lw_m6 138 rfl) rfl
theorem q1440 : (Jvm.Cond.instanceMethod ({ cls := "java/util/PriorityQueue", name := "<init>", desc := "(ILjava/util/Comparator;)V" } : Jvm.MethodName)) ∈ lw_all := lw_g (lw_at lw_m6 139 rfl) rfl
theorem q1441 : (Jvm.Cond.code ({ cls := "java/util/PriorityQueue", name := "<init>", desc := "(ILjava/util/Comparator;)V" } : Jvm.MethodName) prog_66_method_4_code (3 : Nat) (Option.none : Option Jvm.ClassFile.FieldType)) ∈ lw_all := lw_g (lw_at lw_m6 140 rfl) rfl
theorem q1442 : (Jvm.Cond.methodLink "java/util/PriorityQueue" (7 : Nat) ({ cls := "java/util/AbstractQueue", name := "<init>", desc := "()V" } : Jvm.MethodName)) ∈ lw_all := lw_g (lw_at lw_m6 141 rfl) rfl
theorem q1446 : (Jvm.Cond.classLink "java/util/PriorityQueue" (12 : Nat) "java/lang/IllegalArgumentException") ∈ lw_all := lw_g (lw_at lw_m6 145 rfl) rfl
theorem q1447 : (Jvm.Cond.methodLink "java/util/PriorityQueue" (14 : Nat) ({ cls := "java/lang/IllegalArgumentException", name := "<init>", desc := "()V" } : Jvm.MethodName)) ∈ lw_all := lw_g (lw_at lw_m6 146 rfl) rfl
theorem q1451 : (Jvm.Cond.classLink "java/util/PriorityQueue" (15 : Nat) "java/lang/Object") ∈ lw_all := lw_g (lw_at lw_m6 150 rfl) rfl
theorem q1453 : (Jvm.Cond.fieldLink "java/util/PriorityQueue" (17 : Nat) "java/util/PriorityQueue" "queue" "[Ljava/lang/Object;") ∈ lw_all := lw_g (lw_at lw_m6 152 rfl) rfl
theorem q1455 : (Jvm.Cond.fieldLink "java/util/PriorityQueue" (58 : Nat) "java/util/PriorityQueue" "size" "I") ∈ lw_all := lw_g (lw_at lw_m6 154 rfl) rfl
theorem q1456 : (Jvm.Cond.fieldLink "java/util/PriorityQueue" (21 : Nat) "java/util/PriorityQueue" "comparator" "Ljava/util/Comparator;") ∈ lw_all := lw_g (lw_at lw_m6 155 rfl) rfl
theorem q1458 : (Jvm.Cond.fieldLink "java/util/PriorityQueue" (93 : Nat) "java/util/PriorityQueue" "modCount" "I") ∈ lw_all := lw_g (lw_at lw_m6 157 rfl) rfl
theorem q1459 : (Jvm.Cond.lays "java/util/PriorityQueue" "java/util/PriorityQueue" "queue" "[Ljava/lang/Object;") ∈ lw_all := lw_g (lw_at lw_m6 158 rfl) rfl
theorem q1460 : (Jvm.Cond.soleField "java/util/PriorityQueue" "queue") ∈ lw_all := lw_g (lw_at lw_m6 159 rfl) rfl
theorem q1461 : (Jvm.Cond.lays "java/util/PriorityQueue" "java/util/PriorityQueue" "size" "I") ∈ lw_all := lw_g (lw_at lw_m6 160 rfl) rfl
theorem q1462 : (Jvm.Cond.soleField "java/util/PriorityQueue" "size") ∈ lw_all := lw_g (lw_at lw_m6 161 rfl) rfl
theorem q1463 : (Jvm.Cond.laysFinal "java/util/PriorityQueue" "java/util/PriorityQueue" "comparator" "Ljava/util/Comparator;") ∈ lw_all := lw_g (lw_at lw_m6 162 rfl) rfl
theorem q1464 : (Jvm.Cond.soleField "java/util/PriorityQueue" "comparator") ∈ lw_all := lw_g (lw_at lw_m6 163 rfl) rfl
theorem q1465 : (Jvm.Cond.lays "java/util/PriorityQueue" "java/util/PriorityQueue" "modCount" "I") ∈ lw_all := lw_g (lw_at lw_m6 164 rfl) rfl
theorem q1466 : (Jvm.Cond.soleField "java/util/PriorityQueue" "modCount") ∈ lw_all := lw_g (lw_at lw_m6 165 rfl) rfl
theorem q1467 : (Jvm.Cond.superclass "java/util/PriorityQueue" "java/util/AbstractQueue") ∈ lw_all := lw_g (lw_at lw_m6 166 rfl) rfl
theorem q1510 : (Jvm.Cond.instanceMethod ({ cls := "java/util/PriorityQueue", name := "offer", desc := "(Ljava/lang/Object;)Z" } : Jvm.MethodName)) ∈ lw_all := lw_g (lw_at lw_m6 209 rfl) rfl
theorem q1511 : (Jvm.Cond.selects "java/util/PriorityQueue" ({ cls := "java/util/PriorityQueue", name := "offer", desc := "(Ljava/lang/Object;)Z" } : Jvm.MethodName) ({ cls := "java/util/PriorityQueue", name := "offer", desc := "(Ljava/lang/Object;)Z" } : Jvm.MethodName)) ∈ lw_all := lw_g (lw_at lw_m6 210 rfl) rfl
theorem q1512 : (Jvm.Cond.code ({ cls := "java/util/PriorityQueue", name := "offer", desc := "(Ljava/lang/Object;)Z" } : Jvm.MethodName) prog_66_method_14_code (3 : Nat) (Option.some Jvm.ClassFile.FieldType.boolean)) ∈ lw_all := lw_g (lw_at lw_m6 211 rfl) rfl
theorem q1513 : (Jvm.Cond.methodLink "java/util/PriorityQueue" (96 : Nat) ({ cls := "java/util/PriorityQueue", name := "grow", desc := "(I)V" } : Jvm.MethodName)) ∈ lw_all := lw_g (lw_at lw_m6 212 rfl) rfl
theorem q1514 : (Jvm.Cond.privateMethod ({ cls := "java/util/PriorityQueue", name := "grow", desc := "(I)V" } : Jvm.MethodName)) ∈ lw_tbl := lw_at lw_m6 213 rfl
theorem q1515 : (Jvm.Cond.instanceMethod ({ cls := "java/util/PriorityQueue", name := "grow", desc := "(I)V" } : Jvm.MethodName)) ∈ lw_all := lw_g (lw_at lw_m6 214 rfl) rfl
theorem q1516 : (Jvm.Cond.code ({ cls := "java/util/PriorityQueue", name := "grow", desc := "(I)V" } : Jvm.MethodName) prog_66_method_12_code (4 : Nat) (Option.none : Option Jvm.ClassFile.FieldType)) ∈ lw_all := lw_g (lw_at lw_m6 215 rfl) rfl
theorem q1517 : (Jvm.Cond.methodLink "java/util/PriorityQueue" (80 : Nat) ({ cls := "jdk/internal/util/ArraysSupport", name := "newLength", desc := "(III)I" } : Jvm.MethodName)) ∈ lw_all := lw_g (lw_at lw_m6 216 rfl) rfl
theorem q1518 : (Jvm.Cond.methodLink "java/util/PriorityQueue" (86 : Nat) ({ cls := "java/util/Arrays", name := "copyOf", desc := "([Ljava/lang/Object;I)[Ljava/lang/Object;" } : Jvm.MethodName)) ∈ lw_all := lw_g (lw_at lw_m6 217 rfl) rfl
theorem q1519 : (Jvm.Cond.methodLink "java/util/PriorityQueue" (100 : Nat) ({ cls := "java/util/PriorityQueue", name := "siftUp", desc := "(ILjava/lang/Object;)V" } : Jvm.MethodName)) ∈ lw_all := lw_g (lw_at lw_m6 218 rfl) rfl
theorem q1520 : (Jvm.Cond.privateMethod ({ cls := "java/util/PriorityQueue", name := "siftUp", desc := "(ILjava/lang/Object;)V" } : Jvm.MethodName)) ∈ lw_tbl := lw_at lw_m6 219 rfl
theorem q1521 : (Jvm.Cond.instanceMethod ({ cls := "java/util/PriorityQueue", name := "siftUp", desc := "(ILjava/lang/Object;)V" } : Jvm.MethodName)) ∈ lw_all := lw_g (lw_at lw_m6 220 rfl) rfl
theorem q1522 : (Jvm.Cond.code ({ cls := "java/util/PriorityQueue", name := "siftUp", desc := "(ILjava/lang/Object;)V" } : Jvm.MethodName) prog_66_method_27_code (3 : Nat) (Option.none : Option Jvm.ClassFile.FieldType)) ∈ lw_all := lw_g (lw_at lw_m6 221 rfl) rfl
theorem q1523 : (Jvm.Cond.methodLink "java/util/PriorityQueue" (136 : Nat) ({ cls := "java/util/PriorityQueue", name := "siftUpUsingComparator", desc := "(ILjava/lang/Object;[Ljava/lang/Object;Ljava/util/Comparator;)V" } : Jvm.MethodName)) ∈ lw_all := lw_g (lw_at lw_m6 222 rfl) rfl
theorem q1524 : (Jvm.Cond.static ({ cls := "java/util/PriorityQueue", name := "siftUpUsingComparator", desc := "(ILjava/lang/Object;[Ljava/lang/Object;Ljava/util/Comparator;)V" } : Jvm.MethodName)) ∈ lw_all := lw_g (lw_at lw_m6 223 rfl) rfl
theorem q1525 : (Jvm.Cond.code ({ cls := "java/util/PriorityQueue", name := "siftUpUsingComparator", desc := "(ILjava/lang/Object;[Ljava/lang/Object;Ljava/util/Comparator;)V" } : Jvm.MethodName) prog_66_method_29_code (6 : Nat) (Option.none : Option Jvm.ClassFile.FieldType)) ∈ lw_all := lw_g (lw_at lw_m6 224 rfl) rfl
theorem q1526 : (Jvm.Cond.interfaceEntry "java/util/PriorityQueue" (149 : Nat)) ∈ lw_tbl := lw_at lw_m6 225 rfl
theorem q1527 : (Jvm.Cond.methodLink "java/util/PriorityQueue" (149 : Nat) ({ cls := "java/util/Comparator", name := "compare", desc := "(Ljava/lang/Object;Ljava/lang/Object;)I" } : Jvm.MethodName)) ∈ lw_all := lw_g (lw_at lw_m6 226 rfl) rfl
theorem q1530 : (Jvm.Cond.methodLink "java/util/PriorityQueue" (140 : Nat) ({ cls := "java/util/PriorityQueue", name := "siftUpComparable", desc := "(ILjava/lang/Object;[Ljava/lang/Object;)V" } : Jvm.MethodName)) ∈ lw_all := lw_g (lw_at lw_m6 229 rfl) rfl
theorem q1531 : (Jvm.Cond.static ({ cls := "java/util/PriorityQueue", name := "siftUpComparable", desc := "(ILjava/lang/Object;[Ljava/lang/Object;)V" } : Jvm.MethodName)) ∈ lw_all := lw_g (lw_at lw_m6 230 rfl) rfl
theorem q1532 : (Jvm.Cond.code ({ cls := "java/util/PriorityQueue", name := "siftUpComparable", desc := "(ILjava/lang/Object;[Ljava/lang/Object;)V" } : Jvm.MethodName) prog_66_method_28_code (6 : Nat) (Option.none : Option Jvm.ClassFile.FieldType)) ∈ lw_all := lw_g (lw_at lw_m6 231 rfl) rfl
theorem q1533 : (Jvm.Cond.classLink "java/util/PriorityQueue" (144 : Nat) "java/lang/Comparable") ∈ lw_all := lw_g (lw_at lw_m6 232 rfl) rfl
theorem q1534 : (Jvm.Cond.interfaceEntry "java/util/PriorityQueue" (146 : Nat)) ∈ lw_tbl := lw_at lw_m6 233 rfl
theorem q1535 : (Jvm.Cond.methodLink "java/util/PriorityQueue" (146 : Nat) ({ cls := "java/lang/Comparable", name := "compareTo", desc := "(Ljava/lang/Object;)I" } : Jvm.MethodName)) ∈ lw_all := lw_g (lw_at lw_m6 234 rfl) rfl
theorem q1671 : (Jvm.Cond.sameMethod "java/util/PriorityQueue" "java/util/AbstractCollection" "isEmpty" "()Z") ∈ lw_all := lw_g (lw_at lw_m7 130 rfl) rfl
theorem q1673 : (Jvm.Cond.selects "java/util/PriorityQueue" ({ cls := "java/util/PriorityQueue", name := "isEmpty", desc := "()Z" } : Jvm.MethodName) ({ cls := "java/util/AbstractCollection", name := "isEmpty", desc := "()Z" } : Jvm.MethodName)) ∈ lw_all := lw_g (lw_at lw_m7 132 rfl) rfl
theorem q1686 : (Jvm.Cond.selects "java/util/PriorityQueue" ({ cls := "java/util/AbstractCollection", name := "size", desc := "()I" } : Jvm.MethodName) ({ cls := "java/util/PriorityQueue", name := "size", desc := "()I" } : Jvm.MethodName)) ∈ lw_all := lw_g (lw_at lw_m7 145 rfl) rfl
theorem q1687 : (Jvm.Cond.instanceMethod ({ cls := "java/util/PriorityQueue", name := "size", desc := "()I" } : Jvm.MethodName)) ∈ lw_all := lw_g (lw_at lw_m7 146 rfl) rfl
theorem q1688 : (Jvm.Cond.code ({ cls := "java/util/PriorityQueue", name := "size", desc := "()I" } : Jvm.MethodName) prog_66_method_23_code (1 : Nat) (Option.some Jvm.ClassFile.FieldType.int)) ∈ lw_all := lw_g (lw_at lw_m7 147 rfl) rfl
theorem q1706 : (Jvm.Cond.instanceMethod ({ cls := "java/util/PriorityQueue", name := "poll", desc := "()Ljava/lang/Object;" } : Jvm.MethodName)) ∈ lw_all := lw_g (lw_at lw_m7 165 rfl) rfl
theorem q1707 : (Jvm.Cond.selects "java/util/PriorityQueue" ({ cls := "java/util/PriorityQueue", name := "poll", desc := "()Ljava/lang/Object;" } : Jvm.MethodName) ({ cls := "java/util/PriorityQueue", name := "poll", desc := "()Ljava/lang/Object;" } : Jvm.MethodName)) ∈ lw_all := lw_g (lw_at lw_m7 166 rfl) rfl
theorem q1708 : (Jvm.Cond.code ({ cls := "java/util/PriorityQueue", name := "poll", desc := "()Ljava/lang/Object;" } : Jvm.MethodName) prog_66_method_25_code (6 : Nat) (Option.some (Jvm.ClassFile.FieldType.object "java/lang/Object"))) ∈ lw_all := lw_g (lw_at lw_m7 167 rfl) rfl
theorem q1709 : (Jvm.Cond.methodLink "java/util/PriorityQueue" (125 : Nat) ({ cls := "java/util/PriorityQueue", name := "siftDownComparable", desc := "(ILjava/lang/Object;[Ljava/lang/Object;I)V" } : Jvm.MethodName)) ∈ lw_all := lw_g (lw_at lw_m7 168 rfl) rfl
theorem q1710 : (Jvm.Cond.static ({ cls := "java/util/PriorityQueue", name := "siftDownComparable", desc := "(ILjava/lang/Object;[Ljava/lang/Object;I)V" } : Jvm.MethodName)) ∈ lw_all := lw_g (lw_at lw_m7 169 rfl) rfl
theorem q1711 : (Jvm.Cond.code ({ cls := "java/util/PriorityQueue", name := "siftDownComparable", desc := "(ILjava/lang/Object;[Ljava/lang/Object;I)V" } : Jvm.MethodName) prog_66_method_31_code (9 : Nat) (Option.none : Option Jvm.ClassFile.FieldType)) ∈ lw_all := lw_g (lw_at lw_m7 170 rfl) rfl
theorem q1712 : (Jvm.Cond.methodLink "java/util/PriorityQueue" (129 : Nat) ({ cls := "java/util/PriorityQueue", name := "siftDownUsingComparator", desc := "(ILjava/lang/Object;[Ljava/lang/Object;ILjava/util/Comparator;)V" } : Jvm.MethodName)) ∈ lw_all := lw_g (lw_at lw_m7 171 rfl) rfl
theorem q1713 : (Jvm.Cond.static ({ cls := "java/util/PriorityQueue", name := "siftDownUsingComparator", desc := "(ILjava/lang/Object;[Ljava/lang/Object;ILjava/util/Comparator;)V" } : Jvm.MethodName)) ∈ lw_all := lw_g (lw_at lw_m7 172 rfl) rfl
theorem q1714 : (Jvm.Cond.code ({ cls := "java/util/PriorityQueue", name := "siftDownUsingComparator", desc := "(ILjava/lang/Object;[Ljava/lang/Object;ILjava/util/Comparator;)V" } : Jvm.MethodName) prog_66_method_32_code (9 : Nat) (Option.none : Option Jvm.ClassFile.FieldType)) ∈ lw_all := lw_g (lw_at lw_m7 173 rfl) rfl
theorem q2249 : (Jvm.Cond.castable "java/util/PriorityQueue" "java/util/Collection") ∈ lw_tbl := lw_at lw_m9 228 rfl
theorem q2250 : (Jvm.Cond.selects "java/util/PriorityQueue" ({ cls := "java/util/Collection", name := "toArray", desc := "()[Ljava/lang/Object;" } : Jvm.MethodName) ({ cls := "java/util/PriorityQueue", name := "toArray", desc := "()[Ljava/lang/Object;" } : Jvm.MethodName)) ∈ lw_all := lw_g (lw_at lw_m9 229 rfl) rfl
theorem q2251 : (Jvm.Cond.unhidden "java/util/PriorityQueue" "toArray" "()[Ljava/lang/Object;") ∈ lw_tbl := lw_at lw_m9 230 rfl
theorem q2252 : (Jvm.Cond.instanceMethod ({ cls := "java/util/PriorityQueue", name := "toArray", desc := "()[Ljava/lang/Object;" } : Jvm.MethodName)) ∈ lw_all := lw_g (lw_at lw_m9 231 rfl) rfl
theorem q2253 : (Jvm.Cond.publicMethod ({ cls := "java/util/PriorityQueue", name := "toArray", desc := "()[Ljava/lang/Object;" } : Jvm.MethodName)) ∈ lw_tbl := lw_at lw_m9 232 rfl
theorem q2254 : (Jvm.Cond.code ({ cls := "java/util/PriorityQueue", name := "toArray", desc := "()[Ljava/lang/Object;" } : Jvm.MethodName) prog_66_method_20_code (1 : Nat) (Option.some (Jvm.ClassFile.FieldType.array (Jvm.ClassFile.FieldType.object "java/lang/Object")))) ∈ lw_all := lw_g (lw_at lw_m9 233 rfl) rfl
theorem q2289 : (Jvm.Cond.selects "java/util/PriorityQueue" ({ cls := "java/util/AbstractCollection", name := "iterator", desc := "()Ljava/util/Iterator;" } : Jvm.MethodName) ({ cls := "java/util/PriorityQueue", name := "iterator", desc := "()Ljava/util/Iterator;" } : Jvm.MethodName)) ∈ lw_all := lw_g (lw_at lw_m10 28 rfl) rfl
theorem q2290 : (Jvm.Cond.instanceMethod ({ cls := "java/util/PriorityQueue", name := "iterator", desc := "()Ljava/util/Iterator;" } : Jvm.MethodName)) ∈ lw_all := lw_g (lw_at lw_m10 29 rfl) rfl
theorem q2291 : (Jvm.Cond.code ({ cls := "java/util/PriorityQueue", name := "iterator", desc := "()Ljava/util/Iterator;" } : Jvm.MethodName) prog_66_method_22_code (1 : Nat) (Option.some (Jvm.ClassFile.FieldType.object "java/util/Iterator"))) ∈ lw_all := lw_g (lw_at lw_m10 30 rfl) rfl
theorem q2292 : (Jvm.Cond.classLink "java/util/PriorityQueue" (121 : Nat) "java/util/PriorityQueue$Itr") ∈ lw_all := lw_g (lw_at lw_m10 31 rfl) rfl
theorem q2294 : (Jvm.Cond.methodLink "java/util/PriorityQueue" (123 : Nat) ({ cls := "java/util/PriorityQueue$Itr", name := "<init>", desc := "(Ljava/util/PriorityQueue;)V" } : Jvm.MethodName)) ∈ lw_all := lw_g (lw_at lw_m10 33 rfl) rfl
theorem q3314 : (Jvm.Cond.castable "java/util/PriorityQueue" "java/lang/Object") ∈ lw_tbl := lw_at lw_m14 93 rfl
theorem in_J38 : ∀ w ∈ wsJ380, w ∈ lw_all := lw_in wsJ380 [1459, 1461, 1463, 1465] (by decide +kernel) (by decide +kernel)
/-! java/util/TreeMap$Entry -/
set_option maxRecDepth 100000
def RJ39 : String := "java/util/TreeMap$Entry"
def TJ39 : u_T := fun k => match k with
  | 0 => ("java/util/TreeMap$Entry", "key", "Ljava/lang/Object;", false)
  | 1 => ("java/util/TreeMap$Entry", "value", "Ljava/lang/Object;", false)
  | 2 => ("java/util/TreeMap$Entry", "left", "Ljava/util/TreeMap$Entry;", false)
  | 3 => ("java/util/TreeMap$Entry", "right", "Ljava/util/TreeMap$Entry;", false)
  | 4 => ("java/util/TreeMap$Entry", "parent", "Ljava/util/TreeMap$Entry;", false)
  | _ => ("java/util/TreeMap$Entry", "color", "Z", false)
def tyJ39 : Nat → FieldType := fun k => match k with
  | 0 => .object "java/lang/Object"
  | 1 => .object "java/lang/Object"
  | 2 => .object "java/util/TreeMap$Entry"
  | 3 => .object "java/util/TreeMap$Entry"
  | 4 => .object "java/util/TreeMap$Entry"
  | _ => .boolean
abbrev wsJ390 : List Cond := u_ws RJ39 TJ39 6
theorem nmJ39 : ∀ a, a < 6 → ∀ b, b < 6 → a ≠ b → (TJ39 a).2.1 ≠ (TJ39 b).2.1 := by decide +kernel
theorem tyJ39_ok : ∀ k, k < 6 → parseFieldDescriptor (TJ39 k).2.2.1 = some (tyJ39 k) := by decide +kernel
abbrev cJ39_init : ByteArray := prog_77_method_1_code
def yJ39_init : MethodName := ⟨RJ39, "<init>", "(Ljava/lang/Object;Ljava/lang/Object;Ljava/util/TreeMap$Entry;)V"⟩
def dkwJ39_init_1 : List UInt8 := [177]
abbrev dktJ39_init_1 : List UInt8 := dkwJ39_init_1 ++ []
def dkwJ39_init_0 : List UInt8 := [42, 183, 0, 3, 42, 4, 181, 0, 9, 42, 43, 181, 0, 15, 42, 44, 181, 0, 19, 42, 45, 181, 0, 22]
abbrev dktJ39_init_0 : List UInt8 := dkwJ39_init_0 ++ dktJ39_init_1
theorem dksJ39_init_0 : cJ39_init.data.toList.drop 0 = dktJ39_init_0 := by decide +kernel
theorem dksJ39_init_1 : cJ39_init.data.toList.drop 24 = dktJ39_init_1 := dk_seg dksJ39_init_0 24 rfl rfl
theorem dJ39_init_0 : decode cJ39_init 0 = .ok (.aload_n 0, 1) := dk_42 (dk_at dksJ39_init_0 0 rfl rfl)
theorem dJ39_init_1 : decode cJ39_init 1 = .ok (.invokespecial 3, 3) := dk_183 0 3 (dk_at dksJ39_init_0 1 rfl rfl)
theorem dJ39_init_4 : decode cJ39_init 4 = .ok (.aload_n 0, 1) := dk_42 (dk_at dksJ39_init_0 4 rfl rfl)
theorem dJ39_init_5 : decode cJ39_init 5 = .ok (.iconst 1, 1) := dk_4 (dk_at dksJ39_init_0 5 rfl rfl)
theorem dJ39_init_6 : decode cJ39_init 6 = .ok (.putfield 9, 3) := dk_181 0 9 (dk_at dksJ39_init_0 6 rfl rfl)
theorem dJ39_init_9 : decode cJ39_init 9 = .ok (.aload_n 0, 1) := dk_42 (dk_at dksJ39_init_0 9 rfl rfl)
theorem dJ39_init_10 : decode cJ39_init 10 = .ok (.aload_n 1, 1) := dk_43 (dk_at dksJ39_init_0 10 rfl rfl)
theorem dJ39_init_11 : decode cJ39_init 11 = .ok (.putfield 15, 3) := dk_181 0 15 (dk_at dksJ39_init_0 11 rfl rfl)
theorem dJ39_init_14 : decode cJ39_init 14 = .ok (.aload_n 0, 1) := dk_42 (dk_at dksJ39_init_0 14 rfl rfl)
theorem dJ39_init_15 : decode cJ39_init 15 = .ok (.aload_n 2, 1) := dk_44 (dk_at dksJ39_init_0 15 rfl rfl)
theorem dJ39_init_16 : decode cJ39_init 16 = .ok (.putfield 19, 3) := dk_181 0 19 (dk_at dksJ39_init_0 16 rfl rfl)
theorem dJ39_init_19 : decode cJ39_init 19 = .ok (.aload_n 0, 1) := dk_42 (dk_at dksJ39_init_0 19 rfl rfl)
theorem dJ39_init_20 : decode cJ39_init 20 = .ok (.aload_n 3, 1) := dk_45 (dk_at dksJ39_init_0 20 rfl rfl)
theorem dJ39_init_21 : decode cJ39_init 21 = .ok (.putfield 22, 3) := dk_181 0 22 (dk_at dksJ39_init_0 21 rfl rfl)
theorem dJ39_init_24 : decode cJ39_init 24 = .ok (.return_, 1) := dk_177 (dk_at dksJ39_init_1 0 rfl rfl)
theorem q154 : (Jvm.Cond.initialized "java/util/TreeMap$Entry") ∈ lw_all := lw_g (lw_at lw_m1 53 rfl) rfl
theorem q317 : (Jvm.Cond.selects "java/util/TreeMap$Entry" ({ cls := "java/lang/Object", name := "getClass", desc := "()Ljava/lang/Class;" } : Jvm.MethodName) ({ cls := "java/lang/Object", name := "getClass", desc := "()Ljava/lang/Class;" } : Jvm.MethodName)) ∈ lw_all := lw_g (lw_at lw_m1 216 rfl) rfl
theorem q1828 : (Jvm.Cond.instantiable "java/util/TreeMap$Entry" (6 : Nat)) ∈ lw_all := lw_g (lw_at lw_m8 47 rfl) rfl
theorem q1830 : (Jvm.Cond.instanceMethod ({ cls := "java/util/TreeMap$Entry", name := "<init>", desc := "(Ljava/lang/Object;Ljava/lang/Object;Ljava/util/TreeMap$Entry;)V" } : Jvm.MethodName)) ∈ lw_all := lw_g (lw_at lw_m8 49 rfl) rfl
theorem q1831 : (Jvm.Cond.code ({ cls := "java/util/TreeMap$Entry", name := "<init>", desc := "(Ljava/lang/Object;Ljava/lang/Object;Ljava/util/TreeMap$Entry;)V" } : Jvm.MethodName) prog_77_method_1_code (4 : Nat) (Option.none : Option Jvm.ClassFile.FieldType)) ∈ lw_all := lw_g (lw_at lw_m8 50 rfl) rfl
theorem q1832 : (Jvm.Cond.methodLink "java/util/TreeMap$Entry" (3 : Nat) ({ cls := "java/lang/Object", name := "<init>", desc := "()V" } : Jvm.MethodName)) ∈ lw_all := lw_g (lw_at lw_m8 51 rfl) rfl
theorem q1833 : (Jvm.Cond.fieldLink "java/util/TreeMap$Entry" (15 : Nat) "java/util/TreeMap$Entry" "key" "Ljava/lang/Object;") ∈ lw_all := lw_g (lw_at lw_m8 52 rfl) rfl
theorem q1836 : (Jvm.Cond.fieldLink "java/util/TreeMap$Entry" (19 : Nat) "java/util/TreeMap$Entry" "value" "Ljava/lang/Object;") ∈ lw_all := lw_g (lw_at lw_m8 55 rfl) rfl
theorem q1840 : (Jvm.Cond.fieldLink "java/util/TreeMap$Entry" (22 : Nat) "java/util/TreeMap$Entry" "parent" "Ljava/util/TreeMap$Entry;") ∈ lw_all := lw_g (lw_at lw_m8 59 rfl) rfl
theorem q1842 : (Jvm.Cond.fieldLink "java/util/TreeMap$Entry" (9 : Nat) "java/util/TreeMap$Entry" "color" "Z") ∈ lw_all := lw_g (lw_at lw_m8 61 rfl) rfl
theorem q1844 : (Jvm.Cond.lays "java/util/TreeMap$Entry" "java/util/TreeMap$Entry" "key" "Ljava/lang/Object;") ∈ lw_all := lw_g (lw_at lw_m8 63 rfl) rfl
theorem q1845 : (Jvm.Cond.soleField "java/util/TreeMap$Entry" "key") ∈ lw_all := lw_g (lw_at lw_m8 64 rfl) rfl
theorem q1846 : (Jvm.Cond.lays "java/util/TreeMap$Entry" "java/util/TreeMap$Entry" "value" "Ljava/lang/Object;") ∈ lw_all := lw_g (lw_at lw_m8 65 rfl) rfl
theorem q1847 : (Jvm.Cond.soleField "java/util/TreeMap$Entry" "value") ∈ lw_all := lw_g (lw_at lw_m8 66 rfl) rfl
theorem q1848 : (Jvm.Cond.lays "java/util/TreeMap$Entry" "java/util/TreeMap$Entry" "left" "Ljava/util/TreeMap$Entry;") ∈ lw_all := lw_g (lw_at lw_m8 67 rfl) rfl
theorem q1849 : (Jvm.Cond.soleField "java/util/TreeMap$Entry" "left") ∈ lw_all := lw_g (lw_at lw_m8 68 rfl) rfl
theorem q1850 : (Jvm.Cond.lays "java/util/TreeMap$Entry" "java/util/TreeMap$Entry" "right" "Ljava/util/TreeMap$Entry;") ∈ lw_all := lw_g (lw_at lw_m8 69 rfl) rfl
theorem q1851 : (Jvm.Cond.soleField "java/util/TreeMap$Entry" "right") ∈ lw_all := lw_g (lw_at lw_m8 70 rfl) rfl
theorem q1852 : (Jvm.Cond.lays "java/util/TreeMap$Entry" "java/util/TreeMap$Entry" "parent" "Ljava/util/TreeMap$Entry;") ∈ lw_all := lw_g (lw_at lw_m8 71 rfl) rfl
theorem q1853 : (Jvm.Cond.soleField "java/util/TreeMap$Entry" "parent") ∈ lw_all := lw_g (lw_at lw_m8 72 rfl) rfl
theorem q1854 : (Jvm.Cond.lays "java/util/TreeMap$Entry" "java/util/TreeMap$Entry" "color" "Z") ∈ lw_all := lw_g (lw_at lw_m8 73 rfl) rfl
theorem q1855 : (Jvm.Cond.soleField "java/util/TreeMap$Entry" "color") ∈ lw_all := lw_g (lw_at lw_m8 74 rfl) rfl
theorem q1856 : (Jvm.Cond.superclass "java/util/TreeMap$Entry" "java/lang/Object") ∈ lw_all := lw_g (lw_at lw_m8 75 rfl) rfl
theorem q3318 : (Jvm.Cond.castable "java/util/TreeMap$Entry" "java/lang/Object") ∈ lw_tbl := lw_at lw_m14 97 rfl
theorem in_J39 : ∀ w ∈ wsJ390, w ∈ lw_all := lw_in wsJ390 [1844, 1846, 1848, 1850, 1852, 1854] (by decide +kernel) (by decide +kernel)
/-! java/lang/Number -/
set_option maxRecDepth 100000
def RJ4 : String := "java/lang/Number"
abbrev cJ4_init : ByteArray := prog_34_method_1_code
def yJ4_init : MethodName := ⟨RJ4, "<init>", "()V"⟩
theorem dJ4_init_0 : decode cJ4_init 0 = .ok (.aload_n 0, 1) := by decide +kernel
theorem dJ4_init_1 : decode cJ4_init 1 = .ok (.invokespecial 1, 3) := by decide +kernel
theorem dJ4_init_4 : decode cJ4_init 4 = .ok (.return_, 1) := by decide +kernel
theorem q108 : (Jvm.Cond.initialized "java/lang/Number") ∈ lw_all := lw_g (lw_at lw_m1 7 rfl) rfl
theorem q241 : (Jvm.Cond.instanceMethod ({ cls := "java/lang/Number", name := "<init>", desc := "()V" } : Jvm.MethodName)) ∈ lw_all := lw_g (lw_at lw_m1 140 rfl) rfl
theorem q242 : (Jvm.Cond.code ({ cls := "java/lang/Number", name := "<init>", desc := "()V" } : Jvm.MethodName) prog_34_method_1_code (1 : Nat) (Option.none : Option Jvm.ClassFile.FieldType)) ∈ lw_all := lw_g (lw_at lw_m1 141 rfl) rfl
theorem q243 : (Jvm.Cond.methodLink "java/lang/Number" (1 : Nat) ({ cls := "java/lang/Object", name := "<init>", desc := "()V" } : Jvm.MethodName)) ∈ lw_all := lw_g (lw_at lw_m1 142 rfl) rfl
/-! java/util/TreeSet -/
set_option maxRecDepth 100000
def RJ40 : String := "java/util/TreeSet"
def TJ40 : u_T := fun k => match k with
  | _ => ("java/util/TreeSet", "m", "Ljava/util/NavigableMap;", false)
def tyJ40 : Nat → FieldType := fun k => match k with
  | _ => .object "java/util/NavigableMap"
abbrev wsJ400 : List Cond := u_ws RJ40 TJ40 1
theorem nmJ40 : ∀ a, a < 1 → ∀ b, b < 1 → a ≠ b → (TJ40 a).2.1 ≠ (TJ40 b).2.1 := by decide +kernel
theorem tyJ40_ok : ∀ k, k < 1 → parseFieldDescriptor (TJ40 k).2.2.1 = some (tyJ40 k) := by decide +kernel
abbrev cJ40_init : ByteArray := prog_82_method_2_code
def yJ40_init : MethodName := ⟨RJ40, "<init>", "()V"⟩
def dkwJ40_init_0 : List UInt8 := [42, 187, 0, 13, 89, 183, 0, 15, 183, 0, 16, 177]
abbrev dktJ40_init_0 : List UInt8 := dkwJ40_init_0 ++ []
theorem dksJ40_init_0 : cJ40_init.data.toList.drop 0 = dktJ40_init_0 := by decide +kernel
theorem dJ40_init_0 : decode cJ40_init 0 = .ok (.aload_n 0, 1) := dk_42 (dk_at dksJ40_init_0 0 rfl rfl)
theorem dJ40_init_1 : decode cJ40_init 1 = .ok (.new 13, 3) := dk_187 0 13 (dk_at dksJ40_init_0 1 rfl rfl)
theorem dJ40_init_4 : decode cJ40_init 4 = .ok (.dup, 1) := dk_89 (dk_at dksJ40_init_0 4 rfl rfl)
theorem dJ40_init_5 : decode cJ40_init 5 = .ok (.invokespecial 15, 3) := dk_183 0 15 (dk_at dksJ40_init_0 5 rfl rfl)
theorem dJ40_init_8 : decode cJ40_init 8 = .ok (.invokespecial 16, 3) := dk_183 0 16 (dk_at dksJ40_init_0 8 rfl rfl)
theorem dJ40_init_11 : decode cJ40_init 11 = .ok (.return_, 1) := dk_177 (dk_at dksJ40_init_0 11 rfl rfl)
abbrev cJ40_init_2 : ByteArray := prog_82_method_1_code
def yJ40_init_2 : MethodName := ⟨RJ40, "<init>", "(Ljava/util/NavigableMap;)V"⟩
def dkwJ40_init_2_0 : List UInt8 := [42, 183, 0, 1, 42, 43, 181, 0, 7, 177]
abbrev dktJ40_init_2_0 : List UInt8 := dkwJ40_init_2_0 ++ []
theorem dksJ40_init_2_0 : cJ40_init_2.data.toList.drop 0 = dktJ40_init_2_0 := by decide +kernel
theorem dJ40_init_2_0 : decode cJ40_init_2 0 = .ok (.aload_n 0, 1) := dk_42 (dk_at dksJ40_init_2_0 0 rfl rfl)
theorem dJ40_init_2_1 : decode cJ40_init_2 1 = .ok (.invokespecial 1, 3) := dk_183 0 1 (dk_at dksJ40_init_2_0 1 rfl rfl)
theorem dJ40_init_2_4 : decode cJ40_init_2 4 = .ok (.aload_n 0, 1) := dk_42 (dk_at dksJ40_init_2_0 4 rfl rfl)
theorem dJ40_init_2_5 : decode cJ40_init_2 5 = .ok (.aload_n 1, 1) := dk_43 (dk_at dksJ40_init_2_0 5 rfl rfl)
theorem dJ40_init_2_6 : decode cJ40_init_2 6 = .ok (.putfield 7, 3) := dk_181 0 7 (dk_at dksJ40_init_2_0 6 rfl rfl)
theorem dJ40_init_2_9 : decode cJ40_init_2 9 = .ok (.return_, 1) := dk_177 (dk_at dksJ40_init_2_0 9 rfl rfl)
abbrev cJ40_add : ByteArray := prog_82_method_12_code
def yJ40_add : MethodName := ⟨RJ40, "add", "(Ljava/lang/Object;)Z"⟩
def dkwJ40_add_0 : List UInt8 := [42, 180, 0, 7, 43, 178, 0, 65, 185, 0, 69, 3, 0, 199, 0, 7, 4, 167, 0, 4, 3, 172]
abbrev dktJ40_add_0 : List UInt8 := dkwJ40_add_0 ++ []
theorem dksJ40_add_0 : cJ40_add.data.toList.drop 0 = dktJ40_add_0 := by decide +kernel
theorem dJ40_add_0 : decode cJ40_add 0 = .ok (.aload_n 0, 1) := dk_42 (dk_at dksJ40_add_0 0 rfl rfl)
theorem dJ40_add_1 : decode cJ40_add 1 = .ok (.getfield 7, 3) := dk_180 0 7 (dk_at dksJ40_add_0 1 rfl rfl)
theorem dJ40_add_4 : decode cJ40_add 4 = .ok (.aload_n 1, 1) := dk_43 (dk_at dksJ40_add_0 4 rfl rfl)
theorem dJ40_add_5 : decode cJ40_add 5 = .ok (.getstatic 65, 3) := dk_178 0 65 (dk_at dksJ40_add_0 5 rfl rfl)
theorem dJ40_add_8 : decode cJ40_add 8 = .ok (.invokeinterface 69 3, 5) := by decide +kernel
theorem dJ40_add_13 : decode cJ40_add 13 = .ok (.ifnonnull 7, 3) := dk_199 0 7 (dk_at dksJ40_add_0 13 rfl rfl)
theorem dJ40_add_16 : decode cJ40_add 16 = .ok (.iconst 1, 1) := dk_4 (dk_at dksJ40_add_0 16 rfl rfl)
theorem dJ40_add_17 : decode cJ40_add 17 = .ok (.goto 4, 3) := dk_167 0 4 (dk_at dksJ40_add_0 17 rfl rfl)
theorem dJ40_add_20 : decode cJ40_add 20 = .ok (.iconst 0, 1) := dk_3 (dk_at dksJ40_add_0 20 rfl rfl)
theorem dJ40_add_21 : decode cJ40_add 21 = .ok (.ireturn, 1) := dk_172 (dk_at dksJ40_add_0 21 rfl rfl)
abbrev cJ40_contains : ByteArray := prog_82_method_11_code
def yJ40_contains : MethodName := ⟨RJ40, "contains", "(Ljava/lang/Object;)Z"⟩
def dkwJ40_contains_0 : List UInt8 := [42, 180, 0, 7, 43, 185, 0, 61, 2, 0, 172]
abbrev dktJ40_contains_0 : List UInt8 := dkwJ40_contains_0 ++ []
theorem dksJ40_contains_0 : cJ40_contains.data.toList.drop 0 = dktJ40_contains_0 := by decide +kernel
theorem dJ40_contains_0 : decode cJ40_contains 0 = .ok (.aload_n 0, 1) := dk_42 (dk_at dksJ40_contains_0 0 rfl rfl)
theorem dJ40_contains_1 : decode cJ40_contains 1 = .ok (.getfield 7, 3) := dk_180 0 7 (dk_at dksJ40_contains_0 1 rfl rfl)
theorem dJ40_contains_4 : decode cJ40_contains 4 = .ok (.aload_n 1, 1) := dk_43 (dk_at dksJ40_contains_0 4 rfl rfl)
theorem dJ40_contains_5 : decode cJ40_contains 5 = .ok (.invokeinterface 61 2, 5) := by decide +kernel
theorem dJ40_contains_10 : decode cJ40_contains 10 = .ok (.ireturn, 1) := dk_172 (dk_at dksJ40_contains_0 10 rfl rfl)
theorem q158 : (Jvm.Cond.initialized "java/util/TreeSet") ∈ lw_all := lw_g (lw_at lw_m1 57 rfl) rfl
theorem q320 : (Jvm.Cond.selects "java/util/TreeSet" ({ cls := "java/lang/Object", name := "getClass", desc := "()Ljava/lang/Class;" } : Jvm.MethodName) ({ cls := "java/lang/Object", name := "getClass", desc := "()Ljava/lang/Class;" } : Jvm.MethodName)) ∈ lw_all := lw_g (lw_at lw_m1 219 rfl) rfl
theorem q1701 : (Jvm.Cond.selects "java/util/TreeSet" ({ cls := "java/util/AbstractCollection", name := "size", desc := "()I" } : Jvm.MethodName) ({ cls := "java/util/TreeSet", name := "size", desc := "()I" } : Jvm.MethodName)) ∈ lw_all := lw_g (lw_at lw_m7 160 rfl) rfl
theorem q1702 : (Jvm.Cond.instanceMethod ({ cls := "java/util/TreeSet", name := "size", desc := "()I" } : Jvm.MethodName)) ∈ lw_all := lw_g (lw_at lw_m7 161 rfl) rfl
theorem q1703 : (Jvm.Cond.code ({ cls := "java/util/TreeSet", name := "size", desc := "()I" } : Jvm.MethodName) prog_82_method_9_code (1 : Nat) (Option.some Jvm.ClassFile.FieldType.int)) ∈ lw_all := lw_g (lw_at lw_m7 162 rfl) rfl
theorem q1704 : (Jvm.Cond.interfaceEntry "java/util/TreeSet" (53 : Nat)) ∈ lw_tbl := lw_at lw_m7 163 rfl
theorem q2355 : (Jvm.Cond.selects "java/util/TreeSet" ({ cls := "java/util/AbstractCollection", name := "iterator", desc := "()Ljava/util/Iterator;" } : Jvm.MethodName) ({ cls := "java/util/TreeSet", name := "iterator", desc := "()Ljava/util/Iterator;" } : Jvm.MethodName)) ∈ lw_all := lw_g (lw_at lw_m10 94 rfl) rfl
theorem q2356 : (Jvm.Cond.instanceMethod ({ cls := "java/util/TreeSet", name := "iterator", desc := "()Ljava/util/Iterator;" } : Jvm.MethodName)) ∈ lw_all := lw_g (lw_at lw_m10 95 rfl) rfl
theorem q2357 : (Jvm.Cond.code ({ cls := "java/util/TreeSet", name := "iterator", desc := "()Ljava/util/Iterator;" } : Jvm.MethodName) prog_82_method_6_code (1 : Nat) (Option.some (Jvm.ClassFile.FieldType.object "java/util/Iterator"))) ∈ lw_all := lw_g (lw_at lw_m10 96 rfl) rfl
theorem q2358 : (Jvm.Cond.interfaceEntry "java/util/TreeSet" (34 : Nat)) ∈ lw_tbl := lw_at lw_m10 97 rfl
theorem q2359 : (Jvm.Cond.methodLink "java/util/TreeSet" (34 : Nat) ({ cls := "java/util/NavigableMap", name := "navigableKeySet", desc := "()Ljava/util/NavigableSet;" } : Jvm.MethodName)) ∈ lw_all := lw_g (lw_at lw_m10 98 rfl) rfl
theorem q2380 : (Jvm.Cond.interfaceEntry "java/util/TreeSet" (40 : Nat)) ∈ lw_tbl := lw_at lw_m10 119 rfl
theorem q2381 : (Jvm.Cond.methodLink "java/util/TreeSet" (40 : Nat) ({ cls := "java/util/NavigableSet", name := "iterator", desc := "()Ljava/util/Iterator;" } : Jvm.MethodName)) ∈ lw_all := lw_g (lw_at lw_m10 120 rfl) rfl
theorem q2388 : (Jvm.Cond.castable "java/util/TreeSet" "java/util/NavigableSet") ∈ lw_tbl := lw_at lw_m10 127 rfl
theorem q2389 : (Jvm.Cond.selects "java/util/TreeSet" ({ cls := "java/util/NavigableSet", name := "iterator", desc := "()Ljava/util/Iterator;" } : Jvm.MethodName) ({ cls := "java/util/TreeSet", name := "iterator", desc := "()Ljava/util/Iterator;" } : Jvm.MethodName)) ∈ lw_all := lw_g (lw_at lw_m10 128 rfl) rfl
theorem q2390 : (Jvm.Cond.unhidden "java/util/TreeSet" "iterator" "()Ljava/util/Iterator;") ∈ lw_tbl := lw_at lw_m10 129 rfl
theorem q2391 : (Jvm.Cond.publicMethod ({ cls := "java/util/TreeSet", name := "iterator", desc := "()Ljava/util/Iterator;" } : Jvm.MethodName)) ∈ lw_tbl := lw_at lw_m10 130 rfl
theorem q2401 : (Jvm.Cond.castable "java/util/TreeSet" "java/util/Collection") ∈ lw_tbl := lw_at lw_m10 140 rfl
theorem q2402 : (Jvm.Cond.selects "java/util/TreeSet" ({ cls := "java/util/Collection", name := "toArray", desc := "()[Ljava/lang/Object;" } : Jvm.MethodName) ({ cls := "java/util/AbstractCollection", name := "toArray", desc := "()[Ljava/lang/Object;" } : Jvm.MethodName)) ∈ lw_all := lw_g (lw_at lw_m10 141 rfl) rfl
theorem q2403 : (Jvm.Cond.unhidden "java/util/TreeSet" "toArray" "()[Ljava/lang/Object;") ∈ lw_tbl := lw_at lw_m10 142 rfl
theorem q2517 : (Jvm.Cond.instantiable "java/util/TreeSet" (1 : Nat)) ∈ lw_all := lw_g (lw_at lw_m11 16 rfl) rfl
theorem q2519 : (Jvm.Cond.instanceMethod ({ cls := "java/util/TreeSet", name := "<init>", desc := "()V" } : Jvm.MethodName)) ∈ lw_all := lw_g (lw_at lw_m11 18 rfl) rfl
theorem q2520 : (Jvm.Cond.code ({ cls := "java/util/TreeSet", name := "<init>", desc := "()V" } : Jvm.MethodName) prog_82_method_2_code (1 : Nat) (Option.none : Option Jvm.ClassFile.FieldType)) ∈ lw_all := lw_g (lw_at lw_m11 19 rfl) rfl
theorem q2521 : (Jvm.Cond.classLink "java/util/TreeSet" (13 : Nat) "java/util/TreeMap") ∈ lw_all := lw_g (lw_at lw_m11 20 rfl) rfl
theorem q2522 : (Jvm.Cond.methodLink "java/util/TreeSet" (15 : Nat) ({ cls := "java/util/TreeMap", name := "<init>", desc := "()V" } : Jvm.MethodName)) ∈ lw_all := lw_g (lw_at lw_m11 21 rfl) rfl
theorem q2523 : (Jvm.Cond.methodLink "java/util/TreeSet" (16 : Nat) ({ cls := "java/util/TreeSet", name := "<init>", desc := "(Ljava/util/NavigableMap;)V" } : Jvm.MethodName)) ∈ lw_all := lw_g (lw_at lw_m11 22 rfl) rfl
theorem q2524 : (Jvm.Cond.instanceMethod ({ cls := "java/util/TreeSet", name := "<init>", desc := "(Ljava/util/NavigableMap;)V" } : Jvm.MethodName)) ∈ lw_all := lw_g (lw_at lw_m11 23 rfl) rfl
theorem q2525 : (Jvm.Cond.code ({ cls := "java/util/TreeSet", name := "<init>", desc := "(Ljava/util/NavigableMap;)V" } : Jvm.MethodName) prog_82_method_1_code (2 : Nat) (Option.none : Option Jvm.ClassFile.FieldType)) ∈ lw_all := lw_g (lw_at lw_m11 24 rfl) rfl
theorem q2526 : (Jvm.Cond.methodLink "java/util/TreeSet" (1 : Nat) ({ cls := "java/util/AbstractSet", name := "<init>", desc := "()V" } : Jvm.MethodName)) ∈ lw_all := lw_g (lw_at lw_m11 25 rfl) rfl
theorem q2527 : (Jvm.Cond.fieldLink "java/util/TreeSet" (7 : Nat) "java/util/TreeSet" "m" "Ljava/util/NavigableMap;") ∈ lw_all := lw_g (lw_at lw_m11 26 rfl) rfl
theorem q2528 : (Jvm.Cond.lays "java/util/TreeSet" "java/util/TreeSet" "m" "Ljava/util/NavigableMap;") ∈ lw_all := lw_g (lw_at lw_m11 27 rfl) rfl
theorem q2529 : (Jvm.Cond.soleField "java/util/TreeSet" "m") ∈ lw_all := lw_g (lw_at lw_m11 28 rfl) rfl
theorem q2530 : (Jvm.Cond.superclass "java/util/TreeSet" "java/util/AbstractSet") ∈ lw_all := lw_g (lw_at lw_m11 29 rfl) rfl
theorem q2536 : (Jvm.Cond.instanceMethod ({ cls := "java/util/TreeSet", name := "add", desc := "(Ljava/lang/Object;)Z" } : Jvm.MethodName)) ∈ lw_all := lw_g (lw_at lw_m11 35 rfl) rfl
theorem q2537 : (Jvm.Cond.selects "java/util/TreeSet" ({ cls := "java/util/TreeSet", name := "add", desc := "(Ljava/lang/Object;)Z" } : Jvm.MethodName) ({ cls := "java/util/TreeSet", name := "add", desc := "(Ljava/lang/Object;)Z" } : Jvm.MethodName)) ∈ lw_all := lw_g (lw_at lw_m11 36 rfl) rfl
theorem q2538 : (Jvm.Cond.code ({ cls := "java/util/TreeSet", name := "add", desc := "(Ljava/lang/Object;)Z" } : Jvm.MethodName) prog_82_method_12_code (2 : Nat) (Option.some Jvm.ClassFile.FieldType.boolean)) ∈ lw_all := lw_g (lw_at lw_m11 37 rfl) rfl
theorem q2539 : (Jvm.Cond.fieldLink "java/util/TreeSet" (65 : Nat) "java/util/TreeSet" "PRESENT" "Ljava/lang/Object;") ∈ lw_all := lw_g (lw_at lw_m11 38 rfl) rfl
theorem q2540 : (Jvm.Cond.laysStatic "java/util/TreeSet" "PRESENT" "Ljava/lang/Object;") ∈ lw_tbl := lw_at lw_m11 39 rfl
theorem q2541 : (Jvm.Cond.interfaceEntry "java/util/TreeSet" (69 : Nat)) ∈ lw_tbl := lw_at lw_m11 40 rfl
theorem q2568 : (Jvm.Cond.instanceMethod ({ cls := "java/util/TreeSet", name := "contains", desc := "(Ljava/lang/Object;)Z" } : Jvm.MethodName)) ∈ lw_all := lw_g (lw_at lw_m11 67 rfl) rfl
theorem q2569 : (Jvm.Cond.selects "java/util/TreeSet" ({ cls := "java/util/TreeSet", name := "contains", desc := "(Ljava/lang/Object;)Z" } : Jvm.MethodName) ({ cls := "java/util/TreeSet", name := "contains", desc := "(Ljava/lang/Object;)Z" } : Jvm.MethodName)) ∈ lw_all := lw_g (lw_at lw_m11 68 rfl) rfl
theorem q2570 : (Jvm.Cond.code ({ cls := "java/util/TreeSet", name := "contains", desc := "(Ljava/lang/Object;)Z" } : Jvm.MethodName) prog_82_method_11_code (2 : Nat) (Option.some Jvm.ClassFile.FieldType.boolean)) ∈ lw_all := lw_g (lw_at lw_m11 69 rfl) rfl
theorem q2571 : (Jvm.Cond.interfaceEntry "java/util/TreeSet" (61 : Nat)) ∈ lw_tbl := lw_at lw_m11 70 rfl
theorem q3322 : (Jvm.Cond.castable "java/util/TreeSet" "java/lang/Object") ∈ lw_tbl := lw_at lw_m14 101 rfl
theorem in_J40 : ∀ w ∈ wsJ400, w ∈ lw_all := lw_in wsJ400 [2528] (by decide +kernel) (by decide +kernel)
/-! java/lang/Object -/
set_option maxRecDepth 100000
def RJ41 : String := "java/lang/Object"
theorem q167 : (Jvm.Cond.instanceMethod ({ cls := "java/lang/Object", name := "<init>", desc := "()V" } : Jvm.MethodName)) ∈ lw_all := lw_g (lw_at lw_m1 66 rfl) rfl
theorem q168 : (Jvm.Cond.code ({ cls := "java/lang/Object", name := "<init>", desc := "()V" } : Jvm.MethodName) object_method_1_code (1 : Nat) (Option.none : Option Jvm.ClassFile.FieldType)) ∈ lw_all := lw_g (lw_at lw_m1 67 rfl) rfl
theorem q284 : (Jvm.Cond.instanceMethod ({ cls := "java/lang/Object", name := "getClass", desc := "()Ljava/lang/Class;" } : Jvm.MethodName)) ∈ lw_all := lw_g (lw_at lw_m1 183 rfl) rfl
theorem q285 : (Jvm.Cond.sameMethod "java/lang/Object" "java/lang/Object" "getClass" "()Ljava/lang/Class;") ∈ lw_all := lw_g (lw_at lw_m1 184 rfl) rfl
theorem q322 : (Jvm.Cond.native ({ cls := "java/lang/Object", name := "getClass", desc := "()Ljava/lang/Class;" } : Jvm.MethodName)) ∈ lw_all := lw_g (lw_at lw_m1 221 rfl) rfl
theorem q444 : (Jvm.Cond.native ({ cls := "java/lang/Object", name := "clone", desc := "()Ljava/lang/Object;" } : Jvm.MethodName)) ∈ lw_all := lw_g (lw_at lw_m2 103 rfl) rfl
theorem q445 : (Jvm.Cond.instanceMethod ({ cls := "java/lang/Object", name := "clone", desc := "()Ljava/lang/Object;" } : Jvm.MethodName)) ∈ lw_all := lw_g (lw_at lw_m2 104 rfl) rfl
theorem q737 : (Jvm.Cond.declares ({ cls := "java/lang/Object", name := "equals", desc := "(Ljava/lang/Object;)Z" } : Jvm.MethodName)) ∈ lw_tbl := lw_at lw_m3 156 rfl
theorem q739 : (Jvm.Cond.instanceMethod ({ cls := "java/lang/Object", name := "equals", desc := "(Ljava/lang/Object;)Z" } : Jvm.MethodName)) ∈ lw_all := lw_g (lw_at lw_m3 158 rfl) rfl
theorem q740 : (Jvm.Cond.sameMethod "java/lang/Object" "java/lang/Object" "equals" "(Ljava/lang/Object;)Z") ∈ lw_all := lw_g (lw_at lw_m3 159 rfl) rfl
theorem q888 : (Jvm.Cond.code ({ cls := "java/lang/Object", name := "equals", desc := "(Ljava/lang/Object;)Z" } : Jvm.MethodName) object_method_4_code (2 : Nat) (Option.some Jvm.ClassFile.FieldType.boolean)) ∈ lw_all := lw_g (lw_at lw_m4 67 rfl) rfl
theorem q3292 : (Jvm.Cond.initialized "java/lang/Object") ∈ lw_all := lw_g (lw_at lw_m14 71 rfl) rfl
theorem q3333 : (Jvm.Cond.declares ({ cls := "java/lang/Object", name := "getClass", desc := "()Ljava/lang/Class;" } : Jvm.MethodName)) ∈ lw_tbl := lw_at lw_m14 112 rfl
/-! java/lang/Integer -/
set_option maxRecDepth 100000
def RJ5 : String := "java/lang/Integer"
def TJ5 : u_T := fun k => match k with
  | _ => ("java/lang/Integer", "value", "I", true)
def tyJ5 : Nat → FieldType := fun k => match k with
  | _ => .int
abbrev wsJ50 : List Cond := u_ws RJ5 TJ5 1
theorem nmJ5 : ∀ a, a < 1 → ∀ b, b < 1 → a ≠ b → (TJ5 a).2.1 ≠ (TJ5 b).2.1 := by decide +kernel
theorem tyJ5_ok : ∀ k, k < 1 → parseFieldDescriptor (TJ5 k).2.2.1 = some (tyJ5 k) := by decide +kernel
abbrev cJ5_valueOf : ByteArray := prog_28_method_22_code
def yJ5_valueOf : MethodName := ⟨RJ5, "valueOf", "(I)Ljava/lang/Integer;"⟩
def dkwJ5_valueOf_1 : List UInt8 := [187, 0, 1, 89, 26, 183, 0, 199, 176]
abbrev dktJ5_valueOf_1 : List UInt8 := dkwJ5_valueOf_1 ++ []
def dkwJ5_valueOf_0 : List UInt8 := [26, 16, 128, 161, 0, 20, 26, 178, 0, 191, 163, 0, 13, 178, 0, 195, 26, 17, 0, 128, 96, 50, 176]
abbrev dktJ5_valueOf_0 : List UInt8 := dkwJ5_valueOf_0 ++ dktJ5_valueOf_1
theorem dksJ5_valueOf_0 : cJ5_valueOf.data.toList.drop 0 = dktJ5_valueOf_0 := by decide +kernel
theorem dksJ5_valueOf_1 : cJ5_valueOf.data.toList.drop 23 = dktJ5_valueOf_1 := dk_seg dksJ5_valueOf_0 23 rfl rfl
theorem dJ5_valueOf_0 : decode cJ5_valueOf 0 = .ok (.iload_n 0, 1) := dk_26 (dk_at dksJ5_valueOf_0 0 rfl rfl)
theorem dJ5_valueOf_1 : decode cJ5_valueOf 1 = .ok (.bipush (-128), 2) := dk_16 128 (dk_at dksJ5_valueOf_0 1 rfl rfl)
theorem dJ5_valueOf_3 : decode cJ5_valueOf 3 = .ok (.if_icmp .lt 20, 3) := dk_161 0 20 (dk_at dksJ5_valueOf_0 3 rfl rfl)
theorem dJ5_valueOf_6 : decode cJ5_valueOf 6 = .ok (.iload_n 0, 1) := dk_26 (dk_at dksJ5_valueOf_0 6 rfl rfl)
theorem dJ5_valueOf_7 : decode cJ5_valueOf 7 = .ok (.getstatic 191, 3) := dk_178 0 191 (dk_at dksJ5_valueOf_0 7 rfl rfl)
theorem dJ5_valueOf_10 : decode cJ5_valueOf 10 = .ok (.if_icmp .gt 13, 3) := dk_163 0 13 (dk_at dksJ5_valueOf_0 10 rfl rfl)
theorem dJ5_valueOf_13 : decode cJ5_valueOf 13 = .ok (.getstatic 195, 3) := dk_178 0 195 (dk_at dksJ5_valueOf_0 13 rfl rfl)
theorem dJ5_valueOf_16 : decode cJ5_valueOf 16 = .ok (.iload_n 0, 1) := dk_26 (dk_at dksJ5_valueOf_0 16 rfl rfl)
theorem dJ5_valueOf_17 : decode cJ5_valueOf 17 = .ok (.sipush 128, 3) := dk_17 0 128 (dk_at dksJ5_valueOf_0 17 rfl rfl)
theorem dJ5_valueOf_20 : decode cJ5_valueOf 20 = .ok (.iadd, 1) := dk_96 (dk_at dksJ5_valueOf_0 20 rfl rfl)
theorem dJ5_valueOf_21 : decode cJ5_valueOf 21 = .ok (.aaload, 1) := dk_50 (dk_at dksJ5_valueOf_0 21 rfl rfl)
theorem dJ5_valueOf_22 : decode cJ5_valueOf 22 = .ok (.areturn, 1) := dk_176 (dk_at dksJ5_valueOf_0 22 rfl rfl)
theorem dJ5_valueOf_23 : decode cJ5_valueOf 23 = .ok (.new 1, 3) := dk_187 0 1 (dk_at dksJ5_valueOf_1 0 rfl rfl)
theorem dJ5_valueOf_26 : decode cJ5_valueOf 26 = .ok (.dup, 1) := dk_89 (dk_at dksJ5_valueOf_1 3 rfl rfl)
theorem dJ5_valueOf_27 : decode cJ5_valueOf 27 = .ok (.iload_n 0, 1) := dk_26 (dk_at dksJ5_valueOf_1 4 rfl rfl)
theorem dJ5_valueOf_28 : decode cJ5_valueOf 28 = .ok (.invokespecial 199, 3) := dk_183 0 199 (dk_at dksJ5_valueOf_1 5 rfl rfl)
theorem dJ5_valueOf_31 : decode cJ5_valueOf 31 = .ok (.areturn, 1) := dk_176 (dk_at dksJ5_valueOf_1 8 rfl rfl)
abbrev cJ5_init : ByteArray := prog_28_method_23_code
def yJ5_init : MethodName := ⟨RJ5, "<init>", "(I)V"⟩
def dkwJ5_init_0 : List UInt8 := [42, 183, 0, 202, 42, 27, 181, 0, 205, 177]
abbrev dktJ5_init_0 : List UInt8 := dkwJ5_init_0 ++ []
theorem dksJ5_init_0 : cJ5_init.data.toList.drop 0 = dktJ5_init_0 := by decide +kernel
theorem dJ5_init_0 : decode cJ5_init 0 = .ok (.aload_n 0, 1) := dk_42 (dk_at dksJ5_init_0 0 rfl rfl)
theorem dJ5_init_1 : decode cJ5_init 1 = .ok (.invokespecial 202, 3) := dk_183 0 202 (dk_at dksJ5_init_0 1 rfl rfl)
theorem dJ5_init_4 : decode cJ5_init 4 = .ok (.aload_n 0, 1) := dk_42 (dk_at dksJ5_init_0 4 rfl rfl)
theorem dJ5_init_5 : decode cJ5_init 5 = .ok (.iload_n 1, 1) := dk_27 (dk_at dksJ5_init_0 5 rfl rfl)
theorem dJ5_init_6 : decode cJ5_init 6 = .ok (.putfield 205, 3) := dk_181 0 205 (dk_at dksJ5_init_0 6 rfl rfl)
theorem dJ5_init_9 : decode cJ5_init 9 = .ok (.return_, 1) := dk_177 (dk_at dksJ5_init_0 9 rfl rfl)
abbrev cJ5_intValue : ByteArray := prog_28_method_27_code
def yJ5_intValue : MethodName := ⟨RJ5, "intValue", "()I"⟩
theorem dJ5_intValue_0 : decode cJ5_intValue 0 = .ok (.aload_n 0, 1) := by decide +kernel
theorem dJ5_intValue_1 : decode cJ5_intValue 1 = .ok (.getfield 205, 3) := by decide +kernel
theorem dJ5_intValue_4 : decode cJ5_intValue 4 = .ok (.ireturn, 1) := by decide +kernel
abbrev cJ5_numberOfLeadingZeros : ByteArray := prog_28_method_47_code
def yJ5_numberOfLeadingZeros : MethodName := ⟨RJ5, "numberOfLeadingZeros", "(I)I"⟩
def dkwJ5_numberOfLeadingZeros_3 : List UInt8 := [5, 124, 59, 27, 26, 4, 124, 100, 172]
abbrev dktJ5_numberOfLeadingZeros_3 : List UInt8 := dkwJ5_numberOfLeadingZeros_3 ++ []
def dkwJ5_numberOfLeadingZeros_2 : List UInt8 := [124, 59, 26, 16, 16, 161, 0, 10, 132, 1, 252, 26, 7, 124, 59, 26, 7, 161, 0, 10, 132, 1, 254, 26]
abbrev dktJ5_numberOfLeadingZeros_2 : List UInt8 := dkwJ5_numberOfLeadingZeros_2 ++ dktJ5_numberOfLeadingZeros_3
def dkwJ5_numberOfLeadingZeros_1 : List UInt8 := [161, 0, 11, 132, 1, 240, 26, 16, 16, 124, 59, 26, 17, 1, 0, 161, 0, 11, 132, 1, 248, 26, 16, 8]
abbrev dktJ5_numberOfLeadingZeros_1 : List UInt8 := dkwJ5_numberOfLeadingZeros_1 ++ dktJ5_numberOfLeadingZeros_2
def dkwJ5_numberOfLeadingZeros_0 : List UInt8 := [26, 157, 0, 14, 26, 154, 0, 8, 16, 32, 167, 0, 4, 3, 172, 16, 31, 60, 26, 19, 1, 8]
abbrev dktJ5_numberOfLeadingZeros_0 : List UInt8 := dkwJ5_numberOfLeadingZeros_0 ++ dktJ5_numberOfLeadingZeros_1
theorem dksJ5_numberOfLeadingZeros_0 : cJ5_numberOfLeadingZeros.data.toList.drop 0 = dktJ5_numberOfLeadingZeros_0 := by decide +kernel
theorem dksJ5_numberOfLeadingZeros_1 : cJ5_numberOfLeadingZeros.data.toList.drop 22 = dktJ5_numberOfLeadingZeros_1 := dk_seg dksJ5_numberOfLeadingZeros_0 22 rfl rfl
theorem dksJ5_numberOfLeadingZeros_2 : cJ5_numberOfLeadingZeros.data.toList.drop 46 = dktJ5_numberOfLeadingZeros_2 := dk_seg dksJ5_numberOfLeadingZeros_1 24 rfl rfl
theorem dksJ5_numberOfLeadingZeros_3 : cJ5_numberOfLeadingZeros.data.toList.drop 70 = dktJ5_numberOfLeadingZeros_3 := dk_seg dksJ5_numberOfLeadingZeros_2 24 rfl rfl
theorem dJ5_numberOfLeadingZeros_0 : decode cJ5_numberOfLeadingZeros 0 = .ok (.iload_n 0, 1) := dk_26 (dk_at dksJ5_numberOfLeadingZeros_0 0 rfl rfl)
theorem dJ5_numberOfLeadingZeros_1 : decode cJ5_numberOfLeadingZeros 1 = .ok (.ifCond .gt 14, 3) := dk_157 0 14 (dk_at dksJ5_numberOfLeadingZeros_0 1 rfl rfl)
theorem dJ5_numberOfLeadingZeros_4 : decode cJ5_numberOfLeadingZeros 4 = .ok (.iload_n 0, 1) := dk_26 (dk_at dksJ5_numberOfLeadingZeros_0 4 rfl rfl)
theorem dJ5_numberOfLeadingZeros_5 : decode cJ5_numberOfLeadingZeros 5 = .ok (.ifCond .ne 8, 3) := dk_154 0 8 (dk_at dksJ5_numberOfLeadingZeros_0 5 rfl rfl)
theorem dJ5_numberOfLeadingZeros_8 : decode cJ5_numberOfLeadingZeros 8 = .ok (.bipush 32, 2) := dk_16 32 (dk_at dksJ5_numberOfLeadingZeros_0 8 rfl rfl)
theorem dJ5_numberOfLeadingZeros_10 : decode cJ5_numberOfLeadingZeros 10 = .ok (.goto 4, 3) := dk_167 0 4 (dk_at dksJ5_numberOfLeadingZeros_0 10 rfl rfl)
theorem dJ5_numberOfLeadingZeros_13 : decode cJ5_numberOfLeadingZeros 13 = .ok (.iconst 0, 1) := dk_3 (dk_at dksJ5_numberOfLeadingZeros_0 13 rfl rfl)
theorem dJ5_numberOfLeadingZeros_14 : decode cJ5_numberOfLeadingZeros 14 = .ok (.ireturn, 1) := dk_172 (dk_at dksJ5_numberOfLeadingZeros_0 14 rfl rfl)
theorem dJ5_numberOfLeadingZeros_15 : decode cJ5_numberOfLeadingZeros 15 = .ok (.bipush 31, 2) := dk_16 31 (dk_at dksJ5_numberOfLeadingZeros_0 15 rfl rfl)
theorem dJ5_numberOfLeadingZeros_17 : decode cJ5_numberOfLeadingZeros 17 = .ok (.istore_n 1, 1) := dk_60 (dk_at dksJ5_numberOfLeadingZeros_0 17 rfl rfl)
theorem dJ5_numberOfLeadingZeros_18 : decode cJ5_numberOfLeadingZeros 18 = .ok (.iload_n 0, 1) := dk_26 (dk_at dksJ5_numberOfLeadingZeros_0 18 rfl rfl)
theorem dJ5_numberOfLeadingZeros_19 : decode cJ5_numberOfLeadingZeros 19 = .ok (.ldc_w 264, 3) := dk_19 1 8 (dk_at dksJ5_numberOfLeadingZeros_0 19 rfl rfl)
theorem dJ5_numberOfLeadingZeros_22 : decode cJ5_numberOfLeadingZeros 22 = .ok (.if_icmp .lt 11, 3) := dk_161 0 11 (dk_at dksJ5_numberOfLeadingZeros_1 0 rfl rfl)
theorem dJ5_numberOfLeadingZeros_25 : decode cJ5_numberOfLeadingZeros 25 = .ok (.iinc 1 (-16), 3) := dk_132 1 240 (dk_at dksJ5_numberOfLeadingZeros_1 3 rfl rfl)
theorem dJ5_numberOfLeadingZeros_28 : decode cJ5_numberOfLeadingZeros 28 = .ok (.iload_n 0, 1) := dk_26 (dk_at dksJ5_numberOfLeadingZeros_1 6 rfl rfl)
theorem dJ5_numberOfLeadingZeros_29 : decode cJ5_numberOfLeadingZeros 29 = .ok (.bipush 16, 2) := dk_16 16 (dk_at dksJ5_numberOfLeadingZeros_1 7 rfl rfl)
theorem dJ5_numberOfLeadingZeros_31 : decode cJ5_numberOfLeadingZeros 31 = .ok (.iushr, 1) := dk_124 (dk_at dksJ5_numberOfLeadingZeros_1 9 rfl rfl)
theorem dJ5_numberOfLeadingZeros_32 : decode cJ5_numberOfLeadingZeros 32 = .ok (.istore_n 0, 1) := dk_59 (dk_at dksJ5_numberOfLeadingZeros_1 10 rfl rfl)
theorem dJ5_numberOfLeadingZeros_33 : decode cJ5_numberOfLeadingZeros 33 = .ok (.iload_n 0, 1) := dk_26 (dk_at dksJ5_numberOfLeadingZeros_1 11 rfl rfl)
theorem dJ5_numberOfLeadingZeros_34 : decode cJ5_numberOfLeadingZeros 34 = .ok (.sipush 256, 3) := dk_17 1 0 (dk_at dksJ5_numberOfLeadingZeros_1 12 rfl rfl)
theorem dJ5_numberOfLeadingZeros_37 : decode cJ5_numberOfLeadingZeros 37 = .ok (.if_icmp .lt 11, 3) := dk_161 0 11 (dk_at dksJ5_numberOfLeadingZeros_1 15 rfl rfl)
theorem dJ5_numberOfLeadingZeros_40 : decode cJ5_numberOfLeadingZeros 40 = .ok (.iinc 1 (-8), 3) := dk_132 1 248 (dk_at dksJ5_numberOfLeadingZeros_1 18 rfl rfl)
theorem dJ5_numberOfLeadingZeros_43 : decode cJ5_numberOfLeadingZeros 43 = .ok (.iload_n 0, 1) := dk_26 (dk_at dksJ5_numberOfLeadingZeros_1 21 rfl rfl)
theorem dJ5_numberOfLeadingZeros_44 : decode cJ5_numberOfLeadingZeros 44 = .ok (.bipush 8, 2) := dk_16 8 (dk_at dksJ5_numberOfLeadingZeros_1 22 rfl rfl)
theorem dJ5_numberOfLeadingZeros_46 : decode cJ5_numberOfLeadingZeros 46 = .ok (.iushr, 1) := dk_124 (dk_at dksJ5_numberOfLeadingZeros_2 0 rfl rfl)
theorem dJ5_numberOfLeadingZeros_47 : decode cJ5_numberOfLeadingZeros 47 = .ok (.istore_n 0, 1) := dk_59 (dk_at dksJ5_numberOfLeadingZeros_2 1 rfl rfl)
theorem dJ5_numberOfLeadingZeros_48 : decode cJ5_numberOfLeadingZeros 48 = .ok (.iload_n 0, 1) := dk_26 (dk_at dksJ5_numberOfLeadingZeros_2 2 rfl rfl)
theorem dJ5_numberOfLeadingZeros_49 : decode cJ5_numberOfLeadingZeros 49 = .ok (.bipush 16, 2) := dk_16 16 (dk_at dksJ5_numberOfLeadingZeros_2 3 rfl rfl)
theorem dJ5_numberOfLeadingZeros_51 : decode cJ5_numberOfLeadingZeros 51 = .ok (.if_icmp .lt 10, 3) := dk_161 0 10 (dk_at dksJ5_numberOfLeadingZeros_2 5 rfl rfl)
theorem dJ5_numberOfLeadingZeros_54 : decode cJ5_numberOfLeadingZeros 54 = .ok (.iinc 1 (-4), 3) := dk_132 1 252 (dk_at dksJ5_numberOfLeadingZeros_2 8 rfl rfl)
theorem dJ5_numberOfLeadingZeros_57 : decode cJ5_numberOfLeadingZeros 57 = .ok (.iload_n 0, 1) := dk_26 (dk_at dksJ5_numberOfLeadingZeros_2 11 rfl rfl)
theorem dJ5_numberOfLeadingZeros_58 : decode cJ5_numberOfLeadingZeros 58 = .ok (.iconst 4, 1) := dk_7 (dk_at dksJ5_numberOfLeadingZeros_2 12 rfl rfl)
theorem dJ5_numberOfLeadingZeros_59 : decode cJ5_numberOfLeadingZeros 59 = .ok (.iushr, 1) := dk_124 (dk_at dksJ5_numberOfLeadingZeros_2 13 rfl rfl)
theorem dJ5_numberOfLeadingZeros_60 : decode cJ5_numberOfLeadingZeros 60 = .ok (.istore_n 0, 1) := dk_59 (dk_at dksJ5_numberOfLeadingZeros_2 14 rfl rfl)
theorem dJ5_numberOfLeadingZeros_61 : decode cJ5_numberOfLeadingZeros 61 = .ok (.iload_n 0, 1) := dk_26 (dk_at dksJ5_numberOfLeadingZeros_2 15 rfl rfl)
theorem dJ5_numberOfLeadingZeros_62 : decode cJ5_numberOfLeadingZeros 62 = .ok (.iconst 4, 1) := dk_7 (dk_at dksJ5_numberOfLeadingZeros_2 16 rfl rfl)
theorem dJ5_numberOfLeadingZeros_63 : decode cJ5_numberOfLeadingZeros 63 = .ok (.if_icmp .lt 10, 3) := dk_161 0 10 (dk_at dksJ5_numberOfLeadingZeros_2 17 rfl rfl)
theorem dJ5_numberOfLeadingZeros_66 : decode cJ5_numberOfLeadingZeros 66 = .ok (.iinc 1 (-2), 3) := dk_132 1 254 (dk_at dksJ5_numberOfLeadingZeros_2 20 rfl rfl)
theorem dJ5_numberOfLeadingZeros_69 : decode cJ5_numberOfLeadingZeros 69 = .ok (.iload_n 0, 1) := dk_26 (dk_at dksJ5_numberOfLeadingZeros_2 23 rfl rfl)
theorem dJ5_numberOfLeadingZeros_70 : decode cJ5_numberOfLeadingZeros 70 = .ok (.iconst 2, 1) := dk_5 (dk_at dksJ5_numberOfLeadingZeros_3 0 rfl rfl)
theorem dJ5_numberOfLeadingZeros_71 : decode cJ5_numberOfLeadingZeros 71 = .ok (.iushr, 1) := dk_124 (dk_at dksJ5_numberOfLeadingZeros_3 1 rfl rfl)
theorem dJ5_numberOfLeadingZeros_72 : decode cJ5_numberOfLeadingZeros 72 = .ok (.istore_n 0, 1) := dk_59 (dk_at dksJ5_numberOfLeadingZeros_3 2 rfl rfl)
theorem dJ5_numberOfLeadingZeros_73 : decode cJ5_numberOfLeadingZeros 73 = .ok (.iload_n 1, 1) := dk_27 (dk_at dksJ5_numberOfLeadingZeros_3 3 rfl rfl)
theorem dJ5_numberOfLeadingZeros_74 : decode cJ5_numberOfLeadingZeros 74 = .ok (.iload_n 0, 1) := dk_26 (dk_at dksJ5_numberOfLeadingZeros_3 4 rfl rfl)
theorem dJ5_numberOfLeadingZeros_75 : decode cJ5_numberOfLeadingZeros 75 = .ok (.iconst 1, 1) := dk_4 (dk_at dksJ5_numberOfLeadingZeros_3 5 rfl rfl)
theorem dJ5_numberOfLeadingZeros_76 : decode cJ5_numberOfLeadingZeros 76 = .ok (.iushr, 1) := dk_124 (dk_at dksJ5_numberOfLeadingZeros_3 6 rfl rfl)
theorem dJ5_numberOfLeadingZeros_77 : decode cJ5_numberOfLeadingZeros 77 = .ok (.isub, 1) := dk_100 (dk_at dksJ5_numberOfLeadingZeros_3 7 rfl rfl)
theorem dJ5_numberOfLeadingZeros_78 : decode cJ5_numberOfLeadingZeros 78 = .ok (.ireturn, 1) := dk_172 (dk_at dksJ5_numberOfLeadingZeros_3 8 rfl rfl)
abbrev cJ5_numberOfTrailingZeros : ByteArray := prog_28_method_48_code
def yJ5_numberOfTrailingZeros : MethodName := ⟨RJ5, "numberOfTrailingZeros", "(I)I"⟩
def dkwJ5_numberOfTrailingZeros_3 : List UInt8 := [5, 124, 59, 27, 26, 4, 124, 96, 172]
abbrev dktJ5_numberOfTrailingZeros_3 : List UInt8 := dkwJ5_numberOfTrailingZeros_3 ++ []
def dkwJ5_numberOfTrailingZeros_2 : List UInt8 := [124, 59, 26, 16, 16, 164, 0, 10, 132, 1, 4, 26, 7, 124, 59, 26, 7, 164, 0, 10, 132, 1, 2, 26]
abbrev dktJ5_numberOfTrailingZeros_2 : List UInt8 := dkwJ5_numberOfTrailingZeros_2 ++ dktJ5_numberOfTrailingZeros_3
def dkwJ5_numberOfTrailingZeros_1 : List UInt8 := [164, 0, 11, 132, 1, 16, 26, 16, 16, 124, 59, 26, 17, 1, 0, 164, 0, 11, 132, 1, 8, 26, 16, 8]
abbrev dktJ5_numberOfTrailingZeros_1 : List UInt8 := dkwJ5_numberOfTrailingZeros_1 ++ dktJ5_numberOfTrailingZeros_2
def dkwJ5_numberOfTrailingZeros_0 : List UInt8 := [26, 2, 130, 26, 4, 100, 126, 59, 26, 157, 0, 8, 26, 16, 32, 126, 172, 4, 60, 26, 19, 1, 8]
abbrev dktJ5_numberOfTrailingZeros_0 : List UInt8 := dkwJ5_numberOfTrailingZeros_0 ++ dktJ5_numberOfTrailingZeros_1
theorem dksJ5_numberOfTrailingZeros_0 : cJ5_numberOfTrailingZeros.data.toList.drop 0 = dktJ5_numberOfTrailingZeros_0 := by decide +kernel
theorem dksJ5_numberOfTrailingZeros_1 : cJ5_numberOfTrailingZeros.data.toList.drop 23 = dktJ5_numberOfTrailingZeros_1 := dk_seg dksJ5_numberOfTrailingZeros_0 23 rfl rfl
theorem dksJ5_numberOfTrailingZeros_2 : cJ5_numberOfTrailingZeros.data.toList.drop 47 = dktJ5_numberOfTrailingZeros_2 := dk_seg dksJ5_numberOfTrailingZeros_1 24 rfl rfl
theorem dksJ5_numberOfTrailingZeros_3 : cJ5_numberOfTrailingZeros.data.toList.drop 71 = dktJ5_numberOfTrailingZeros_3 := dk_seg dksJ5_numberOfTrailingZeros_2 24 rfl rfl
theorem dJ5_numberOfTrailingZeros_0 : decode cJ5_numberOfTrailingZeros 0 = .ok (.iload_n 0, 1) := dk_26 (dk_at dksJ5_numberOfTrailingZeros_0 0 rfl rfl)
theorem dJ5_numberOfTrailingZeros_1 : decode cJ5_numberOfTrailingZeros 1 = .ok (.iconst (-1), 1) := dk_2 (dk_at dksJ5_numberOfTrailingZeros_0 1 rfl rfl)
theorem dJ5_numberOfTrailingZeros_2 : decode cJ5_numberOfTrailingZeros 2 = .ok (.ixor, 1) := dk_130 (dk_at dksJ5_numberOfTrailingZeros_0 2 rfl rfl)
theorem dJ5_numberOfTrailingZeros_3 : decode cJ5_numberOfTrailingZeros 3 = .ok (.iload_n 0, 1) := dk_26 (dk_at dksJ5_numberOfTrailingZeros_0 3 rfl rfl)
theorem dJ5_numberOfTrailingZeros_4 : decode cJ5_numberOfTrailingZeros 4 = .ok (.iconst 1, 1) := dk_4 (dk_at dksJ5_numberOfTrailingZeros_0 4 rfl rfl)
theorem dJ5_numberOfTrailingZeros_5 : decode cJ5_numberOfTrailingZeros 5 = .ok (.isub, 1) := dk_100 (dk_at dksJ5_numberOfTrailingZeros_0 5 rfl rfl)
theorem dJ5_numberOfTrailingZeros_6 : decode cJ5_numberOfTrailingZeros 6 = .ok (.iand, 1) := dk_126 (dk_at dksJ5_numberOfTrailingZeros_0 6 rfl rfl)
theorem dJ5_numberOfTrailingZeros_7 : decode cJ5_numberOfTrailingZeros 7 = .ok (.istore_n 0, 1) := dk_59 (dk_at dksJ5_numberOfTrailingZeros_0 7 rfl rfl)
theorem dJ5_numberOfTrailingZeros_8 : decode cJ5_numberOfTrailingZeros 8 = .ok (.iload_n 0, 1) := dk_26 (dk_at dksJ5_numberOfTrailingZeros_0 8 rfl rfl)
theorem dJ5_numberOfTrailingZeros_9 : decode cJ5_numberOfTrailingZeros 9 = .ok (.ifCond .gt 8, 3) := dk_157 0 8 (dk_at dksJ5_numberOfTrailingZeros_0 9 rfl rfl)
theorem dJ5_numberOfTrailingZeros_12 : decode cJ5_numberOfTrailingZeros 12 = .ok (.iload_n 0, 1) := dk_26 (dk_at dksJ5_numberOfTrailingZeros_0 12 rfl rfl)
theorem dJ5_numberOfTrailingZeros_13 : decode cJ5_numberOfTrailingZeros 13 = .ok (.bipush 32, 2) := dk_16 32 (dk_at dksJ5_numberOfTrailingZeros_0 13 rfl rfl)
theorem dJ5_numberOfTrailingZeros_15 : decode cJ5_numberOfTrailingZeros 15 = .ok (.iand, 1) := dk_126 (dk_at dksJ5_numberOfTrailingZeros_0 15 rfl rfl)
theorem dJ5_numberOfTrailingZeros_16 : decode cJ5_numberOfTrailingZeros 16 = .ok (.ireturn, 1) := dk_172 (dk_at dksJ5_numberOfTrailingZeros_0 16 rfl rfl)
theorem dJ5_numberOfTrailingZeros_17 : decode cJ5_numberOfTrailingZeros 17 = .ok (.iconst 1, 1) := dk_4 (dk_at dksJ5_numberOfTrailingZeros_0 17 rfl rfl)
theorem dJ5_numberOfTrailingZeros_18 : decode cJ5_numberOfTrailingZeros 18 = .ok (.istore_n 1, 1) := dk_60 (dk_at dksJ5_numberOfTrailingZeros_0 18 rfl rfl)
theorem dJ5_numberOfTrailingZeros_19 : decode cJ5_numberOfTrailingZeros 19 = .ok (.iload_n 0, 1) := dk_26 (dk_at dksJ5_numberOfTrailingZeros_0 19 rfl rfl)
theorem dJ5_numberOfTrailingZeros_20 : decode cJ5_numberOfTrailingZeros 20 = .ok (.ldc_w 264, 3) := dk_19 1 8 (dk_at dksJ5_numberOfTrailingZeros_0 20 rfl rfl)
theorem dJ5_numberOfTrailingZeros_23 : decode cJ5_numberOfTrailingZeros 23 = .ok (.if_icmp .le 11, 3) := dk_164 0 11 (dk_at dksJ5_numberOfTrailingZeros_1 0 rfl rfl)
theorem dJ5_numberOfTrailingZeros_26 : decode cJ5_numberOfTrailingZeros 26 = .ok (.iinc 1 16, 3) := dk_132 1 16 (dk_at dksJ5_numberOfTrailingZeros_1 3 rfl rfl)
theorem dJ5_numberOfTrailingZeros_29 : decode cJ5_numberOfTrailingZeros 29 = .ok (.iload_n 0, 1) := dk_26 (dk_at dksJ5_numberOfTrailingZeros_1 6 rfl rfl)
theorem dJ5_numberOfTrailingZeros_30 : decode cJ5_numberOfTrailingZeros 30 = .ok (.bipush 16, 2) := dk_16 16 (dk_at dksJ5_numberOfTrailingZeros_1 7 rfl rfl)
theorem dJ5_numberOfTrailingZeros_32 : decode cJ5_numberOfTrailingZeros 32 = .ok (.iushr, 1) := dk_124 (dk_at dksJ5_numberOfTrailingZeros_1 9 rfl rfl)
theorem dJ5_numberOfTrailingZeros_33 : decode cJ5_numberOfTrailingZeros 33 = .ok (.istore_n 0, 1) := dk_59 (dk_at dksJ5_numberOfTrailingZeros_1 10 rfl rfl)
theorem dJ5_numberOfTrailingZeros_34 : decode cJ5_numberOfTrailingZeros 34 = .ok (.iload_n 0, 1) := dk_26 (dk_at dksJ5_numberOfTrailingZeros_1 11 rfl rfl)
theorem dJ5_numberOfTrailingZeros_35 : decode cJ5_numberOfTrailingZeros 35 = .ok (.sipush 256, 3) := dk_17 1 0 (dk_at dksJ5_numberOfTrailingZeros_1 12 rfl rfl)
theorem dJ5_numberOfTrailingZeros_38 : decode cJ5_numberOfTrailingZeros 38 = .ok (.if_icmp .le 11, 3) := dk_164 0 11 (dk_at dksJ5_numberOfTrailingZeros_1 15 rfl rfl)
theorem dJ5_numberOfTrailingZeros_41 : decode cJ5_numberOfTrailingZeros 41 = .ok (.iinc 1 8, 3) := dk_132 1 8 (dk_at dksJ5_numberOfTrailingZeros_1 18 rfl rfl)
theorem dJ5_numberOfTrailingZeros_44 : decode cJ5_numberOfTrailingZeros 44 = .ok (.iload_n 0, 1) := dk_26 (dk_at dksJ5_numberOfTrailingZeros_1 21 rfl rfl)
theorem dJ5_numberOfTrailingZeros_45 : decode cJ5_numberOfTrailingZeros 45 = .ok (.bipush 8, 2) := dk_16 8 (dk_at dksJ5_numberOfTrailingZeros_1 22 rfl rfl)
theorem dJ5_numberOfTrailingZeros_47 : decode cJ5_numberOfTrailingZeros 47 = .ok (.iushr, 1) := dk_124 (dk_at dksJ5_numberOfTrailingZeros_2 0 rfl rfl)
theorem dJ5_numberOfTrailingZeros_48 : decode cJ5_numberOfTrailingZeros 48 = .ok (.istore_n 0, 1) := dk_59 (dk_at dksJ5_numberOfTrailingZeros_2 1 rfl rfl)
theorem dJ5_numberOfTrailingZeros_49 : decode cJ5_numberOfTrailingZeros 49 = .ok (.iload_n 0, 1) := dk_26 (dk_at dksJ5_numberOfTrailingZeros_2 2 rfl rfl)
theorem dJ5_numberOfTrailingZeros_50 : decode cJ5_numberOfTrailingZeros 50 = .ok (.bipush 16, 2) := dk_16 16 (dk_at dksJ5_numberOfTrailingZeros_2 3 rfl rfl)
theorem dJ5_numberOfTrailingZeros_52 : decode cJ5_numberOfTrailingZeros 52 = .ok (.if_icmp .le 10, 3) := dk_164 0 10 (dk_at dksJ5_numberOfTrailingZeros_2 5 rfl rfl)
theorem dJ5_numberOfTrailingZeros_55 : decode cJ5_numberOfTrailingZeros 55 = .ok (.iinc 1 4, 3) := dk_132 1 4 (dk_at dksJ5_numberOfTrailingZeros_2 8 rfl rfl)
theorem dJ5_numberOfTrailingZeros_58 : decode cJ5_numberOfTrailingZeros 58 = .ok (.iload_n 0, 1) := dk_26 (dk_at dksJ5_numberOfTrailingZeros_2 11 rfl rfl)
theorem dJ5_numberOfTrailingZeros_59 : decode cJ5_numberOfTrailingZeros 59 = .ok (.iconst 4, 1) := dk_7 (dk_at dksJ5_numberOfTrailingZeros_2 12 rfl rfl)
theorem dJ5_numberOfTrailingZeros_60 : decode cJ5_numberOfTrailingZeros 60 = .ok (.iushr, 1) := dk_124 (dk_at dksJ5_numberOfTrailingZeros_2 13 rfl rfl)
theorem dJ5_numberOfTrailingZeros_61 : decode cJ5_numberOfTrailingZeros 61 = .ok (.istore_n 0, 1) := dk_59 (dk_at dksJ5_numberOfTrailingZeros_2 14 rfl rfl)
theorem dJ5_numberOfTrailingZeros_62 : decode cJ5_numberOfTrailingZeros 62 = .ok (.iload_n 0, 1) := dk_26 (dk_at dksJ5_numberOfTrailingZeros_2 15 rfl rfl)
theorem dJ5_numberOfTrailingZeros_63 : decode cJ5_numberOfTrailingZeros 63 = .ok (.iconst 4, 1) := dk_7 (dk_at dksJ5_numberOfTrailingZeros_2 16 rfl rfl)
theorem dJ5_numberOfTrailingZeros_64 : decode cJ5_numberOfTrailingZeros 64 = .ok (.if_icmp .le 10, 3) := dk_164 0 10 (dk_at dksJ5_numberOfTrailingZeros_2 17 rfl rfl)
theorem dJ5_numberOfTrailingZeros_67 : decode cJ5_numberOfTrailingZeros 67 = .ok (.iinc 1 2, 3) := dk_132 1 2 (dk_at dksJ5_numberOfTrailingZeros_2 20 rfl rfl)
theorem dJ5_numberOfTrailingZeros_70 : decode cJ5_numberOfTrailingZeros 70 = .ok (.iload_n 0, 1) := dk_26 (dk_at dksJ5_numberOfTrailingZeros_2 23 rfl rfl)
theorem dJ5_numberOfTrailingZeros_71 : decode cJ5_numberOfTrailingZeros 71 = .ok (.iconst 2, 1) := dk_5 (dk_at dksJ5_numberOfTrailingZeros_3 0 rfl rfl)
theorem dJ5_numberOfTrailingZeros_72 : decode cJ5_numberOfTrailingZeros 72 = .ok (.iushr, 1) := dk_124 (dk_at dksJ5_numberOfTrailingZeros_3 1 rfl rfl)
theorem dJ5_numberOfTrailingZeros_73 : decode cJ5_numberOfTrailingZeros 73 = .ok (.istore_n 0, 1) := dk_59 (dk_at dksJ5_numberOfTrailingZeros_3 2 rfl rfl)
theorem dJ5_numberOfTrailingZeros_74 : decode cJ5_numberOfTrailingZeros 74 = .ok (.iload_n 1, 1) := dk_27 (dk_at dksJ5_numberOfTrailingZeros_3 3 rfl rfl)
theorem dJ5_numberOfTrailingZeros_75 : decode cJ5_numberOfTrailingZeros 75 = .ok (.iload_n 0, 1) := dk_26 (dk_at dksJ5_numberOfTrailingZeros_3 4 rfl rfl)
theorem dJ5_numberOfTrailingZeros_76 : decode cJ5_numberOfTrailingZeros 76 = .ok (.iconst 1, 1) := dk_4 (dk_at dksJ5_numberOfTrailingZeros_3 5 rfl rfl)
theorem dJ5_numberOfTrailingZeros_77 : decode cJ5_numberOfTrailingZeros 77 = .ok (.iushr, 1) := dk_124 (dk_at dksJ5_numberOfTrailingZeros_3 6 rfl rfl)
theorem dJ5_numberOfTrailingZeros_78 : decode cJ5_numberOfTrailingZeros 78 = .ok (.iadd, 1) := dk_96 (dk_at dksJ5_numberOfTrailingZeros_3 7 rfl rfl)
theorem dJ5_numberOfTrailingZeros_79 : decode cJ5_numberOfTrailingZeros 79 = .ok (.ireturn, 1) := dk_172 (dk_at dksJ5_numberOfTrailingZeros_3 8 rfl rfl)
abbrev cJ5_equals : ByteArray := prog_28_method_34_code
def yJ5_equals : MethodName := ⟨RJ5, "equals", "(Ljava/lang/Object;)Z"⟩
def dkwJ5_equals_1 : List UInt8 := [167, 0, 4, 3, 172, 3, 172]
abbrev dktJ5_equals_1 : List UInt8 := dkwJ5_equals_1 ++ []
def dkwJ5_equals_0 : List UInt8 := [43, 193, 0, 1, 153, 0, 23, 42, 180, 0, 205, 43, 192, 0, 1, 182, 0, 211, 160, 0, 7, 4]
abbrev dktJ5_equals_0 : List UInt8 := dkwJ5_equals_0 ++ dktJ5_equals_1
theorem dksJ5_equals_0 : cJ5_equals.data.toList.drop 0 = dktJ5_equals_0 := by decide +kernel
theorem dksJ5_equals_1 : cJ5_equals.data.toList.drop 22 = dktJ5_equals_1 := dk_seg dksJ5_equals_0 22 rfl rfl
theorem dJ5_equals_0 : decode cJ5_equals 0 = .ok (.aload_n 1, 1) := dk_43 (dk_at dksJ5_equals_0 0 rfl rfl)
theorem dJ5_equals_1 : decode cJ5_equals 1 = .ok (.instanceof 1, 3) := dk_193 0 1 (dk_at dksJ5_equals_0 1 rfl rfl)
theorem dJ5_equals_4 : decode cJ5_equals 4 = .ok (.ifCond .eq 23, 3) := dk_153 0 23 (dk_at dksJ5_equals_0 4 rfl rfl)
theorem dJ5_equals_7 : decode cJ5_equals 7 = .ok (.aload_n 0, 1) := dk_42 (dk_at dksJ5_equals_0 7 rfl rfl)
theorem dJ5_equals_8 : decode cJ5_equals 8 = .ok (.getfield 205, 3) := dk_180 0 205 (dk_at dksJ5_equals_0 8 rfl rfl)
theorem dJ5_equals_11 : decode cJ5_equals 11 = .ok (.aload_n 1, 1) := dk_43 (dk_at dksJ5_equals_0 11 rfl rfl)
theorem dJ5_equals_12 : decode cJ5_equals 12 = .ok (.checkcast 1, 3) := dk_192 0 1 (dk_at dksJ5_equals_0 12 rfl rfl)
theorem dJ5_equals_15 : decode cJ5_equals 15 = .ok (.invokevirtual 211, 3) := dk_182 0 211 (dk_at dksJ5_equals_0 15 rfl rfl)
theorem dJ5_equals_18 : decode cJ5_equals 18 = .ok (.if_icmp .ne 7, 3) := dk_160 0 7 (dk_at dksJ5_equals_0 18 rfl rfl)
theorem dJ5_equals_21 : decode cJ5_equals 21 = .ok (.iconst 1, 1) := dk_4 (dk_at dksJ5_equals_0 21 rfl rfl)
theorem dJ5_equals_22 : decode cJ5_equals 22 = .ok (.goto 4, 3) := dk_167 0 4 (dk_at dksJ5_equals_1 0 rfl rfl)
theorem dJ5_equals_25 : decode cJ5_equals 25 = .ok (.iconst 0, 1) := dk_3 (dk_at dksJ5_equals_1 3 rfl rfl)
theorem dJ5_equals_26 : decode cJ5_equals 26 = .ok (.ireturn, 1) := dk_172 (dk_at dksJ5_equals_1 4 rfl rfl)
theorem dJ5_equals_27 : decode cJ5_equals 27 = .ok (.iconst 0, 1) := dk_3 (dk_at dksJ5_equals_1 5 rfl rfl)
theorem dJ5_equals_28 : decode cJ5_equals 28 = .ok (.ireturn, 1) := dk_172 (dk_at dksJ5_equals_1 6 rfl rfl)
abbrev cJ5_compare : ByteArray := prog_28_method_40_code
def yJ5_compare : MethodName := ⟨RJ5, "compare", "(II)I"⟩
def dkwJ5_compare_0 : List UInt8 := [26, 27, 162, 0, 7, 2, 167, 0, 13, 26, 27, 160, 0, 7, 3, 167, 0, 4, 4, 172]
abbrev dktJ5_compare_0 : List UInt8 := dkwJ5_compare_0 ++ []
theorem dksJ5_compare_0 : cJ5_compare.data.toList.drop 0 = dktJ5_compare_0 := by decide +kernel
theorem dJ5_compare_0 : decode cJ5_compare 0 = .ok (.iload_n 0, 1) := dk_26 (dk_at dksJ5_compare_0 0 rfl rfl)
theorem dJ5_compare_1 : decode cJ5_compare 1 = .ok (.iload_n 1, 1) := dk_27 (dk_at dksJ5_compare_0 1 rfl rfl)
theorem dJ5_compare_2 : decode cJ5_compare 2 = .ok (.if_icmp .ge 7, 3) := dk_162 0 7 (dk_at dksJ5_compare_0 2 rfl rfl)
theorem dJ5_compare_5 : decode cJ5_compare 5 = .ok (.iconst (-1), 1) := dk_2 (dk_at dksJ5_compare_0 5 rfl rfl)
theorem dJ5_compare_6 : decode cJ5_compare 6 = .ok (.goto 13, 3) := dk_167 0 13 (dk_at dksJ5_compare_0 6 rfl rfl)
theorem dJ5_compare_9 : decode cJ5_compare 9 = .ok (.iload_n 0, 1) := dk_26 (dk_at dksJ5_compare_0 9 rfl rfl)
theorem dJ5_compare_10 : decode cJ5_compare 10 = .ok (.iload_n 1, 1) := dk_27 (dk_at dksJ5_compare_0 10 rfl rfl)
theorem dJ5_compare_11 : decode cJ5_compare 11 = .ok (.if_icmp .ne 7, 3) := dk_160 0 7 (dk_at dksJ5_compare_0 11 rfl rfl)
theorem dJ5_compare_14 : decode cJ5_compare 14 = .ok (.iconst 0, 1) := dk_3 (dk_at dksJ5_compare_0 14 rfl rfl)
theorem dJ5_compare_15 : decode cJ5_compare 15 = .ok (.goto 4, 3) := dk_167 0 4 (dk_at dksJ5_compare_0 15 rfl rfl)
theorem dJ5_compare_18 : decode cJ5_compare 18 = .ok (.iconst 1, 1) := dk_4 (dk_at dksJ5_compare_0 18 rfl rfl)
theorem dJ5_compare_19 : decode cJ5_compare 19 = .ok (.ireturn, 1) := dk_172 (dk_at dksJ5_compare_0 19 rfl rfl)
abbrev cJ5_bitCount : ByteArray := prog_28_method_49_code
def yJ5_bitCount : MethodName := ⟨RJ5, "bitCount", "(I)I"⟩
def dkwJ5_bitCount_2 : List UInt8 := [26, 16, 63, 126, 172]
abbrev dktJ5_bitCount_2 : List UInt8 := dkwJ5_bitCount_2 ++ []
def dkwJ5_bitCount_1 : List UInt8 := [26, 26, 7, 124, 96, 19, 1, 11, 126, 59, 26, 26, 16, 8, 124, 96, 59, 26, 26, 16, 16, 124, 96, 59]
abbrev dktJ5_bitCount_1 : List UInt8 := dkwJ5_bitCount_1 ++ dktJ5_bitCount_2
def dkwJ5_bitCount_0 : List UInt8 := [26, 26, 4, 124, 19, 1, 9, 126, 100, 59, 26, 19, 1, 10, 126, 26, 5, 124, 19, 1, 10, 126, 96, 59]
abbrev dktJ5_bitCount_0 : List UInt8 := dkwJ5_bitCount_0 ++ dktJ5_bitCount_1
theorem dksJ5_bitCount_0 : cJ5_bitCount.data.toList.drop 0 = dktJ5_bitCount_0 := by decide +kernel
theorem dksJ5_bitCount_1 : cJ5_bitCount.data.toList.drop 24 = dktJ5_bitCount_1 := dk_seg dksJ5_bitCount_0 24 rfl rfl
theorem dksJ5_bitCount_2 : cJ5_bitCount.data.toList.drop 48 = dktJ5_bitCount_2 := dk_seg dksJ5_bitCount_1 24 rfl rfl
theorem dJ5_bitCount_0 : decode cJ5_bitCount 0 = .ok (.iload_n 0, 1) := dk_26 (dk_at dksJ5_bitCount_0 0 rfl rfl)
theorem dJ5_bitCount_1 : decode cJ5_bitCount 1 = .ok (.iload_n 0, 1) := dk_26 (dk_at dksJ5_bitCount_0 1 rfl rfl)
theorem dJ5_bitCount_2 : decode cJ5_bitCount 2 = .ok (.iconst 1, 1) := dk_4 (dk_at dksJ5_bitCount_0 2 rfl rfl)
theorem dJ5_bitCount_3 : decode cJ5_bitCount 3 = .ok (.iushr, 1) := dk_124 (dk_at dksJ5_bitCount_0 3 rfl rfl)
theorem dJ5_bitCount_4 : decode cJ5_bitCount 4 = .ok (.ldc_w 265, 3) := dk_19 1 9 (dk_at dksJ5_bitCount_0 4 rfl rfl)
theorem dJ5_bitCount_7 : decode cJ5_bitCount 7 = .ok (.iand, 1) := dk_126 (dk_at dksJ5_bitCount_0 7 rfl rfl)
theorem dJ5_bitCount_8 : decode cJ5_bitCount 8 = .ok (.isub, 1) := dk_100 (dk_at dksJ5_bitCount_0 8 rfl rfl)
theorem dJ5_bitCount_9 : decode cJ5_bitCount 9 = .ok (.istore_n 0, 1) := dk_59 (dk_at dksJ5_bitCount_0 9 rfl rfl)
theorem dJ5_bitCount_10 : decode cJ5_bitCount 10 = .ok (.iload_n 0, 1) := dk_26 (dk_at dksJ5_bitCount_0 10 rfl rfl)
theorem dJ5_bitCount_11 : decode cJ5_bitCount 11 = .ok (.ldc_w 266, 3) := dk_19 1 10 (dk_at dksJ5_bitCount_0 11 rfl rfl)
theorem dJ5_bitCount_14 : decode cJ5_bitCount 14 = .ok (.iand, 1) := dk_126 (dk_at dksJ5_bitCount_0 14 rfl rfl)
theorem dJ5_bitCount_15 : decode cJ5_bitCount 15 = .ok (.iload_n 0, 1) := dk_26 (dk_at dksJ5_bitCount_0 15 rfl rfl)
theorem dJ5_bitCount_16 : decode cJ5_bitCount 16 = .ok (.iconst 2, 1) := dk_5 (dk_at dksJ5_bitCount_0 16 rfl rfl)
theorem dJ5_bitCount_17 : decode cJ5_bitCount 17 = .ok (.iushr, 1) := dk_124 (dk_at dksJ5_bitCount_0 17 rfl rfl)
theorem dJ5_bitCount_18 : decode cJ5_bitCount 18 = .ok (.ldc_w 266, 3) := dk_19 1 10 (dk_at dksJ5_bitCount_0 18 rfl rfl)
theorem dJ5_bitCount_21 : decode cJ5_bitCount 21 = .ok (.iand, 1) := dk_126 (dk_at dksJ5_bitCount_0 21 rfl rfl)
theorem dJ5_bitCount_22 : decode cJ5_bitCount 22 = .ok (.iadd, 1) := dk_96 (dk_at dksJ5_bitCount_0 22 rfl rfl)
theorem dJ5_bitCount_23 : decode cJ5_bitCount 23 = .ok (.istore_n 0, 1) := dk_59 (dk_at dksJ5_bitCount_0 23 rfl rfl)
theorem dJ5_bitCount_24 : decode cJ5_bitCount 24 = .ok (.iload_n 0, 1) := dk_26 (dk_at dksJ5_bitCount_1 0 rfl rfl)
theorem dJ5_bitCount_25 : decode cJ5_bitCount 25 = .ok (.iload_n 0, 1) := dk_26 (dk_at dksJ5_bitCount_1 1 rfl rfl)
theorem dJ5_bitCount_26 : decode cJ5_bitCount 26 = .ok (.iconst 4, 1) := dk_7 (dk_at dksJ5_bitCount_1 2 rfl rfl)
theorem dJ5_bitCount_27 : decode cJ5_bitCount 27 = .ok (.iushr, 1) := dk_124 (dk_at dksJ5_bitCount_1 3 rfl rfl)
theorem dJ5_bitCount_28 : decode cJ5_bitCount 28 = .ok (.iadd, 1) := dk_96 (dk_at dksJ5_bitCount_1 4 rfl rfl)
theorem dJ5_bitCount_29 : decode cJ5_bitCount 29 = .ok (.ldc_w 267, 3) := dk_19 1 11 (dk_at dksJ5_bitCount_1 5 rfl rfl)
theorem dJ5_bitCount_32 : decode cJ5_bitCount 32 = .ok (.iand, 1) := dk_126 (dk_at dksJ5_bitCount_1 8 rfl rfl)
theorem dJ5_bitCount_33 : decode cJ5_bitCount 33 = .ok (.istore_n 0, 1) := dk_59 (dk_at dksJ5_bitCount_1 9 rfl rfl)
theorem dJ5_bitCount_34 : decode cJ5_bitCount 34 = .ok (.iload_n 0, 1) := dk_26 (dk_at dksJ5_bitCount_1 10 rfl rfl)
theorem dJ5_bitCount_35 : decode cJ5_bitCount 35 = .ok (.iload_n 0, 1) := dk_26 (dk_at dksJ5_bitCount_1 11 rfl rfl)
theorem dJ5_bitCount_36 : decode cJ5_bitCount 36 = .ok (.bipush 8, 2) := dk_16 8 (dk_at dksJ5_bitCount_1 12 rfl rfl)
theorem dJ5_bitCount_38 : decode cJ5_bitCount 38 = .ok (.iushr, 1) := dk_124 (dk_at dksJ5_bitCount_1 14 rfl rfl)
theorem dJ5_bitCount_39 : decode cJ5_bitCount 39 = .ok (.iadd, 1) := dk_96 (dk_at dksJ5_bitCount_1 15 rfl rfl)
theorem dJ5_bitCount_40 : decode cJ5_bitCount 40 = .ok (.istore_n 0, 1) := dk_59 (dk_at dksJ5_bitCount_1 16 rfl rfl)
theorem dJ5_bitCount_41 : decode cJ5_bitCount 41 = .ok (.iload_n 0, 1) := dk_26 (dk_at dksJ5_bitCount_1 17 rfl rfl)
theorem dJ5_bitCount_42 : decode cJ5_bitCount 42 = .ok (.iload_n 0, 1) := dk_26 (dk_at dksJ5_bitCount_1 18 rfl rfl)
theorem dJ5_bitCount_43 : decode cJ5_bitCount 43 = .ok (.bipush 16, 2) := dk_16 16 (dk_at dksJ5_bitCount_1 19 rfl rfl)
theorem dJ5_bitCount_45 : decode cJ5_bitCount 45 = .ok (.iushr, 1) := dk_124 (dk_at dksJ5_bitCount_1 21 rfl rfl)
theorem dJ5_bitCount_46 : decode cJ5_bitCount 46 = .ok (.iadd, 1) := dk_96 (dk_at dksJ5_bitCount_1 22 rfl rfl)
theorem dJ5_bitCount_47 : decode cJ5_bitCount 47 = .ok (.istore_n 0, 1) := dk_59 (dk_at dksJ5_bitCount_1 23 rfl rfl)
theorem dJ5_bitCount_48 : decode cJ5_bitCount 48 = .ok (.iload_n 0, 1) := dk_26 (dk_at dksJ5_bitCount_2 0 rfl rfl)
theorem dJ5_bitCount_49 : decode cJ5_bitCount 49 = .ok (.bipush 63, 2) := dk_16 63 (dk_at dksJ5_bitCount_2 1 rfl rfl)
theorem dJ5_bitCount_51 : decode cJ5_bitCount 51 = .ok (.iand, 1) := dk_126 (dk_at dksJ5_bitCount_2 3 rfl rfl)
theorem dJ5_bitCount_52 : decode cJ5_bitCount 52 = .ok (.ireturn, 1) := dk_172 (dk_at dksJ5_bitCount_2 4 rfl rfl)
theorem q109 : (Jvm.Cond.initialized "java/lang/Integer") ∈ lw_all := lw_g (lw_at lw_m1 8 rfl) rfl
theorem q229 : (Jvm.Cond.static ({ cls := "java/lang/Integer", name := "valueOf", desc := "(I)Ljava/lang/Integer;" } : Jvm.MethodName)) ∈ lw_all := lw_g (lw_at lw_m1 128 rfl) rfl
theorem q230 : (Jvm.Cond.code ({ cls := "java/lang/Integer", name := "valueOf", desc := "(I)Ljava/lang/Integer;" } : Jvm.MethodName) prog_28_method_22_code (1 : Nat) (Option.some (Jvm.ClassFile.FieldType.object "java/lang/Integer"))) ∈ lw_all := lw_g (lw_at lw_m1 129 rfl) rfl
theorem q231 : (Jvm.Cond.fieldLink "java/lang/Integer" (191 : Nat) "java/lang/Integer$IntegerCache" "high" "I") ∈ lw_all := lw_g (lw_at lw_m1 130 rfl) rfl
theorem q233 : (Jvm.Cond.fieldLink "java/lang/Integer" (195 : Nat) "java/lang/Integer$IntegerCache" "cache" "[Ljava/lang/Integer;") ∈ lw_all := lw_g (lw_at lw_m1 132 rfl) rfl
theorem q235 : (Jvm.Cond.classLink "java/lang/Integer" (1 : Nat) "java/lang/Integer") ∈ lw_all := lw_g (lw_at lw_m1 134 rfl) rfl
theorem q236 : (Jvm.Cond.instantiable "java/lang/Integer" (1 : Nat)) ∈ lw_all := lw_g (lw_at lw_m1 135 rfl) rfl
theorem q237 : (Jvm.Cond.methodLink "java/lang/Integer" (199 : Nat) ({ cls := "java/lang/Integer", name := "<init>", desc := "(I)V" } : Jvm.MethodName)) ∈ lw_all := lw_g (lw_at lw_m1 136 rfl) rfl
theorem q238 : (Jvm.Cond.instanceMethod ({ cls := "java/lang/Integer", name := "<init>", desc := "(I)V" } : Jvm.MethodName)) ∈ lw_all := lw_g (lw_at lw_m1 137 rfl) rfl
theorem q239 : (Jvm.Cond.code ({ cls := "java/lang/Integer", name := "<init>", desc := "(I)V" } : Jvm.MethodName) prog_28_method_23_code (2 : Nat) (Option.none : Option Jvm.ClassFile.FieldType)) ∈ lw_all := lw_g (lw_at lw_m1 138 rfl) rfl
theorem q240 : (Jvm.Cond.methodLink "java/lang/Integer" (202 : Nat) ({ cls := "java/lang/Number", name := "<init>", desc := "()V" } : Jvm.MethodName)) ∈ lw_all := lw_g (lw_at lw_m1 139 rfl) rfl
theorem q244 : (Jvm.Cond.fieldLink "java/lang/Integer" (205 : Nat) "java/lang/Integer" "value" "I") ∈ lw_all := lw_g (lw_at lw_m1 143 rfl) rfl
theorem q245 : (Jvm.Cond.laysFinal "java/lang/Integer" "java/lang/Integer" "value" "I") ∈ lw_all := lw_g (lw_at lw_m1 144 rfl) rfl
theorem q246 : (Jvm.Cond.soleField "java/lang/Integer" "value") ∈ lw_all := lw_g (lw_at lw_m1 145 rfl) rfl
theorem q247 : (Jvm.Cond.superclass "java/lang/Integer" "java/lang/Number") ∈ lw_all := lw_g (lw_at lw_m1 146 rfl) rfl
theorem q304 : (Jvm.Cond.selects "java/lang/Integer" ({ cls := "java/lang/Object", name := "getClass", desc := "()Ljava/lang/Class;" } : Jvm.MethodName) ({ cls := "java/lang/Object", name := "getClass", desc := "()Ljava/lang/Class;" } : Jvm.MethodName)) ∈ lw_all := lw_g (lw_at lw_m1 203 rfl) rfl
theorem q531 : (Jvm.Cond.static ({ cls := "java/lang/Integer", name := "stringSize", desc := "(I)I" } : Jvm.MethodName)) ∈ lw_all := lw_g (lw_at lw_m2 190 rfl) rfl
theorem q532 : (Jvm.Cond.code ({ cls := "java/lang/Integer", name := "stringSize", desc := "(I)I" } : Jvm.MethodName) prog_28_method_13_code (4 : Nat) (Option.some Jvm.ClassFile.FieldType.int)) ∈ lw_all := lw_g (lw_at lw_m2 191 rfl) rfl
theorem q534 : (Jvm.Cond.static ({ cls := "java/lang/Integer", name := "getChars", desc := "(II[B)I" } : Jvm.MethodName)) ∈ lw_all := lw_g (lw_at lw_m2 193 rfl) rfl
theorem q535 : (Jvm.Cond.code ({ cls := "java/lang/Integer", name := "getChars", desc := "(II[B)I" } : Jvm.MethodName) prog_28_method_12_code (7 : Nat) (Option.some Jvm.ClassFile.FieldType.int)) ∈ lw_all := lw_g (lw_at lw_m2 194 rfl) rfl
theorem q536 : (Jvm.Cond.fieldLink "java/lang/Integer" (83 : Nat) "java/lang/Integer" "DigitOnes" "[B") ∈ lw_all := lw_g (lw_at lw_m2 195 rfl) rfl
theorem q537 : (Jvm.Cond.laysStatic "java/lang/Integer" "DigitOnes" "[B") ∈ lw_tbl := lw_at lw_m2 196 rfl
theorem q538 : (Jvm.Cond.fieldLink "java/lang/Integer" (87 : Nat) "java/lang/Integer" "DigitTens" "[B") ∈ lw_all := lw_g (lw_at lw_m2 197 rfl) rfl
theorem q539 : (Jvm.Cond.laysStatic "java/lang/Integer" "DigitTens" "[B") ∈ lw_tbl := lw_at lw_m2 198 rfl
theorem q713 : (Jvm.Cond.instanceMethod ({ cls := "java/lang/Integer", name := "intValue", desc := "()I" } : Jvm.MethodName)) ∈ lw_all := lw_g (lw_at lw_m3 132 rfl) rfl
theorem q714 : (Jvm.Cond.selects "java/lang/Integer" ({ cls := "java/lang/Integer", name := "intValue", desc := "()I" } : Jvm.MethodName) ({ cls := "java/lang/Integer", name := "intValue", desc := "()I" } : Jvm.MethodName)) ∈ lw_all := lw_g (lw_at lw_m3 133 rfl) rfl
theorem q715 : (Jvm.Cond.code ({ cls := "java/lang/Integer", name := "intValue", desc := "()I" } : Jvm.MethodName) prog_28_method_27_code (1 : Nat) (Option.some Jvm.ClassFile.FieldType.int)) ∈ lw_all := lw_g (lw_at lw_m3 134 rfl) rfl
theorem q827 : (Jvm.Cond.static ({ cls := "java/lang/Integer", name := "numberOfLeadingZeros", desc := "(I)I" } : Jvm.MethodName)) ∈ lw_all := lw_g (lw_at lw_m4 6 rfl) rfl
theorem q828 : (Jvm.Cond.code ({ cls := "java/lang/Integer", name := "numberOfLeadingZeros", desc := "(I)I" } : Jvm.MethodName) prog_28_method_47_code (2 : Nat) (Option.some Jvm.ClassFile.FieldType.int)) ∈ lw_all := lw_g (lw_at lw_m4 7 rfl) rfl
theorem q829 : (Jvm.Cond.constant "java/lang/Integer" (264 : Nat) (65536 : Int32)) ∈ lw_all := lw_g (lw_at lw_m4 8 rfl) rfl
theorem q836 : (Jvm.Cond.static ({ cls := "java/lang/Integer", name := "numberOfTrailingZeros", desc := "(I)I" } : Jvm.MethodName)) ∈ lw_all := lw_g (lw_at lw_m4 15 rfl) rfl
theorem q837 : (Jvm.Cond.code ({ cls := "java/lang/Integer", name := "numberOfTrailingZeros", desc := "(I)I" } : Jvm.MethodName) prog_28_method_48_code (2 : Nat) (Option.some Jvm.ClassFile.FieldType.int)) ∈ lw_all := lw_g (lw_at lw_m4 16 rfl) rfl
theorem q867 : (Jvm.Cond.selects "java/lang/Integer" ({ cls := "java/lang/Object", name := "equals", desc := "(Ljava/lang/Object;)Z" } : Jvm.MethodName) ({ cls := "java/lang/Integer", name := "equals", desc := "(Ljava/lang/Object;)Z" } : Jvm.MethodName)) ∈ lw_all := lw_g (lw_at lw_m4 46 rfl) rfl
theorem q868 : (Jvm.Cond.instanceMethod ({ cls := "java/lang/Integer", name := "equals", desc := "(Ljava/lang/Object;)Z" } : Jvm.MethodName)) ∈ lw_all := lw_g (lw_at lw_m4 47 rfl) rfl
theorem q869 : (Jvm.Cond.code ({ cls := "java/lang/Integer", name := "equals", desc := "(Ljava/lang/Object;)Z" } : Jvm.MethodName) prog_28_method_34_code (2 : Nat) (Option.some Jvm.ClassFile.FieldType.boolean)) ∈ lw_all := lw_g (lw_at lw_m4 48 rfl) rfl
theorem q870 : (Jvm.Cond.methodLink "java/lang/Integer" (211 : Nat) ({ cls := "java/lang/Integer", name := "intValue", desc := "()I" } : Jvm.MethodName)) ∈ lw_all := lw_g (lw_at lw_m4 49 rfl) rfl
theorem q1550 : (Jvm.Cond.static ({ cls := "java/lang/Integer", name := "compare", desc := "(II)I" } : Jvm.MethodName)) ∈ lw_all := lw_g (lw_at lw_m7 9 rfl) rfl
theorem q1551 : (Jvm.Cond.code ({ cls := "java/lang/Integer", name := "compare", desc := "(II)I" } : Jvm.MethodName) prog_28_method_40_code (2 : Nat) (Option.some Jvm.ClassFile.FieldType.int)) ∈ lw_all := lw_g (lw_at lw_m7 10 rfl) rfl
theorem q1567 : (Jvm.Cond.castable "java/lang/Integer" "java/lang/Comparable") ∈ lw_tbl := lw_at lw_m7 26 rfl
theorem q1568 : (Jvm.Cond.selects "java/lang/Integer" ({ cls := "java/lang/Comparable", name := "compareTo", desc := "(Ljava/lang/Object;)I" } : Jvm.MethodName) ({ cls := "java/lang/Integer", name := "compareTo", desc := "(Ljava/lang/Object;)I" } : Jvm.MethodName)) ∈ lw_all := lw_g (lw_at lw_m7 27 rfl) rfl
theorem q1569 : (Jvm.Cond.unhidden "java/lang/Integer" "compareTo" "(Ljava/lang/Object;)I") ∈ lw_tbl := lw_at lw_m7 28 rfl
theorem q1570 : (Jvm.Cond.instanceMethod ({ cls := "java/lang/Integer", name := "compareTo", desc := "(Ljava/lang/Object;)I" } : Jvm.MethodName)) ∈ lw_all := lw_g (lw_at lw_m7 29 rfl) rfl
theorem q1571 : (Jvm.Cond.publicMethod ({ cls := "java/lang/Integer", name := "compareTo", desc := "(Ljava/lang/Object;)I" } : Jvm.MethodName)) ∈ lw_tbl := lw_at lw_m7 30 rfl
theorem q1572 : (Jvm.Cond.code ({ cls := "java/lang/Integer", name := "compareTo", desc := "(Ljava/lang/Object;)I" } : Jvm.MethodName) prog_28_method_63_code (2 : Nat) (Option.some Jvm.ClassFile.FieldType.int)) ∈ lw_all := lw_g (lw_at lw_m7 31 rfl) rfl
theorem q1573 : (Jvm.Cond.methodLink "java/lang/Integer" (284 : Nat) ({ cls := "java/lang/Integer", name := "compareTo", desc := "(Ljava/lang/Integer;)I" } : Jvm.MethodName)) ∈ lw_all := lw_g (lw_at lw_m7 32 rfl) rfl
theorem q1574 : (Jvm.Cond.instanceMethod ({ cls := "java/lang/Integer", name := "compareTo", desc := "(Ljava/lang/Integer;)I" } : Jvm.MethodName)) ∈ lw_all := lw_g (lw_at lw_m7 33 rfl) rfl
theorem q1575 : (Jvm.Cond.selects "java/lang/Integer" ({ cls := "java/lang/Integer", name := "compareTo", desc := "(Ljava/lang/Integer;)I" } : Jvm.MethodName) ({ cls := "java/lang/Integer", name := "compareTo", desc := "(Ljava/lang/Integer;)I" } : Jvm.MethodName)) ∈ lw_all := lw_g (lw_at lw_m7 34 rfl) rfl
theorem q1576 : (Jvm.Cond.code ({ cls := "java/lang/Integer", name := "compareTo", desc := "(Ljava/lang/Integer;)I" } : Jvm.MethodName) prog_28_method_39_code (2 : Nat) (Option.some Jvm.ClassFile.FieldType.int)) ∈ lw_all := lw_g (lw_at lw_m7 35 rfl) rfl
theorem q1577 : (Jvm.Cond.methodLink "java/lang/Integer" (259 : Nat) ({ cls := "java/lang/Integer", name := "compare", desc := "(II)I" } : Jvm.MethodName)) ∈ lw_all := lw_g (lw_at lw_m7 36 rfl) rfl
theorem q2016 : (Jvm.Cond.static ({ cls := "java/lang/Integer", name := "bitCount", desc := "(I)I" } : Jvm.MethodName)) ∈ lw_all := lw_g (lw_at lw_m8 235 rfl) rfl
theorem q2017 : (Jvm.Cond.code ({ cls := "java/lang/Integer", name := "bitCount", desc := "(I)I" } : Jvm.MethodName) prog_28_method_49_code (1 : Nat) (Option.some Jvm.ClassFile.FieldType.int)) ∈ lw_all := lw_g (lw_at lw_m8 236 rfl) rfl
theorem q2018 : (Jvm.Cond.constant "java/lang/Integer" (265 : Nat) (1431655765 : Int32)) ∈ lw_all := lw_g (lw_at lw_m8 237 rfl) rfl
theorem q2019 : (Jvm.Cond.constant "java/lang/Integer" (266 : Nat) (858993459 : Int32)) ∈ lw_all := lw_g (lw_at lw_m8 238 rfl) rfl
theorem q2020 : (Jvm.Cond.constant "java/lang/Integer" (267 : Nat) (252645135 : Int32)) ∈ lw_all := lw_g (lw_at lw_m8 239 rfl) rfl
theorem q3300 : (Jvm.Cond.castable "java/lang/Integer" "java/lang/Object") ∈ lw_tbl := lw_at lw_m14 79 rfl
theorem in_J5 : ∀ w ∈ wsJ50, w ∈ lw_all := lw_in wsJ50 [245] (by decide +kernel) (by decide +kernel)
/-! jdk/internal/util/ArraysSupport -/
set_option maxRecDepth 100000
def RJ6 : String := "jdk/internal/util/ArraysSupport"
abbrev cJ6_newLength : ByteArray := prog_85_method_27_code
def yJ6_newLength : MethodName := ⟨RJ6, "newLength", "(III)I"⟩
def dkwJ6_newLength_1 : List UInt8 := [184, 0, 201, 172]
abbrev dktJ6_newLength_1 : List UInt8 := dkwJ6_newLength_1 ++ []
def dkwJ6_newLength_0 : List UInt8 := [26, 27, 28, 184, 0, 194, 96, 62, 3, 29, 162, 0, 11, 29, 18, 200, 163, 0, 5, 29, 172, 26, 27]
abbrev dktJ6_newLength_0 : List UInt8 := dkwJ6_newLength_0 ++ dktJ6_newLength_1
theorem dksJ6_newLength_0 : cJ6_newLength.data.toList.drop 0 = dktJ6_newLength_0 := by decide +kernel
theorem dksJ6_newLength_1 : cJ6_newLength.data.toList.drop 23 = dktJ6_newLength_1 := dk_seg dksJ6_newLength_0 23 rfl rfl
theorem dJ6_newLength_0 : decode cJ6_newLength 0 = .ok (.iload_n 0, 1) := dk_26 (dk_at dksJ6_newLength_0 0 rfl rfl)
theorem dJ6_newLength_1 : decode cJ6_newLength 1 = .ok (.iload_n 1, 1) := dk_27 (dk_at dksJ6_newLength_0 1 rfl rfl)
theorem dJ6_newLength_2 : decode cJ6_newLength 2 = .ok (.iload_n 2, 1) := dk_28 (dk_at dksJ6_newLength_0 2 rfl rfl)
theorem dJ6_newLength_3 : decode cJ6_newLength 3 = .ok (.invokestatic 194, 3) := dk_184 0 194 (dk_at dksJ6_newLength_0 3 rfl rfl)
theorem dJ6_newLength_6 : decode cJ6_newLength 6 = .ok (.iadd, 1) := dk_96 (dk_at dksJ6_newLength_0 6 rfl rfl)
theorem dJ6_newLength_7 : decode cJ6_newLength 7 = .ok (.istore_n 3, 1) := dk_62 (dk_at dksJ6_newLength_0 7 rfl rfl)
theorem dJ6_newLength_8 : decode cJ6_newLength 8 = .ok (.iconst 0, 1) := dk_3 (dk_at dksJ6_newLength_0 8 rfl rfl)
theorem dJ6_newLength_9 : decode cJ6_newLength 9 = .ok (.iload_n 3, 1) := dk_29 (dk_at dksJ6_newLength_0 9 rfl rfl)
theorem dJ6_newLength_10 : decode cJ6_newLength 10 = .ok (.if_icmp .ge 11, 3) := dk_162 0 11 (dk_at dksJ6_newLength_0 10 rfl rfl)
theorem dJ6_newLength_13 : decode cJ6_newLength 13 = .ok (.iload_n 3, 1) := dk_29 (dk_at dksJ6_newLength_0 13 rfl rfl)
theorem dJ6_newLength_14 : decode cJ6_newLength 14 = .ok (.ldc 200, 2) := dk_18 200 (dk_at dksJ6_newLength_0 14 rfl rfl)
theorem dJ6_newLength_16 : decode cJ6_newLength 16 = .ok (.if_icmp .gt 5, 3) := dk_163 0 5 (dk_at dksJ6_newLength_0 16 rfl rfl)
theorem dJ6_newLength_19 : decode cJ6_newLength 19 = .ok (.iload_n 3, 1) := dk_29 (dk_at dksJ6_newLength_0 19 rfl rfl)
theorem dJ6_newLength_20 : decode cJ6_newLength 20 = .ok (.ireturn, 1) := dk_172 (dk_at dksJ6_newLength_0 20 rfl rfl)
theorem dJ6_newLength_21 : decode cJ6_newLength 21 = .ok (.iload_n 0, 1) := dk_26 (dk_at dksJ6_newLength_0 21 rfl rfl)
theorem dJ6_newLength_22 : decode cJ6_newLength 22 = .ok (.iload_n 1, 1) := dk_27 (dk_at dksJ6_newLength_0 22 rfl rfl)
theorem dJ6_newLength_23 : decode cJ6_newLength 23 = .ok (.invokestatic 201, 3) := dk_184 0 201 (dk_at dksJ6_newLength_1 0 rfl rfl)
theorem dJ6_newLength_26 : decode cJ6_newLength 26 = .ok (.ireturn, 1) := dk_172 (dk_at dksJ6_newLength_1 3 rfl rfl)
abbrev cJ6_mismatch : ByteArray := prog_85_method_19_code
def yJ6_mismatch : MethodName := ⟨RJ6, "mismatch", "([I[II)I"⟩
def dkwJ6_mismatch_2 : List UInt8 := [29, 28, 162, 0, 20, 42, 29, 46, 43, 29, 46, 159, 0, 5, 29, 172, 132, 3, 1, 167, 255, 237, 2, 172]
abbrev dktJ6_mismatch_2 : List UInt8 := dkwJ6_mismatch_2 ++ []
def dkwJ6_mismatch_1 : List UInt8 := [178, 0, 144, 133, 28, 178, 0, 51, 184, 0, 122, 62, 29, 155, 0, 5, 29, 172, 28, 29, 2, 130, 100, 62]
abbrev dktJ6_mismatch_1 : List UInt8 := dkwJ6_mismatch_1 ++ dktJ6_mismatch_2
def dkwJ6_mismatch_0 : List UInt8 := [3, 62, 28, 4, 164, 0, 44, 42, 3, 46, 43, 3, 46, 159, 0, 5, 3, 172, 42, 178, 0, 144, 133, 43]
abbrev dktJ6_mismatch_0 : List UInt8 := dkwJ6_mismatch_0 ++ dktJ6_mismatch_1
theorem dksJ6_mismatch_0 : cJ6_mismatch.data.toList.drop 0 = dktJ6_mismatch_0 := by decide +kernel
theorem dksJ6_mismatch_1 : cJ6_mismatch.data.toList.drop 24 = dktJ6_mismatch_1 := dk_seg dksJ6_mismatch_0 24 rfl rfl
theorem dksJ6_mismatch_2 : cJ6_mismatch.data.toList.drop 48 = dktJ6_mismatch_2 := dk_seg dksJ6_mismatch_1 24 rfl rfl
theorem dJ6_mismatch_0 : decode cJ6_mismatch 0 = .ok (.iconst 0, 1) := dk_3 (dk_at dksJ6_mismatch_0 0 rfl rfl)
theorem dJ6_mismatch_1 : decode cJ6_mismatch 1 = .ok (.istore_n 3, 1) := dk_62 (dk_at dksJ6_mismatch_0 1 rfl rfl)
theorem dJ6_mismatch_2 : decode cJ6_mismatch 2 = .ok (.iload_n 2, 1) := dk_28 (dk_at dksJ6_mismatch_0 2 rfl rfl)
theorem dJ6_mismatch_3 : decode cJ6_mismatch 3 = .ok (.iconst 1, 1) := dk_4 (dk_at dksJ6_mismatch_0 3 rfl rfl)
theorem dJ6_mismatch_4 : decode cJ6_mismatch 4 = .ok (.if_icmp .le 44, 3) := dk_164 0 44 (dk_at dksJ6_mismatch_0 4 rfl rfl)
theorem dJ6_mismatch_7 : decode cJ6_mismatch 7 = .ok (.aload_n 0, 1) := dk_42 (dk_at dksJ6_mismatch_0 7 rfl rfl)
theorem dJ6_mismatch_8 : decode cJ6_mismatch 8 = .ok (.iconst 0, 1) := dk_3 (dk_at dksJ6_mismatch_0 8 rfl rfl)
theorem dJ6_mismatch_9 : decode cJ6_mismatch 9 = .ok (.iaload, 1) := dk_46 (dk_at dksJ6_mismatch_0 9 rfl rfl)
theorem dJ6_mismatch_10 : decode cJ6_mismatch 10 = .ok (.aload_n 1, 1) := dk_43 (dk_at dksJ6_mismatch_0 10 rfl rfl)
theorem dJ6_mismatch_11 : decode cJ6_mismatch 11 = .ok (.iconst 0, 1) := dk_3 (dk_at dksJ6_mismatch_0 11 rfl rfl)
theorem dJ6_mismatch_12 : decode cJ6_mismatch 12 = .ok (.iaload, 1) := dk_46 (dk_at dksJ6_mismatch_0 12 rfl rfl)
theorem dJ6_mismatch_13 : decode cJ6_mismatch 13 = .ok (.if_icmp .eq 5, 3) := dk_159 0 5 (dk_at dksJ6_mismatch_0 13 rfl rfl)
theorem dJ6_mismatch_16 : decode cJ6_mismatch 16 = .ok (.iconst 0, 1) := dk_3 (dk_at dksJ6_mismatch_0 16 rfl rfl)
theorem dJ6_mismatch_17 : decode cJ6_mismatch 17 = .ok (.ireturn, 1) := dk_172 (dk_at dksJ6_mismatch_0 17 rfl rfl)
theorem dJ6_mismatch_18 : decode cJ6_mismatch 18 = .ok (.aload_n 0, 1) := dk_42 (dk_at dksJ6_mismatch_0 18 rfl rfl)
theorem dJ6_mismatch_19 : decode cJ6_mismatch 19 = .ok (.getstatic 144, 3) := dk_178 0 144 (dk_at dksJ6_mismatch_0 19 rfl rfl)
theorem dJ6_mismatch_22 : decode cJ6_mismatch 22 = .ok (.i2l, 1) := dk_133 (dk_at dksJ6_mismatch_0 22 rfl rfl)
theorem dJ6_mismatch_23 : decode cJ6_mismatch 23 = .ok (.aload_n 1, 1) := dk_43 (dk_at dksJ6_mismatch_0 23 rfl rfl)
theorem dJ6_mismatch_24 : decode cJ6_mismatch 24 = .ok (.getstatic 144, 3) := dk_178 0 144 (dk_at dksJ6_mismatch_1 0 rfl rfl)
theorem dJ6_mismatch_27 : decode cJ6_mismatch 27 = .ok (.i2l, 1) := dk_133 (dk_at dksJ6_mismatch_1 3 rfl rfl)
theorem dJ6_mismatch_28 : decode cJ6_mismatch 28 = .ok (.iload_n 2, 1) := dk_28 (dk_at dksJ6_mismatch_1 4 rfl rfl)
theorem dJ6_mismatch_29 : decode cJ6_mismatch 29 = .ok (.getstatic 51, 3) := dk_178 0 51 (dk_at dksJ6_mismatch_1 5 rfl rfl)
theorem dJ6_mismatch_32 : decode cJ6_mismatch 32 = .ok (.invokestatic 122, 3) := dk_184 0 122 (dk_at dksJ6_mismatch_1 8 rfl rfl)
theorem dJ6_mismatch_35 : decode cJ6_mismatch 35 = .ok (.istore_n 3, 1) := dk_62 (dk_at dksJ6_mismatch_1 11 rfl rfl)
theorem dJ6_mismatch_36 : decode cJ6_mismatch 36 = .ok (.iload_n 3, 1) := dk_29 (dk_at dksJ6_mismatch_1 12 rfl rfl)
theorem dJ6_mismatch_37 : decode cJ6_mismatch 37 = .ok (.ifCond .lt 5, 3) := dk_155 0 5 (dk_at dksJ6_mismatch_1 13 rfl rfl)
theorem dJ6_mismatch_40 : decode cJ6_mismatch 40 = .ok (.iload_n 3, 1) := dk_29 (dk_at dksJ6_mismatch_1 16 rfl rfl)
theorem dJ6_mismatch_41 : decode cJ6_mismatch 41 = .ok (.ireturn, 1) := dk_172 (dk_at dksJ6_mismatch_1 17 rfl rfl)
theorem dJ6_mismatch_42 : decode cJ6_mismatch 42 = .ok (.iload_n 2, 1) := dk_28 (dk_at dksJ6_mismatch_1 18 rfl rfl)
theorem dJ6_mismatch_43 : decode cJ6_mismatch 43 = .ok (.iload_n 3, 1) := dk_29 (dk_at dksJ6_mismatch_1 19 rfl rfl)
theorem dJ6_mismatch_44 : decode cJ6_mismatch 44 = .ok (.iconst (-1), 1) := dk_2 (dk_at dksJ6_mismatch_1 20 rfl rfl)
theorem dJ6_mismatch_45 : decode cJ6_mismatch 45 = .ok (.ixor, 1) := dk_130 (dk_at dksJ6_mismatch_1 21 rfl rfl)
theorem dJ6_mismatch_46 : decode cJ6_mismatch 46 = .ok (.isub, 1) := dk_100 (dk_at dksJ6_mismatch_1 22 rfl rfl)
theorem dJ6_mismatch_47 : decode cJ6_mismatch 47 = .ok (.istore_n 3, 1) := dk_62 (dk_at dksJ6_mismatch_1 23 rfl rfl)
theorem dJ6_mismatch_48 : decode cJ6_mismatch 48 = .ok (.iload_n 3, 1) := dk_29 (dk_at dksJ6_mismatch_2 0 rfl rfl)
theorem dJ6_mismatch_49 : decode cJ6_mismatch 49 = .ok (.iload_n 2, 1) := dk_28 (dk_at dksJ6_mismatch_2 1 rfl rfl)
theorem dJ6_mismatch_50 : decode cJ6_mismatch 50 = .ok (.if_icmp .ge 20, 3) := dk_162 0 20 (dk_at dksJ6_mismatch_2 2 rfl rfl)
theorem dJ6_mismatch_53 : decode cJ6_mismatch 53 = .ok (.aload_n 0, 1) := dk_42 (dk_at dksJ6_mismatch_2 5 rfl rfl)
theorem dJ6_mismatch_54 : decode cJ6_mismatch 54 = .ok (.iload_n 3, 1) := dk_29 (dk_at dksJ6_mismatch_2 6 rfl rfl)
theorem dJ6_mismatch_55 : decode cJ6_mismatch 55 = .ok (.iaload, 1) := dk_46 (dk_at dksJ6_mismatch_2 7 rfl rfl)
theorem dJ6_mismatch_56 : decode cJ6_mismatch 56 = .ok (.aload_n 1, 1) := dk_43 (dk_at dksJ6_mismatch_2 8 rfl rfl)
theorem dJ6_mismatch_57 : decode cJ6_mismatch 57 = .ok (.iload_n 3, 1) := dk_29 (dk_at dksJ6_mismatch_2 9 rfl rfl)
theorem dJ6_mismatch_58 : decode cJ6_mismatch 58 = .ok (.iaload, 1) := dk_46 (dk_at dksJ6_mismatch_2 10 rfl rfl)
theorem dJ6_mismatch_59 : decode cJ6_mismatch 59 = .ok (.if_icmp .eq 5, 3) := dk_159 0 5 (dk_at dksJ6_mismatch_2 11 rfl rfl)
theorem dJ6_mismatch_62 : decode cJ6_mismatch 62 = .ok (.iload_n 3, 1) := dk_29 (dk_at dksJ6_mismatch_2 14 rfl rfl)
theorem dJ6_mismatch_63 : decode cJ6_mismatch 63 = .ok (.ireturn, 1) := dk_172 (dk_at dksJ6_mismatch_2 15 rfl rfl)
theorem dJ6_mismatch_64 : decode cJ6_mismatch 64 = .ok (.iinc 3 1, 3) := dk_132 3 1 (dk_at dksJ6_mismatch_2 16 rfl rfl)
theorem dJ6_mismatch_67 : decode cJ6_mismatch 67 = .ok (.goto (-19), 3) := dk_167 255 237 (dk_at dksJ6_mismatch_2 19 rfl rfl)
theorem dJ6_mismatch_70 : decode cJ6_mismatch 70 = .ok (.iconst (-1), 1) := dk_2 (dk_at dksJ6_mismatch_2 22 rfl rfl)
theorem dJ6_mismatch_71 : decode cJ6_mismatch 71 = .ok (.ireturn, 1) := dk_172 (dk_at dksJ6_mismatch_2 23 rfl rfl)
abbrev cJ6_vectorizedMismatch : ByteArray := prog_85_method_3_code
def yJ6_vectorizedMismatch : MethodName := ⟨RJ6, "vectorizedMismatch", "(Ljava/lang/Object;JLjava/lang/Object;JII)I"⟩
def dkwJ6_vectorizedMismatch_11 : List UInt8 := [54, 10, 21, 10, 2, 130, 172, 21, 10, 2, 130, 172]
abbrev dktJ6_vectorizedMismatch_11 : List UInt8 := dkwJ6_vectorizedMismatch_11 ++ []
def dkwJ6_vectorizedMismatch_10 : List UInt8 := [178, 0, 46, 21, 7, 96, 122, 54, 17, 21, 9, 21, 8, 120, 21, 17, 96, 172, 21, 10, 21, 11, 100]
abbrev dktJ6_vectorizedMismatch_10 : List UInt8 := dkwJ6_vectorizedMismatch_10 ++ dktJ6_vectorizedMismatch_11
def dkwJ6_vectorizedMismatch_9 : List UInt8 := [153, 0, 18, 21, 16, 184, 0, 58, 178, 0, 46, 21, 7, 96, 122, 167, 0, 15, 21, 16, 184, 0, 11]
abbrev dktJ6_vectorizedMismatch_9 : List UInt8 := dkwJ6_vectorizedMismatch_9 ++ dktJ6_vectorizedMismatch_10
def dkwJ6_vectorizedMismatch_8 : List UInt8 := [182, 0, 54, 54, 15, 21, 14, 21, 15, 159, 0, 54, 21, 14, 21, 15, 130, 54, 16, 178, 0, 36]
abbrev dktJ6_vectorizedMismatch_8 : List UInt8 := dkwJ6_vectorizedMismatch_8 ++ dktJ6_vectorizedMismatch_9
def dkwJ6_vectorizedMismatch_7 : List UInt8 := [55, 12, 178, 0, 26, 42, 31, 22, 12, 97, 182, 0, 54, 54, 14, 178, 0, 26, 45, 22, 4, 22, 12, 97]
abbrev dktJ6_vectorizedMismatch_7 : List UInt8 := dkwJ6_vectorizedMismatch_7 ++ dktJ6_vectorizedMismatch_8
def dkwJ6_vectorizedMismatch_6 : List UInt8 := [4, 178, 0, 51, 21, 7, 100, 120, 54, 11, 21, 10, 21, 11, 161, 0, 104, 21, 9, 133, 178, 0, 20, 121]
abbrev dktJ6_vectorizedMismatch_6 : List UInt8 := dkwJ6_vectorizedMismatch_6 ++ dktJ6_vectorizedMismatch_7
def dkwJ6_vectorizedMismatch_5 : List UInt8 := [132, 9, 1, 167, 255, 148, 21, 6, 21, 9, 21, 8, 120, 100, 54, 10, 21, 7, 178, 0, 51, 162, 0, 126]
abbrev dktJ6_vectorizedMismatch_5 : List UInt8 := dkwJ6_vectorizedMismatch_5 ++ dktJ6_vectorizedMismatch_6
def dkwJ6_vectorizedMismatch_4 : List UInt8 := [22, 16, 184, 0, 49, 178, 0, 46, 21, 7, 96, 122, 54, 18, 21, 9, 21, 8, 120, 21, 18, 96, 172]
abbrev dktJ6_vectorizedMismatch_4 : List UInt8 := dkwJ6_vectorizedMismatch_4 ++ dktJ6_vectorizedMismatch_5
def dkwJ6_vectorizedMismatch_3 : List UInt8 := [55, 16, 178, 0, 36, 153, 0, 18, 22, 16, 184, 0, 40, 178, 0, 46, 21, 7, 96, 122, 167, 0, 15]
abbrev dktJ6_vectorizedMismatch_3 : List UInt8 := dkwJ6_vectorizedMismatch_3 ++ dktJ6_vectorizedMismatch_4
def dkwJ6_vectorizedMismatch_2 : List UInt8 := [22, 4, 22, 10, 97, 182, 0, 30, 55, 14, 22, 12, 22, 14, 148, 153, 0, 54, 22, 12, 22, 14, 131]
abbrev dktJ6_vectorizedMismatch_2 : List UInt8 := dkwJ6_vectorizedMismatch_2 ++ dktJ6_vectorizedMismatch_3
def dkwJ6_vectorizedMismatch_1 : List UInt8 := [178, 0, 20, 121, 55, 10, 178, 0, 26, 42, 31, 22, 10, 97, 182, 0, 30, 55, 12, 178, 0, 26, 45]
abbrev dktJ6_vectorizedMismatch_1 : List UInt8 := dkwJ6_vectorizedMismatch_1 ++ dktJ6_vectorizedMismatch_2
def dkwJ6_vectorizedMismatch_0 : List UInt8 := [178, 0, 20, 21, 7, 100, 54, 8, 3, 54, 9, 21, 9, 21, 6, 21, 8, 122, 162, 0, 104, 21, 9, 133]
abbrev dktJ6_vectorizedMismatch_0 : List UInt8 := dkwJ6_vectorizedMismatch_0 ++ dktJ6_vectorizedMismatch_1
theorem dksJ6_vectorizedMismatch_0 : cJ6_vectorizedMismatch.data.toList.drop 0 = dktJ6_vectorizedMismatch_0 := by decide +kernel
theorem dksJ6_vectorizedMismatch_1 : cJ6_vectorizedMismatch.data.toList.drop 24 = dktJ6_vectorizedMismatch_1 := dk_seg dksJ6_vectorizedMismatch_0 24 rfl rfl
theorem dksJ6_vectorizedMismatch_2 : cJ6_vectorizedMismatch.data.toList.drop 47 = dktJ6_vectorizedMismatch_2 := dk_seg dksJ6_vectorizedMismatch_1 23 rfl rfl
theorem dksJ6_vectorizedMismatch_3 : cJ6_vectorizedMismatch.data.toList.drop 70 = dktJ6_vectorizedMismatch_3 := dk_seg dksJ6_vectorizedMismatch_2 23 rfl rfl
theorem dksJ6_vectorizedMismatch_4 : cJ6_vectorizedMismatch.data.toList.drop 93 = dktJ6_vectorizedMismatch_4 := dk_seg dksJ6_vectorizedMismatch_3 23 rfl rfl
theorem dksJ6_vectorizedMismatch_5 : cJ6_vectorizedMismatch.data.toList.drop 116 = dktJ6_vectorizedMismatch_5 := dk_seg dksJ6_vectorizedMismatch_4 23 rfl rfl
theorem dksJ6_vectorizedMismatch_6 : cJ6_vectorizedMismatch.data.toList.drop 140 = dktJ6_vectorizedMismatch_6 := dk_seg dksJ6_vectorizedMismatch_5 24 rfl rfl
theorem dksJ6_vectorizedMismatch_7 : cJ6_vectorizedMismatch.data.toList.drop 164 = dktJ6_vectorizedMismatch_7 := dk_seg dksJ6_vectorizedMismatch_6 24 rfl rfl
theorem dksJ6_vectorizedMismatch_8 : cJ6_vectorizedMismatch.data.toList.drop 188 = dktJ6_vectorizedMismatch_8 := dk_seg dksJ6_vectorizedMismatch_7 24 rfl rfl
theorem dksJ6_vectorizedMismatch_9 : cJ6_vectorizedMismatch.data.toList.drop 210 = dktJ6_vectorizedMismatch_9 := dk_seg dksJ6_vectorizedMismatch_8 22 rfl rfl
theorem dksJ6_vectorizedMismatch_10 : cJ6_vectorizedMismatch.data.toList.drop 233 = dktJ6_vectorizedMismatch_10 := dk_seg dksJ6_vectorizedMismatch_9 23 rfl rfl
theorem dksJ6_vectorizedMismatch_11 : cJ6_vectorizedMismatch.data.toList.drop 256 = dktJ6_vectorizedMismatch_11 := dk_seg dksJ6_vectorizedMismatch_10 23 rfl rfl
theorem dJ6_vectorizedMismatch_0 : decode cJ6_vectorizedMismatch 0 = .ok (.getstatic 20, 3) := dk_178 0 20 (dk_at dksJ6_vectorizedMismatch_0 0 rfl rfl)
theorem dJ6_vectorizedMismatch_3 : decode cJ6_vectorizedMismatch 3 = .ok (.iload 7, 2) := dk_21 7 (dk_at dksJ6_vectorizedMismatch_0 3 rfl rfl)
theorem dJ6_vectorizedMismatch_5 : decode cJ6_vectorizedMismatch 5 = .ok (.isub, 1) := dk_100 (dk_at dksJ6_vectorizedMismatch_0 5 rfl rfl)
theorem dJ6_vectorizedMismatch_6 : decode cJ6_vectorizedMismatch 6 = .ok (.istore 8, 2) := dk_54 8 (dk_at dksJ6_vectorizedMismatch_0 6 rfl rfl)
theorem dJ6_vectorizedMismatch_8 : decode cJ6_vectorizedMismatch 8 = .ok (.iconst 0, 1) := dk_3 (dk_at dksJ6_vectorizedMismatch_0 8 rfl rfl)
theorem dJ6_vectorizedMismatch_9 : decode cJ6_vectorizedMismatch 9 = .ok (.istore 9, 2) := dk_54 9 (dk_at dksJ6_vectorizedMismatch_0 9 rfl rfl)
theorem dJ6_vectorizedMismatch_11 : decode cJ6_vectorizedMismatch 11 = .ok (.iload 9, 2) := dk_21 9 (dk_at dksJ6_vectorizedMismatch_0 11 rfl rfl)
theorem dJ6_vectorizedMismatch_13 : decode cJ6_vectorizedMismatch 13 = .ok (.iload 6, 2) := dk_21 6 (dk_at dksJ6_vectorizedMismatch_0 13 rfl rfl)
theorem dJ6_vectorizedMismatch_15 : decode cJ6_vectorizedMismatch 15 = .ok (.iload 8, 2) := dk_21 8 (dk_at dksJ6_vectorizedMismatch_0 15 rfl rfl)
theorem dJ6_vectorizedMismatch_17 : decode cJ6_vectorizedMismatch 17 = .ok (.ishr, 1) := dk_122 (dk_at dksJ6_vectorizedMismatch_0 17 rfl rfl)
theorem dJ6_vectorizedMismatch_18 : decode cJ6_vectorizedMismatch 18 = .ok (.if_icmp .ge 104, 3) := dk_162 0 104 (dk_at dksJ6_vectorizedMismatch_0 18 rfl rfl)
theorem dJ6_vectorizedMismatch_21 : decode cJ6_vectorizedMismatch 21 = .ok (.iload 9, 2) := dk_21 9 (dk_at dksJ6_vectorizedMismatch_0 21 rfl rfl)
theorem dJ6_vectorizedMismatch_23 : decode cJ6_vectorizedMismatch 23 = .ok (.i2l, 1) := dk_133 (dk_at dksJ6_vectorizedMismatch_0 23 rfl rfl)
theorem dJ6_vectorizedMismatch_24 : decode cJ6_vectorizedMismatch 24 = .ok (.getstatic 20, 3) := dk_178 0 20 (dk_at dksJ6_vectorizedMismatch_1 0 rfl rfl)
theorem dJ6_vectorizedMismatch_27 : decode cJ6_vectorizedMismatch 27 = .ok (.lshl, 1) := dk_121 (dk_at dksJ6_vectorizedMismatch_1 3 rfl rfl)
theorem dJ6_vectorizedMismatch_28 : decode cJ6_vectorizedMismatch 28 = .ok (.lstore 10, 2) := dk_55 10 (dk_at dksJ6_vectorizedMismatch_1 4 rfl rfl)
theorem dJ6_vectorizedMismatch_30 : decode cJ6_vectorizedMismatch 30 = .ok (.getstatic 26, 3) := dk_178 0 26 (dk_at dksJ6_vectorizedMismatch_1 6 rfl rfl)
theorem dJ6_vectorizedMismatch_33 : decode cJ6_vectorizedMismatch 33 = .ok (.aload_n 0, 1) := dk_42 (dk_at dksJ6_vectorizedMismatch_1 9 rfl rfl)
theorem dJ6_vectorizedMismatch_34 : decode cJ6_vectorizedMismatch 34 = .ok (.lload_n 1, 1) := dk_31 (dk_at dksJ6_vectorizedMismatch_1 10 rfl rfl)
theorem dJ6_vectorizedMismatch_35 : decode cJ6_vectorizedMismatch 35 = .ok (.lload 10, 2) := dk_22 10 (dk_at dksJ6_vectorizedMismatch_1 11 rfl rfl)
theorem dJ6_vectorizedMismatch_37 : decode cJ6_vectorizedMismatch 37 = .ok (.ladd, 1) := dk_97 (dk_at dksJ6_vectorizedMismatch_1 13 rfl rfl)
theorem dJ6_vectorizedMismatch_38 : decode cJ6_vectorizedMismatch 38 = .ok (.invokevirtual 30, 3) := dk_182 0 30 (dk_at dksJ6_vectorizedMismatch_1 14 rfl rfl)
theorem dJ6_vectorizedMismatch_41 : decode cJ6_vectorizedMismatch 41 = .ok (.lstore 12, 2) := dk_55 12 (dk_at dksJ6_vectorizedMismatch_1 17 rfl rfl)
theorem dJ6_vectorizedMismatch_43 : decode cJ6_vectorizedMismatch 43 = .ok (.getstatic 26, 3) := dk_178 0 26 (dk_at dksJ6_vectorizedMismatch_1 19 rfl rfl)
theorem dJ6_vectorizedMismatch_46 : decode cJ6_vectorizedMismatch 46 = .ok (.aload_n 3, 1) := dk_45 (dk_at dksJ6_vectorizedMismatch_1 22 rfl rfl)
theorem dJ6_vectorizedMismatch_47 : decode cJ6_vectorizedMismatch 47 = .ok (.lload 4, 2) := dk_22 4 (dk_at dksJ6_vectorizedMismatch_2 0 rfl rfl)
theorem dJ6_vectorizedMismatch_49 : decode cJ6_vectorizedMismatch 49 = .ok (.lload 10, 2) := dk_22 10 (dk_at dksJ6_vectorizedMismatch_2 2 rfl rfl)
theorem dJ6_vectorizedMismatch_51 : decode cJ6_vectorizedMismatch 51 = .ok (.ladd, 1) := dk_97 (dk_at dksJ6_vectorizedMismatch_2 4 rfl rfl)
theorem dJ6_vectorizedMismatch_52 : decode cJ6_vectorizedMismatch 52 = .ok (.invokevirtual 30, 3) := dk_182 0 30 (dk_at dksJ6_vectorizedMismatch_2 5 rfl rfl)
theorem dJ6_vectorizedMismatch_55 : decode cJ6_vectorizedMismatch 55 = .ok (.lstore 14, 2) := dk_55 14 (dk_at dksJ6_vectorizedMismatch_2 8 rfl rfl)
theorem dJ6_vectorizedMismatch_57 : decode cJ6_vectorizedMismatch 57 = .ok (.lload 12, 2) := dk_22 12 (dk_at dksJ6_vectorizedMismatch_2 10 rfl rfl)
theorem dJ6_vectorizedMismatch_59 : decode cJ6_vectorizedMismatch 59 = .ok (.lload 14, 2) := dk_22 14 (dk_at dksJ6_vectorizedMismatch_2 12 rfl rfl)
theorem dJ6_vectorizedMismatch_61 : decode cJ6_vectorizedMismatch 61 = .ok (.lcmp, 1) := dk_148 (dk_at dksJ6_vectorizedMismatch_2 14 rfl rfl)
theorem dJ6_vectorizedMismatch_62 : decode cJ6_vectorizedMismatch 62 = .ok (.ifCond .eq 54, 3) := dk_153 0 54 (dk_at dksJ6_vectorizedMismatch_2 15 rfl rfl)
theorem dJ6_vectorizedMismatch_65 : decode cJ6_vectorizedMismatch 65 = .ok (.lload 12, 2) := dk_22 12 (dk_at dksJ6_vectorizedMismatch_2 18 rfl rfl)
theorem dJ6_vectorizedMismatch_67 : decode cJ6_vectorizedMismatch 67 = .ok (.lload 14, 2) := dk_22 14 (dk_at dksJ6_vectorizedMismatch_2 20 rfl rfl)
theorem dJ6_vectorizedMismatch_69 : decode cJ6_vectorizedMismatch 69 = .ok (.lxor, 1) := dk_131 (dk_at dksJ6_vectorizedMismatch_2 22 rfl rfl)
theorem dJ6_vectorizedMismatch_70 : decode cJ6_vectorizedMismatch 70 = .ok (.lstore 16, 2) := dk_55 16 (dk_at dksJ6_vectorizedMismatch_3 0 rfl rfl)
theorem dJ6_vectorizedMismatch_72 : decode cJ6_vectorizedMismatch 72 = .ok (.getstatic 36, 3) := dk_178 0 36 (dk_at dksJ6_vectorizedMismatch_3 2 rfl rfl)
theorem dJ6_vectorizedMismatch_75 : decode cJ6_vectorizedMismatch 75 = .ok (.ifCond .eq 18, 3) := dk_153 0 18 (dk_at dksJ6_vectorizedMismatch_3 5 rfl rfl)
theorem dJ6_vectorizedMismatch_78 : decode cJ6_vectorizedMismatch 78 = .ok (.lload 16, 2) := dk_22 16 (dk_at dksJ6_vectorizedMismatch_3 8 rfl rfl)
theorem dJ6_vectorizedMismatch_80 : decode cJ6_vectorizedMismatch 80 = .ok (.invokestatic 40, 3) := dk_184 0 40 (dk_at dksJ6_vectorizedMismatch_3 10 rfl rfl)
theorem dJ6_vectorizedMismatch_83 : decode cJ6_vectorizedMismatch 83 = .ok (.getstatic 46, 3) := dk_178 0 46 (dk_at dksJ6_vectorizedMismatch_3 13 rfl rfl)
theorem dJ6_vectorizedMismatch_86 : decode cJ6_vectorizedMismatch 86 = .ok (.iload 7, 2) := dk_21 7 (dk_at dksJ6_vectorizedMismatch_3 16 rfl rfl)
theorem dJ6_vectorizedMismatch_88 : decode cJ6_vectorizedMismatch 88 = .ok (.iadd, 1) := dk_96 (dk_at dksJ6_vectorizedMismatch_3 18 rfl rfl)
theorem dJ6_vectorizedMismatch_89 : decode cJ6_vectorizedMismatch 89 = .ok (.ishr, 1) := dk_122 (dk_at dksJ6_vectorizedMismatch_3 19 rfl rfl)
theorem dJ6_vectorizedMismatch_90 : decode cJ6_vectorizedMismatch 90 = .ok (.goto 15, 3) := dk_167 0 15 (dk_at dksJ6_vectorizedMismatch_3 20 rfl rfl)
theorem dJ6_vectorizedMismatch_93 : decode cJ6_vectorizedMismatch 93 = .ok (.lload 16, 2) := dk_22 16 (dk_at dksJ6_vectorizedMismatch_4 0 rfl rfl)
theorem dJ6_vectorizedMismatch_95 : decode cJ6_vectorizedMismatch 95 = .ok (.invokestatic 49, 3) := dk_184 0 49 (dk_at dksJ6_vectorizedMismatch_4 2 rfl rfl)
theorem dJ6_vectorizedMismatch_98 : decode cJ6_vectorizedMismatch 98 = .ok (.getstatic 46, 3) := dk_178 0 46 (dk_at dksJ6_vectorizedMismatch_4 5 rfl rfl)
theorem dJ6_vectorizedMismatch_101 : decode cJ6_vectorizedMismatch 101 = .ok (.iload 7, 2) := dk_21 7 (dk_at dksJ6_vectorizedMismatch_4 8 rfl rfl)
theorem dJ6_vectorizedMismatch_103 : decode cJ6_vectorizedMismatch 103 = .ok (.iadd, 1) := dk_96 (dk_at dksJ6_vectorizedMismatch_4 10 rfl rfl)
theorem dJ6_vectorizedMismatch_104 : decode cJ6_vectorizedMismatch 104 = .ok (.ishr, 1) := dk_122 (dk_at dksJ6_vectorizedMismatch_4 11 rfl rfl)
theorem dJ6_vectorizedMismatch_105 : decode cJ6_vectorizedMismatch 105 = .ok (.istore 18, 2) := dk_54 18 (dk_at dksJ6_vectorizedMismatch_4 12 rfl rfl)
theorem dJ6_vectorizedMismatch_107 : decode cJ6_vectorizedMismatch 107 = .ok (.iload 9, 2) := dk_21 9 (dk_at dksJ6_vectorizedMismatch_4 14 rfl rfl)
theorem dJ6_vectorizedMismatch_109 : decode cJ6_vectorizedMismatch 109 = .ok (.iload 8, 2) := dk_21 8 (dk_at dksJ6_vectorizedMismatch_4 16 rfl rfl)
theorem dJ6_vectorizedMismatch_111 : decode cJ6_vectorizedMismatch 111 = .ok (.ishl, 1) := dk_120 (dk_at dksJ6_vectorizedMismatch_4 18 rfl rfl)
theorem dJ6_vectorizedMismatch_112 : decode cJ6_vectorizedMismatch 112 = .ok (.iload 18, 2) := dk_21 18 (dk_at dksJ6_vectorizedMismatch_4 19 rfl rfl)
theorem dJ6_vectorizedMismatch_114 : decode cJ6_vectorizedMismatch 114 = .ok (.iadd, 1) := dk_96 (dk_at dksJ6_vectorizedMismatch_4 21 rfl rfl)
theorem dJ6_vectorizedMismatch_115 : decode cJ6_vectorizedMismatch 115 = .ok (.ireturn, 1) := dk_172 (dk_at dksJ6_vectorizedMismatch_4 22 rfl rfl)
theorem dJ6_vectorizedMismatch_116 : decode cJ6_vectorizedMismatch 116 = .ok (.iinc 9 1, 3) := dk_132 9 1 (dk_at dksJ6_vectorizedMismatch_5 0 rfl rfl)
theorem dJ6_vectorizedMismatch_119 : decode cJ6_vectorizedMismatch 119 = .ok (.goto (-108), 3) := dk_167 255 148 (dk_at dksJ6_vectorizedMismatch_5 3 rfl rfl)
theorem dJ6_vectorizedMismatch_122 : decode cJ6_vectorizedMismatch 122 = .ok (.iload 6, 2) := dk_21 6 (dk_at dksJ6_vectorizedMismatch_5 6 rfl rfl)
theorem dJ6_vectorizedMismatch_124 : decode cJ6_vectorizedMismatch 124 = .ok (.iload 9, 2) := dk_21 9 (dk_at dksJ6_vectorizedMismatch_5 8 rfl rfl)
theorem dJ6_vectorizedMismatch_126 : decode cJ6_vectorizedMismatch 126 = .ok (.iload 8, 2) := dk_21 8 (dk_at dksJ6_vectorizedMismatch_5 10 rfl rfl)
theorem dJ6_vectorizedMismatch_128 : decode cJ6_vectorizedMismatch 128 = .ok (.ishl, 1) := dk_120 (dk_at dksJ6_vectorizedMismatch_5 12 rfl rfl)
theorem dJ6_vectorizedMismatch_129 : decode cJ6_vectorizedMismatch 129 = .ok (.isub, 1) := dk_100 (dk_at dksJ6_vectorizedMismatch_5 13 rfl rfl)
theorem dJ6_vectorizedMismatch_130 : decode cJ6_vectorizedMismatch 130 = .ok (.istore 10, 2) := dk_54 10 (dk_at dksJ6_vectorizedMismatch_5 14 rfl rfl)
theorem dJ6_vectorizedMismatch_132 : decode cJ6_vectorizedMismatch 132 = .ok (.iload 7, 2) := dk_21 7 (dk_at dksJ6_vectorizedMismatch_5 16 rfl rfl)
theorem dJ6_vectorizedMismatch_134 : decode cJ6_vectorizedMismatch 134 = .ok (.getstatic 51, 3) := dk_178 0 51 (dk_at dksJ6_vectorizedMismatch_5 18 rfl rfl)
theorem dJ6_vectorizedMismatch_137 : decode cJ6_vectorizedMismatch 137 = .ok (.if_icmp .ge 126, 3) := dk_162 0 126 (dk_at dksJ6_vectorizedMismatch_5 21 rfl rfl)
theorem dJ6_vectorizedMismatch_140 : decode cJ6_vectorizedMismatch 140 = .ok (.iconst 1, 1) := dk_4 (dk_at dksJ6_vectorizedMismatch_6 0 rfl rfl)
theorem dJ6_vectorizedMismatch_141 : decode cJ6_vectorizedMismatch 141 = .ok (.getstatic 51, 3) := dk_178 0 51 (dk_at dksJ6_vectorizedMismatch_6 1 rfl rfl)
theorem dJ6_vectorizedMismatch_144 : decode cJ6_vectorizedMismatch 144 = .ok (.iload 7, 2) := dk_21 7 (dk_at dksJ6_vectorizedMismatch_6 4 rfl rfl)
theorem dJ6_vectorizedMismatch_146 : decode cJ6_vectorizedMismatch 146 = .ok (.isub, 1) := dk_100 (dk_at dksJ6_vectorizedMismatch_6 6 rfl rfl)
theorem dJ6_vectorizedMismatch_147 : decode cJ6_vectorizedMismatch 147 = .ok (.ishl, 1) := dk_120 (dk_at dksJ6_vectorizedMismatch_6 7 rfl rfl)
theorem dJ6_vectorizedMismatch_148 : decode cJ6_vectorizedMismatch 148 = .ok (.istore 11, 2) := dk_54 11 (dk_at dksJ6_vectorizedMismatch_6 8 rfl rfl)
theorem dJ6_vectorizedMismatch_150 : decode cJ6_vectorizedMismatch 150 = .ok (.iload 10, 2) := dk_21 10 (dk_at dksJ6_vectorizedMismatch_6 10 rfl rfl)
theorem dJ6_vectorizedMismatch_152 : decode cJ6_vectorizedMismatch 152 = .ok (.iload 11, 2) := dk_21 11 (dk_at dksJ6_vectorizedMismatch_6 12 rfl rfl)
theorem dJ6_vectorizedMismatch_154 : decode cJ6_vectorizedMismatch 154 = .ok (.if_icmp .lt 104, 3) := dk_161 0 104 (dk_at dksJ6_vectorizedMismatch_6 14 rfl rfl)
theorem dJ6_vectorizedMismatch_157 : decode cJ6_vectorizedMismatch 157 = .ok (.iload 9, 2) := dk_21 9 (dk_at dksJ6_vectorizedMismatch_6 17 rfl rfl)
theorem dJ6_vectorizedMismatch_159 : decode cJ6_vectorizedMismatch 159 = .ok (.i2l, 1) := dk_133 (dk_at dksJ6_vectorizedMismatch_6 19 rfl rfl)
theorem dJ6_vectorizedMismatch_160 : decode cJ6_vectorizedMismatch 160 = .ok (.getstatic 20, 3) := dk_178 0 20 (dk_at dksJ6_vectorizedMismatch_6 20 rfl rfl)
theorem dJ6_vectorizedMismatch_163 : decode cJ6_vectorizedMismatch 163 = .ok (.lshl, 1) := dk_121 (dk_at dksJ6_vectorizedMismatch_6 23 rfl rfl)
theorem dJ6_vectorizedMismatch_164 : decode cJ6_vectorizedMismatch 164 = .ok (.lstore 12, 2) := dk_55 12 (dk_at dksJ6_vectorizedMismatch_7 0 rfl rfl)
theorem dJ6_vectorizedMismatch_166 : decode cJ6_vectorizedMismatch 166 = .ok (.getstatic 26, 3) := dk_178 0 26 (dk_at dksJ6_vectorizedMismatch_7 2 rfl rfl)
theorem dJ6_vectorizedMismatch_169 : decode cJ6_vectorizedMismatch 169 = .ok (.aload_n 0, 1) := dk_42 (dk_at dksJ6_vectorizedMismatch_7 5 rfl rfl)
theorem dJ6_vectorizedMismatch_170 : decode cJ6_vectorizedMismatch 170 = .ok (.lload_n 1, 1) := dk_31 (dk_at dksJ6_vectorizedMismatch_7 6 rfl rfl)
theorem dJ6_vectorizedMismatch_171 : decode cJ6_vectorizedMismatch 171 = .ok (.lload 12, 2) := dk_22 12 (dk_at dksJ6_vectorizedMismatch_7 7 rfl rfl)
theorem dJ6_vectorizedMismatch_173 : decode cJ6_vectorizedMismatch 173 = .ok (.ladd, 1) := dk_97 (dk_at dksJ6_vectorizedMismatch_7 9 rfl rfl)
theorem dJ6_vectorizedMismatch_174 : decode cJ6_vectorizedMismatch 174 = .ok (.invokevirtual 54, 3) := dk_182 0 54 (dk_at dksJ6_vectorizedMismatch_7 10 rfl rfl)
theorem dJ6_vectorizedMismatch_177 : decode cJ6_vectorizedMismatch 177 = .ok (.istore 14, 2) := dk_54 14 (dk_at dksJ6_vectorizedMismatch_7 13 rfl rfl)
theorem dJ6_vectorizedMismatch_179 : decode cJ6_vectorizedMismatch 179 = .ok (.getstatic 26, 3) := dk_178 0 26 (dk_at dksJ6_vectorizedMismatch_7 15 rfl rfl)
theorem dJ6_vectorizedMismatch_182 : decode cJ6_vectorizedMismatch 182 = .ok (.aload_n 3, 1) := dk_45 (dk_at dksJ6_vectorizedMismatch_7 18 rfl rfl)
theorem dJ6_vectorizedMismatch_183 : decode cJ6_vectorizedMismatch 183 = .ok (.lload 4, 2) := dk_22 4 (dk_at dksJ6_vectorizedMismatch_7 19 rfl rfl)
theorem dJ6_vectorizedMismatch_185 : decode cJ6_vectorizedMismatch 185 = .ok (.lload 12, 2) := dk_22 12 (dk_at dksJ6_vectorizedMismatch_7 21 rfl rfl)
theorem dJ6_vectorizedMismatch_187 : decode cJ6_vectorizedMismatch 187 = .ok (.ladd, 1) := dk_97 (dk_at dksJ6_vectorizedMismatch_7 23 rfl rfl)
theorem dJ6_vectorizedMismatch_188 : decode cJ6_vectorizedMismatch 188 = .ok (.invokevirtual 54, 3) := dk_182 0 54 (dk_at dksJ6_vectorizedMismatch_8 0 rfl rfl)
theorem dJ6_vectorizedMismatch_191 : decode cJ6_vectorizedMismatch 191 = .ok (.istore 15, 2) := dk_54 15 (dk_at dksJ6_vectorizedMismatch_8 3 rfl rfl)
theorem dJ6_vectorizedMismatch_193 : decode cJ6_vectorizedMismatch 193 = .ok (.iload 14, 2) := dk_21 14 (dk_at dksJ6_vectorizedMismatch_8 5 rfl rfl)
theorem dJ6_vectorizedMismatch_195 : decode cJ6_vectorizedMismatch 195 = .ok (.iload 15, 2) := dk_21 15 (dk_at dksJ6_vectorizedMismatch_8 7 rfl rfl)
theorem dJ6_vectorizedMismatch_197 : decode cJ6_vectorizedMismatch 197 = .ok (.if_icmp .eq 54, 3) := dk_159 0 54 (dk_at dksJ6_vectorizedMismatch_8 9 rfl rfl)
theorem dJ6_vectorizedMismatch_200 : decode cJ6_vectorizedMismatch 200 = .ok (.iload 14, 2) := dk_21 14 (dk_at dksJ6_vectorizedMismatch_8 12 rfl rfl)
theorem dJ6_vectorizedMismatch_202 : decode cJ6_vectorizedMismatch 202 = .ok (.iload 15, 2) := dk_21 15 (dk_at dksJ6_vectorizedMismatch_8 14 rfl rfl)
theorem dJ6_vectorizedMismatch_204 : decode cJ6_vectorizedMismatch 204 = .ok (.ixor, 1) := dk_130 (dk_at dksJ6_vectorizedMismatch_8 16 rfl rfl)
theorem dJ6_vectorizedMismatch_205 : decode cJ6_vectorizedMismatch 205 = .ok (.istore 16, 2) := dk_54 16 (dk_at dksJ6_vectorizedMismatch_8 17 rfl rfl)
theorem dJ6_vectorizedMismatch_207 : decode cJ6_vectorizedMismatch 207 = .ok (.getstatic 36, 3) := dk_178 0 36 (dk_at dksJ6_vectorizedMismatch_8 19 rfl rfl)
theorem dJ6_vectorizedMismatch_210 : decode cJ6_vectorizedMismatch 210 = .ok (.ifCond .eq 18, 3) := dk_153 0 18 (dk_at dksJ6_vectorizedMismatch_9 0 rfl rfl)
theorem dJ6_vectorizedMismatch_213 : decode cJ6_vectorizedMismatch 213 = .ok (.iload 16, 2) := dk_21 16 (dk_at dksJ6_vectorizedMismatch_9 3 rfl rfl)
theorem dJ6_vectorizedMismatch_215 : decode cJ6_vectorizedMismatch 215 = .ok (.invokestatic 58, 3) := dk_184 0 58 (dk_at dksJ6_vectorizedMismatch_9 5 rfl rfl)
theorem dJ6_vectorizedMismatch_218 : decode cJ6_vectorizedMismatch 218 = .ok (.getstatic 46, 3) := dk_178 0 46 (dk_at dksJ6_vectorizedMismatch_9 8 rfl rfl)
theorem dJ6_vectorizedMismatch_221 : decode cJ6_vectorizedMismatch 221 = .ok (.iload 7, 2) := dk_21 7 (dk_at dksJ6_vectorizedMismatch_9 11 rfl rfl)
theorem dJ6_vectorizedMismatch_223 : decode cJ6_vectorizedMismatch 223 = .ok (.iadd, 1) := dk_96 (dk_at dksJ6_vectorizedMismatch_9 13 rfl rfl)
theorem dJ6_vectorizedMismatch_224 : decode cJ6_vectorizedMismatch 224 = .ok (.ishr, 1) := dk_122 (dk_at dksJ6_vectorizedMismatch_9 14 rfl rfl)
theorem dJ6_vectorizedMismatch_225 : decode cJ6_vectorizedMismatch 225 = .ok (.goto 15, 3) := dk_167 0 15 (dk_at dksJ6_vectorizedMismatch_9 15 rfl rfl)
theorem dJ6_vectorizedMismatch_228 : decode cJ6_vectorizedMismatch 228 = .ok (.iload 16, 2) := dk_21 16 (dk_at dksJ6_vectorizedMismatch_9 18 rfl rfl)
theorem dJ6_vectorizedMismatch_230 : decode cJ6_vectorizedMismatch 230 = .ok (.invokestatic 11, 3) := dk_184 0 11 (dk_at dksJ6_vectorizedMismatch_9 20 rfl rfl)
theorem dJ6_vectorizedMismatch_233 : decode cJ6_vectorizedMismatch 233 = .ok (.getstatic 46, 3) := dk_178 0 46 (dk_at dksJ6_vectorizedMismatch_10 0 rfl rfl)
theorem dJ6_vectorizedMismatch_236 : decode cJ6_vectorizedMismatch 236 = .ok (.iload 7, 2) := dk_21 7 (dk_at dksJ6_vectorizedMismatch_10 3 rfl rfl)
theorem dJ6_vectorizedMismatch_238 : decode cJ6_vectorizedMismatch 238 = .ok (.iadd, 1) := dk_96 (dk_at dksJ6_vectorizedMismatch_10 5 rfl rfl)
theorem dJ6_vectorizedMismatch_239 : decode cJ6_vectorizedMismatch 239 = .ok (.ishr, 1) := dk_122 (dk_at dksJ6_vectorizedMismatch_10 6 rfl rfl)
theorem dJ6_vectorizedMismatch_240 : decode cJ6_vectorizedMismatch 240 = .ok (.istore 17, 2) := dk_54 17 (dk_at dksJ6_vectorizedMismatch_10 7 rfl rfl)
theorem dJ6_vectorizedMismatch_242 : decode cJ6_vectorizedMismatch 242 = .ok (.iload 9, 2) := dk_21 9 (dk_at dksJ6_vectorizedMismatch_10 9 rfl rfl)
theorem dJ6_vectorizedMismatch_244 : decode cJ6_vectorizedMismatch 244 = .ok (.iload 8, 2) := dk_21 8 (dk_at dksJ6_vectorizedMismatch_10 11 rfl rfl)
theorem dJ6_vectorizedMismatch_246 : decode cJ6_vectorizedMismatch 246 = .ok (.ishl, 1) := dk_120 (dk_at dksJ6_vectorizedMismatch_10 13 rfl rfl)
theorem dJ6_vectorizedMismatch_247 : decode cJ6_vectorizedMismatch 247 = .ok (.iload 17, 2) := dk_21 17 (dk_at dksJ6_vectorizedMismatch_10 14 rfl rfl)
theorem dJ6_vectorizedMismatch_249 : decode cJ6_vectorizedMismatch 249 = .ok (.iadd, 1) := dk_96 (dk_at dksJ6_vectorizedMismatch_10 16 rfl rfl)
theorem dJ6_vectorizedMismatch_250 : decode cJ6_vectorizedMismatch 250 = .ok (.ireturn, 1) := dk_172 (dk_at dksJ6_vectorizedMismatch_10 17 rfl rfl)
theorem dJ6_vectorizedMismatch_251 : decode cJ6_vectorizedMismatch 251 = .ok (.iload 10, 2) := dk_21 10 (dk_at dksJ6_vectorizedMismatch_10 18 rfl rfl)
theorem dJ6_vectorizedMismatch_253 : decode cJ6_vectorizedMismatch 253 = .ok (.iload 11, 2) := dk_21 11 (dk_at dksJ6_vectorizedMismatch_10 20 rfl rfl)
theorem dJ6_vectorizedMismatch_255 : decode cJ6_vectorizedMismatch 255 = .ok (.isub, 1) := dk_100 (dk_at dksJ6_vectorizedMismatch_10 22 rfl rfl)
theorem dJ6_vectorizedMismatch_256 : decode cJ6_vectorizedMismatch 256 = .ok (.istore 10, 2) := dk_54 10 (dk_at dksJ6_vectorizedMismatch_11 0 rfl rfl)
theorem dJ6_vectorizedMismatch_258 : decode cJ6_vectorizedMismatch 258 = .ok (.iload 10, 2) := dk_21 10 (dk_at dksJ6_vectorizedMismatch_11 2 rfl rfl)
theorem dJ6_vectorizedMismatch_260 : decode cJ6_vectorizedMismatch 260 = .ok (.iconst (-1), 1) := dk_2 (dk_at dksJ6_vectorizedMismatch_11 4 rfl rfl)
theorem dJ6_vectorizedMismatch_261 : decode cJ6_vectorizedMismatch 261 = .ok (.ixor, 1) := dk_130 (dk_at dksJ6_vectorizedMismatch_11 5 rfl rfl)
theorem dJ6_vectorizedMismatch_262 : decode cJ6_vectorizedMismatch 262 = .ok (.ireturn, 1) := dk_172 (dk_at dksJ6_vectorizedMismatch_11 6 rfl rfl)
theorem dJ6_vectorizedMismatch_263 : decode cJ6_vectorizedMismatch 263 = .ok (.iload 10, 2) := dk_21 10 (dk_at dksJ6_vectorizedMismatch_11 7 rfl rfl)
theorem dJ6_vectorizedMismatch_265 : decode cJ6_vectorizedMismatch 265 = .ok (.iconst (-1), 1) := dk_2 (dk_at dksJ6_vectorizedMismatch_11 9 rfl rfl)
theorem dJ6_vectorizedMismatch_266 : decode cJ6_vectorizedMismatch 266 = .ok (.ixor, 1) := dk_130 (dk_at dksJ6_vectorizedMismatch_11 10 rfl rfl)
theorem dJ6_vectorizedMismatch_267 : decode cJ6_vectorizedMismatch 267 = .ok (.ireturn, 1) := dk_172 (dk_at dksJ6_vectorizedMismatch_11 11 rfl rfl)
theorem q111 : (Jvm.Cond.initialized "jdk/internal/util/ArraysSupport") ∈ lw_all := lw_g (lw_at lw_m1 10 rfl) rfl
theorem q271 : (Jvm.Cond.static ({ cls := "jdk/internal/util/ArraysSupport", name := "newLength", desc := "(III)I" } : Jvm.MethodName)) ∈ lw_all := lw_g (lw_at lw_m1 170 rfl) rfl
theorem q272 : (Jvm.Cond.code ({ cls := "jdk/internal/util/ArraysSupport", name := "newLength", desc := "(III)I" } : Jvm.MethodName) prog_85_method_27_code (4 : Nat) (Option.some Jvm.ClassFile.FieldType.int)) ∈ lw_all := lw_g (lw_at lw_m1 171 rfl) rfl
theorem q273 : (Jvm.Cond.methodLink "jdk/internal/util/ArraysSupport" (194 : Nat) ({ cls := "java/lang/Math", name := "max", desc := "(II)I" } : Jvm.MethodName)) ∈ lw_all := lw_g (lw_at lw_m1 172 rfl) rfl
theorem q276 : (Jvm.Cond.constant "jdk/internal/util/ArraysSupport" (200 : Nat) (2147483639 : Int32)) ∈ lw_all := lw_g (lw_at lw_m1 175 rfl) rfl
theorem q277 : (Jvm.Cond.methodLink "jdk/internal/util/ArraysSupport" (201 : Nat) ({ cls := "jdk/internal/util/ArraysSupport", name := "hugeLength", desc := "(II)I" } : Jvm.MethodName)) ∈ lw_all := lw_g (lw_at lw_m1 176 rfl) rfl
theorem q278 : (Jvm.Cond.static ({ cls := "jdk/internal/util/ArraysSupport", name := "hugeLength", desc := "(II)I" } : Jvm.MethodName)) ∈ lw_all := lw_g (lw_at lw_m1 177 rfl) rfl
theorem q279 : (Jvm.Cond.code ({ cls := "jdk/internal/util/ArraysSupport", name := "hugeLength", desc := "(II)I" } : Jvm.MethodName) prog_85_method_28_code (3 : Nat) (Option.some Jvm.ClassFile.FieldType.int)) ∈ lw_all := lw_g (lw_at lw_m1 178 rfl) rfl
theorem q756 : (Jvm.Cond.static ({ cls := "jdk/internal/util/ArraysSupport", name := "mismatch", desc := "([I[II)I" } : Jvm.MethodName)) ∈ lw_all := lw_g (lw_at lw_m3 175 rfl) rfl
theorem q757 : (Jvm.Cond.code ({ cls := "jdk/internal/util/ArraysSupport", name := "mismatch", desc := "([I[II)I" } : Jvm.MethodName) prog_85_method_19_code (4 : Nat) (Option.some Jvm.ClassFile.FieldType.int)) ∈ lw_all := lw_g (lw_at lw_m3 176 rfl) rfl
theorem q758 : (Jvm.Cond.fieldLink "jdk/internal/util/ArraysSupport" (144 : Nat) "jdk/internal/misc/Unsafe" "ARRAY_INT_BASE_OFFSET" "I") ∈ lw_all := lw_g (lw_at lw_m3 177 rfl) rfl
theorem q760 : (Jvm.Cond.fieldLink "jdk/internal/util/ArraysSupport" (51 : Nat) "jdk/internal/util/ArraysSupport" "LOG2_ARRAY_INT_INDEX_SCALE" "I") ∈ lw_all := lw_g (lw_at lw_m3 179 rfl) rfl
theorem q761 : (Jvm.Cond.laysStatic "jdk/internal/util/ArraysSupport" "LOG2_ARRAY_INT_INDEX_SCALE" "I") ∈ lw_tbl := lw_at lw_m3 180 rfl
theorem q762 : (Jvm.Cond.methodLink "jdk/internal/util/ArraysSupport" (122 : Nat) ({ cls := "jdk/internal/util/ArraysSupport", name := "vectorizedMismatch", desc := "(Ljava/lang/Object;JLjava/lang/Object;JII)I" } : Jvm.MethodName)) ∈ lw_all := lw_g (lw_at lw_m3 181 rfl) rfl
theorem q763 : (Jvm.Cond.static ({ cls := "jdk/internal/util/ArraysSupport", name := "vectorizedMismatch", desc := "(Ljava/lang/Object;JLjava/lang/Object;JII)I" } : Jvm.MethodName)) ∈ lw_all := lw_g (lw_at lw_m3 182 rfl) rfl
theorem q764 : (Jvm.Cond.code ({ cls := "jdk/internal/util/ArraysSupport", name := "vectorizedMismatch", desc := "(Ljava/lang/Object;JLjava/lang/Object;JII)I" } : Jvm.MethodName) prog_85_method_3_code (19 : Nat) (Option.some Jvm.ClassFile.FieldType.int)) ∈ lw_all := lw_g (lw_at lw_m3 183 rfl) rfl
theorem q765 : (Jvm.Cond.fieldLink "jdk/internal/util/ArraysSupport" (20 : Nat) "jdk/internal/util/ArraysSupport" "LOG2_ARRAY_LONG_INDEX_SCALE" "I") ∈ lw_all := lw_g (lw_at lw_m3 184 rfl) rfl
theorem q766 : (Jvm.Cond.laysStatic "jdk/internal/util/ArraysSupport" "LOG2_ARRAY_LONG_INDEX_SCALE" "I") ∈ lw_tbl := lw_at lw_m3 185 rfl
theorem q767 : (Jvm.Cond.fieldLink "jdk/internal/util/ArraysSupport" (26 : Nat) "jdk/internal/util/ArraysSupport" "U" "Ljdk/internal/misc/Unsafe;") ∈ lw_all := lw_g (lw_at lw_m3 186 rfl) rfl
theorem q768 : (Jvm.Cond.laysStatic "jdk/internal/util/ArraysSupport" "U" "Ljdk/internal/misc/Unsafe;") ∈ lw_tbl := lw_at lw_m3 187 rfl
theorem q769 : (Jvm.Cond.methodLink "jdk/internal/util/ArraysSupport" (30 : Nat) ({ cls := "jdk/internal/misc/Unsafe", name := "getLongUnaligned", desc := "(Ljava/lang/Object;J)J" } : Jvm.MethodName)) ∈ lw_all := lw_g (lw_at lw_m3 188 rfl) rfl
theorem q821 : (Jvm.Cond.fieldLink "jdk/internal/util/ArraysSupport" (36 : Nat) "jdk/internal/util/ArraysSupport" "BIG_ENDIAN" "Z") ∈ lw_all := lw_g (lw_at lw_m4 0 rfl) rfl
theorem q822 : (Jvm.Cond.laysStatic "jdk/internal/util/ArraysSupport" "BIG_ENDIAN" "Z") ∈ lw_tbl := lw_at lw_m4 1 rfl
theorem q823 : (Jvm.Cond.methodLink "jdk/internal/util/ArraysSupport" (40 : Nat) ({ cls := "java/lang/Long", name := "numberOfLeadingZeros", desc := "(J)I" } : Jvm.MethodName)) ∈ lw_all := lw_g (lw_at lw_m4 2 rfl) rfl
theorem q830 : (Jvm.Cond.fieldLink "jdk/internal/util/ArraysSupport" (46 : Nat) "jdk/internal/util/ArraysSupport" "LOG2_BYTE_BIT_SIZE" "I") ∈ lw_all := lw_g (lw_at lw_m4 9 rfl) rfl
theorem q831 : (Jvm.Cond.laysStatic "jdk/internal/util/ArraysSupport" "LOG2_BYTE_BIT_SIZE" "I") ∈ lw_tbl := lw_at lw_m4 10 rfl
theorem q832 : (Jvm.Cond.methodLink "jdk/internal/util/ArraysSupport" (49 : Nat) ({ cls := "java/lang/Long", name := "numberOfTrailingZeros", desc := "(J)I" } : Jvm.MethodName)) ∈ lw_all := lw_g (lw_at lw_m4 11 rfl) rfl
theorem q838 : (Jvm.Cond.methodLink "jdk/internal/util/ArraysSupport" (54 : Nat) ({ cls := "jdk/internal/misc/Unsafe", name := "getIntUnaligned", desc := "(Ljava/lang/Object;J)I" } : Jvm.MethodName)) ∈ lw_all := lw_g (lw_at lw_m4 17 rfl) rfl
theorem q855 : (Jvm.Cond.methodLink "jdk/internal/util/ArraysSupport" (58 : Nat) ({ cls := "java/lang/Integer", name := "numberOfLeadingZeros", desc := "(I)I" } : Jvm.MethodName)) ∈ lw_all := lw_g (lw_at lw_m4 34 rfl) rfl
theorem q856 : (Jvm.Cond.methodLink "jdk/internal/util/ArraysSupport" (11 : Nat) ({ cls := "java/lang/Integer", name := "numberOfTrailingZeros", desc := "(I)I" } : Jvm.MethodName)) ∈ lw_all := lw_g (lw_at lw_m4 35 rfl) rfl
theorem q1607 : (Jvm.Cond.static ({ cls := "jdk/internal/util/ArraysSupport", name := "mismatch", desc := "([B[BI)I" } : Jvm.MethodName)) ∈ lw_all := lw_g (lw_at lw_m7 66 rfl) rfl
theorem q1608 : (Jvm.Cond.code ({ cls := "jdk/internal/util/ArraysSupport", name := "mismatch", desc := "([B[BI)I" } : Jvm.MethodName) prog_85_method_13_code (4 : Nat) (Option.some Jvm.ClassFile.FieldType.int)) ∈ lw_all := lw_g (lw_at lw_m7 67 rfl) rfl
theorem q1609 : (Jvm.Cond.fieldLink "jdk/internal/util/ArraysSupport" (126 : Nat) "jdk/internal/misc/Unsafe" "ARRAY_BYTE_BASE_OFFSET" "I") ∈ lw_all := lw_g (lw_at lw_m7 68 rfl) rfl
theorem q1611 : (Jvm.Cond.fieldLink "jdk/internal/util/ArraysSupport" (129 : Nat) "jdk/internal/util/ArraysSupport" "LOG2_ARRAY_BYTE_INDEX_SCALE" "I") ∈ lw_all := lw_g (lw_at lw_m7 70 rfl) rfl
theorem q1612 : (Jvm.Cond.laysStatic "jdk/internal/util/ArraysSupport" "LOG2_ARRAY_BYTE_INDEX_SCALE" "I") ∈ lw_tbl := lw_at lw_m7 71 rfl
/-! java/lang/Math -/
set_option maxRecDepth 100000
def RJ7 : String := "java/lang/Math"
theorem q112 : (Jvm.Cond.initialized "java/lang/Math") ∈ lw_all := lw_g (lw_at lw_m1 11 rfl) rfl
theorem q274 : (Jvm.Cond.static ({ cls := "java/lang/Math", name := "max", desc := "(II)I" } : Jvm.MethodName)) ∈ lw_all := lw_g (lw_at lw_m1 173 rfl) rfl
theorem q275 : (Jvm.Cond.code ({ cls := "java/lang/Math", name := "max", desc := "(II)I" } : Jvm.MethodName) prog_33_method_65_code (2 : Nat) (Option.some Jvm.ClassFile.FieldType.int)) ∈ lw_all := lw_g (lw_at lw_m1 174 rfl) rfl
theorem q330 : (Jvm.Cond.static ({ cls := "java/lang/Math", name := "min", desc := "(II)I" } : Jvm.MethodName)) ∈ lw_all := lw_g (lw_at lw_m1 229 rfl) rfl
theorem q331 : (Jvm.Cond.code ({ cls := "java/lang/Math", name := "min", desc := "(II)I" } : Jvm.MethodName) prog_33_method_69_code (2 : Nat) (Option.some Jvm.ClassFile.FieldType.int)) ∈ lw_all := lw_g (lw_at lw_m1 230 rfl) rfl
/-! java/util/Arrays -/
set_option maxRecDepth 100000
def RJ8 : String := "java/util/Arrays"
abbrev cJ8_copyOf : ByteArray := prog_53_method_119_code
def yJ8_copyOf : MethodName := ⟨RJ8, "copyOf", "([Ljava/lang/Object;I)[Ljava/lang/Object;"⟩
def dkwJ8_copyOf_0 : List UInt8 := [42, 27, 42, 182, 0, 86, 184, 1, 44, 176]
abbrev dktJ8_copyOf_0 : List UInt8 := dkwJ8_copyOf_0 ++ []
theorem dksJ8_copyOf_0 : cJ8_copyOf.data.toList.drop 0 = dktJ8_copyOf_0 := by decide +kernel
theorem dJ8_copyOf_0 : decode cJ8_copyOf 0 = .ok (.aload_n 0, 1) := dk_42 (dk_at dksJ8_copyOf_0 0 rfl rfl)
theorem dJ8_copyOf_1 : decode cJ8_copyOf 1 = .ok (.iload_n 1, 1) := dk_27 (dk_at dksJ8_copyOf_0 1 rfl rfl)
theorem dJ8_copyOf_2 : decode cJ8_copyOf 2 = .ok (.aload_n 0, 1) := dk_42 (dk_at dksJ8_copyOf_0 2 rfl rfl)
theorem dJ8_copyOf_3 : decode cJ8_copyOf 3 = .ok (.invokevirtual 86, 3) := dk_182 0 86 (dk_at dksJ8_copyOf_0 3 rfl rfl)
theorem dJ8_copyOf_6 : decode cJ8_copyOf 6 = .ok (.invokestatic 300, 3) := dk_184 1 44 (dk_at dksJ8_copyOf_0 6 rfl rfl)
theorem dJ8_copyOf_9 : decode cJ8_copyOf 9 = .ok (.areturn, 1) := dk_176 (dk_at dksJ8_copyOf_0 9 rfl rfl)
abbrev cJ8_copyOf_2 : ByteArray := prog_53_method_120_code
def yJ8_copyOf_2 : MethodName := ⟨RJ8, "copyOf", "([Ljava/lang/Object;ILjava/lang/Class;)[Ljava/lang/Object;"⟩
def dkwJ8_copyOf_2_1 : List UInt8 := [78, 42, 3, 45, 3, 42, 190, 27, 184, 1, 48, 184, 0, 150, 45, 176]
abbrev dktJ8_copyOf_2_1 : List UInt8 := dkwJ8_copyOf_2_1 ++ []
def dkwJ8_copyOf_2_0 : List UInt8 := [44, 18, 110, 166, 0, 10, 27, 189, 0, 2, 167, 0, 14, 44, 182, 0, 90, 27, 184, 0, 95, 192, 0, 110]
abbrev dktJ8_copyOf_2_0 : List UInt8 := dkwJ8_copyOf_2_0 ++ dktJ8_copyOf_2_1
theorem dksJ8_copyOf_2_0 : cJ8_copyOf_2.data.toList.drop 0 = dktJ8_copyOf_2_0 := by decide +kernel
theorem dksJ8_copyOf_2_1 : cJ8_copyOf_2.data.toList.drop 24 = dktJ8_copyOf_2_1 := dk_seg dksJ8_copyOf_2_0 24 rfl rfl
theorem dJ8_copyOf_2_0 : decode cJ8_copyOf_2 0 = .ok (.aload_n 2, 1) := dk_44 (dk_at dksJ8_copyOf_2_0 0 rfl rfl)
theorem dJ8_copyOf_2_1 : decode cJ8_copyOf_2 1 = .ok (.ldc 110, 2) := dk_18 110 (dk_at dksJ8_copyOf_2_0 1 rfl rfl)
theorem dJ8_copyOf_2_3 : decode cJ8_copyOf_2 3 = .ok (.if_acmp .ne 10, 3) := dk_166 0 10 (dk_at dksJ8_copyOf_2_0 3 rfl rfl)
theorem dJ8_copyOf_2_6 : decode cJ8_copyOf_2 6 = .ok (.iload_n 1, 1) := dk_27 (dk_at dksJ8_copyOf_2_0 6 rfl rfl)
theorem dJ8_copyOf_2_7 : decode cJ8_copyOf_2 7 = .ok (.anewarray 2, 3) := dk_189 0 2 (dk_at dksJ8_copyOf_2_0 7 rfl rfl)
theorem dJ8_copyOf_2_10 : decode cJ8_copyOf_2 10 = .ok (.goto 14, 3) := dk_167 0 14 (dk_at dksJ8_copyOf_2_0 10 rfl rfl)
theorem dJ8_copyOf_2_13 : decode cJ8_copyOf_2 13 = .ok (.aload_n 2, 1) := dk_44 (dk_at dksJ8_copyOf_2_0 13 rfl rfl)
theorem dJ8_copyOf_2_14 : decode cJ8_copyOf_2 14 = .ok (.invokevirtual 90, 3) := dk_182 0 90 (dk_at dksJ8_copyOf_2_0 14 rfl rfl)
theorem dJ8_copyOf_2_17 : decode cJ8_copyOf_2 17 = .ok (.iload_n 1, 1) := dk_27 (dk_at dksJ8_copyOf_2_0 17 rfl rfl)
theorem dJ8_copyOf_2_18 : decode cJ8_copyOf_2 18 = .ok (.invokestatic 95, 3) := dk_184 0 95 (dk_at dksJ8_copyOf_2_0 18 rfl rfl)
theorem dJ8_copyOf_2_21 : decode cJ8_copyOf_2 21 = .ok (.checkcast 110, 3) := dk_192 0 110 (dk_at dksJ8_copyOf_2_0 21 rfl rfl)
theorem dJ8_copyOf_2_24 : decode cJ8_copyOf_2 24 = .ok (.astore_n 3, 1) := dk_78 (dk_at dksJ8_copyOf_2_1 0 rfl rfl)
theorem dJ8_copyOf_2_25 : decode cJ8_copyOf_2 25 = .ok (.aload_n 0, 1) := dk_42 (dk_at dksJ8_copyOf_2_1 1 rfl rfl)
theorem dJ8_copyOf_2_26 : decode cJ8_copyOf_2 26 = .ok (.iconst 0, 1) := dk_3 (dk_at dksJ8_copyOf_2_1 2 rfl rfl)
theorem dJ8_copyOf_2_27 : decode cJ8_copyOf_2 27 = .ok (.aload_n 3, 1) := dk_45 (dk_at dksJ8_copyOf_2_1 3 rfl rfl)
theorem dJ8_copyOf_2_28 : decode cJ8_copyOf_2 28 = .ok (.iconst 0, 1) := dk_3 (dk_at dksJ8_copyOf_2_1 4 rfl rfl)
theorem dJ8_copyOf_2_29 : decode cJ8_copyOf_2 29 = .ok (.aload_n 0, 1) := dk_42 (dk_at dksJ8_copyOf_2_1 5 rfl rfl)
theorem dJ8_copyOf_2_30 : decode cJ8_copyOf_2 30 = .ok (.arraylength, 1) := dk_190 (dk_at dksJ8_copyOf_2_1 6 rfl rfl)
theorem dJ8_copyOf_2_31 : decode cJ8_copyOf_2 31 = .ok (.iload_n 1, 1) := dk_27 (dk_at dksJ8_copyOf_2_1 7 rfl rfl)
theorem dJ8_copyOf_2_32 : decode cJ8_copyOf_2 32 = .ok (.invokestatic 304, 3) := dk_184 1 48 (dk_at dksJ8_copyOf_2_1 8 rfl rfl)
theorem dJ8_copyOf_2_35 : decode cJ8_copyOf_2 35 = .ok (.invokestatic 150, 3) := dk_184 0 150 (dk_at dksJ8_copyOf_2_1 11 rfl rfl)
theorem dJ8_copyOf_2_38 : decode cJ8_copyOf_2 38 = .ok (.aload_n 3, 1) := dk_45 (dk_at dksJ8_copyOf_2_1 14 rfl rfl)
theorem dJ8_copyOf_2_39 : decode cJ8_copyOf_2 39 = .ok (.areturn, 1) := dk_176 (dk_at dksJ8_copyOf_2_1 15 rfl rfl)
abbrev cJ8_copyOf_4 : ByteArray := prog_53_method_124_code
def yJ8_copyOf_4 : MethodName := ⟨RJ8, "copyOf", "([JI)[J"⟩
def dkwJ8_copyOf_4_1 : List UInt8 := [27, 184, 1, 48, 184, 0, 150, 44, 176]
abbrev dktJ8_copyOf_4_1 : List UInt8 := dkwJ8_copyOf_4_1 ++ []
def dkwJ8_copyOf_4_0 : List UInt8 := [27, 42, 190, 160, 0, 11, 42, 182, 1, 63, 192, 1, 64, 176, 27, 188, 11, 77, 42, 3, 44, 3, 42, 190]
abbrev dktJ8_copyOf_4_0 : List UInt8 := dkwJ8_copyOf_4_0 ++ dktJ8_copyOf_4_1
theorem dksJ8_copyOf_4_0 : cJ8_copyOf_4.data.toList.drop 0 = dktJ8_copyOf_4_0 := by decide +kernel
theorem dksJ8_copyOf_4_1 : cJ8_copyOf_4.data.toList.drop 24 = dktJ8_copyOf_4_1 := dk_seg dksJ8_copyOf_4_0 24 rfl rfl
theorem dJ8_copyOf_4_0 : decode cJ8_copyOf_4 0 = .ok (.iload_n 1, 1) := dk_27 (dk_at dksJ8_copyOf_4_0 0 rfl rfl)
theorem dJ8_copyOf_4_1 : decode cJ8_copyOf_4 1 = .ok (.aload_n 0, 1) := dk_42 (dk_at dksJ8_copyOf_4_0 1 rfl rfl)
theorem dJ8_copyOf_4_2 : decode cJ8_copyOf_4 2 = .ok (.arraylength, 1) := dk_190 (dk_at dksJ8_copyOf_4_0 2 rfl rfl)
theorem dJ8_copyOf_4_3 : decode cJ8_copyOf_4 3 = .ok (.if_icmp .ne 11, 3) := dk_160 0 11 (dk_at dksJ8_copyOf_4_0 3 rfl rfl)
theorem dJ8_copyOf_4_6 : decode cJ8_copyOf_4 6 = .ok (.aload_n 0, 1) := dk_42 (dk_at dksJ8_copyOf_4_0 6 rfl rfl)
theorem dJ8_copyOf_4_7 : decode cJ8_copyOf_4 7 = .ok (.invokevirtual 319, 3) := dk_182 1 63 (dk_at dksJ8_copyOf_4_0 7 rfl rfl)
theorem dJ8_copyOf_4_10 : decode cJ8_copyOf_4 10 = .ok (.checkcast 320, 3) := dk_192 1 64 (dk_at dksJ8_copyOf_4_0 10 rfl rfl)
theorem dJ8_copyOf_4_13 : decode cJ8_copyOf_4 13 = .ok (.areturn, 1) := dk_176 (dk_at dksJ8_copyOf_4_0 13 rfl rfl)
theorem dJ8_copyOf_4_14 : decode cJ8_copyOf_4 14 = .ok (.iload_n 1, 1) := dk_27 (dk_at dksJ8_copyOf_4_0 14 rfl rfl)
theorem dJ8_copyOf_4_15 : decode cJ8_copyOf_4 15 = .ok (.newarray .long, 2) := dk_188_11 (dk_at dksJ8_copyOf_4_0 15 rfl rfl)
theorem dJ8_copyOf_4_17 : decode cJ8_copyOf_4 17 = .ok (.astore_n 2, 1) := dk_77 (dk_at dksJ8_copyOf_4_0 17 rfl rfl)
theorem dJ8_copyOf_4_18 : decode cJ8_copyOf_4 18 = .ok (.aload_n 0, 1) := dk_42 (dk_at dksJ8_copyOf_4_0 18 rfl rfl)
theorem dJ8_copyOf_4_19 : decode cJ8_copyOf_4 19 = .ok (.iconst 0, 1) := dk_3 (dk_at dksJ8_copyOf_4_0 19 rfl rfl)
theorem dJ8_copyOf_4_20 : decode cJ8_copyOf_4 20 = .ok (.aload_n 2, 1) := dk_44 (dk_at dksJ8_copyOf_4_0 20 rfl rfl)
theorem dJ8_copyOf_4_21 : decode cJ8_copyOf_4 21 = .ok (.iconst 0, 1) := dk_3 (dk_at dksJ8_copyOf_4_0 21 rfl rfl)
theorem dJ8_copyOf_4_22 : decode cJ8_copyOf_4 22 = .ok (.aload_n 0, 1) := dk_42 (dk_at dksJ8_copyOf_4_0 22 rfl rfl)
theorem dJ8_copyOf_4_23 : decode cJ8_copyOf_4 23 = .ok (.arraylength, 1) := dk_190 (dk_at dksJ8_copyOf_4_0 23 rfl rfl)
theorem dJ8_copyOf_4_24 : decode cJ8_copyOf_4 24 = .ok (.iload_n 1, 1) := dk_27 (dk_at dksJ8_copyOf_4_1 0 rfl rfl)
theorem dJ8_copyOf_4_25 : decode cJ8_copyOf_4 25 = .ok (.invokestatic 304, 3) := dk_184 1 48 (dk_at dksJ8_copyOf_4_1 1 rfl rfl)
theorem dJ8_copyOf_4_28 : decode cJ8_copyOf_4 28 = .ok (.invokestatic 150, 3) := dk_184 0 150 (dk_at dksJ8_copyOf_4_1 4 rfl rfl)
theorem dJ8_copyOf_4_31 : decode cJ8_copyOf_4 31 = .ok (.aload_n 2, 1) := dk_44 (dk_at dksJ8_copyOf_4_1 7 rfl rfl)
theorem dJ8_copyOf_4_32 : decode cJ8_copyOf_4 32 = .ok (.areturn, 1) := dk_176 (dk_at dksJ8_copyOf_4_1 8 rfl rfl)
abbrev cJ8_equals : ByteArray := prog_53_method_83_code
def yJ8_equals : MethodName := ⟨RJ8, "equals", "([I[I)Z"⟩
def dkwJ8_equals_1 : List UInt8 := [159, 0, 5, 3, 172, 42, 43, 28, 184, 0, 254, 156, 0, 7, 4, 167, 0, 4, 3, 172]
abbrev dktJ8_equals_1 : List UInt8 := dkwJ8_equals_1 ++ []
def dkwJ8_equals_0 : List UInt8 := [42, 43, 166, 0, 5, 4, 172, 42, 198, 0, 7, 43, 199, 0, 5, 3, 172, 42, 190, 61, 43, 190, 28]
abbrev dktJ8_equals_0 : List UInt8 := dkwJ8_equals_0 ++ dktJ8_equals_1
theorem dksJ8_equals_0 : cJ8_equals.data.toList.drop 0 = dktJ8_equals_0 := by decide +kernel
theorem dksJ8_equals_1 : cJ8_equals.data.toList.drop 23 = dktJ8_equals_1 := dk_seg dksJ8_equals_0 23 rfl rfl
theorem dJ8_equals_0 : decode cJ8_equals 0 = .ok (.aload_n 0, 1) := dk_42 (dk_at dksJ8_equals_0 0 rfl rfl)
theorem dJ8_equals_1 : decode cJ8_equals 1 = .ok (.aload_n 1, 1) := dk_43 (dk_at dksJ8_equals_0 1 rfl rfl)
theorem dJ8_equals_2 : decode cJ8_equals 2 = .ok (.if_acmp .ne 5, 3) := dk_166 0 5 (dk_at dksJ8_equals_0 2 rfl rfl)
theorem dJ8_equals_5 : decode cJ8_equals 5 = .ok (.iconst 1, 1) := dk_4 (dk_at dksJ8_equals_0 5 rfl rfl)
theorem dJ8_equals_6 : decode cJ8_equals 6 = .ok (.ireturn, 1) := dk_172 (dk_at dksJ8_equals_0 6 rfl rfl)
theorem dJ8_equals_7 : decode cJ8_equals 7 = .ok (.aload_n 0, 1) := dk_42 (dk_at dksJ8_equals_0 7 rfl rfl)
theorem dJ8_equals_8 : decode cJ8_equals 8 = .ok (.ifnull 7, 3) := dk_198 0 7 (dk_at dksJ8_equals_0 8 rfl rfl)
theorem dJ8_equals_11 : decode cJ8_equals 11 = .ok (.aload_n 1, 1) := dk_43 (dk_at dksJ8_equals_0 11 rfl rfl)
theorem dJ8_equals_12 : decode cJ8_equals 12 = .ok (.ifnonnull 5, 3) := dk_199 0 5 (dk_at dksJ8_equals_0 12 rfl rfl)
theorem dJ8_equals_15 : decode cJ8_equals 15 = .ok (.iconst 0, 1) := dk_3 (dk_at dksJ8_equals_0 15 rfl rfl)
theorem dJ8_equals_16 : decode cJ8_equals 16 = .ok (.ireturn, 1) := dk_172 (dk_at dksJ8_equals_0 16 rfl rfl)
theorem dJ8_equals_17 : decode cJ8_equals 17 = .ok (.aload_n 0, 1) := dk_42 (dk_at dksJ8_equals_0 17 rfl rfl)
theorem dJ8_equals_18 : decode cJ8_equals 18 = .ok (.arraylength, 1) := dk_190 (dk_at dksJ8_equals_0 18 rfl rfl)
theorem dJ8_equals_19 : decode cJ8_equals 19 = .ok (.istore_n 2, 1) := dk_61 (dk_at dksJ8_equals_0 19 rfl rfl)
theorem dJ8_equals_20 : decode cJ8_equals 20 = .ok (.aload_n 1, 1) := dk_43 (dk_at dksJ8_equals_0 20 rfl rfl)
theorem dJ8_equals_21 : decode cJ8_equals 21 = .ok (.arraylength, 1) := dk_190 (dk_at dksJ8_equals_0 21 rfl rfl)
theorem dJ8_equals_22 : decode cJ8_equals 22 = .ok (.iload_n 2, 1) := dk_28 (dk_at dksJ8_equals_0 22 rfl rfl)
theorem dJ8_equals_23 : decode cJ8_equals 23 = .ok (.if_icmp .eq 5, 3) := dk_159 0 5 (dk_at dksJ8_equals_1 0 rfl rfl)
theorem dJ8_equals_26 : decode cJ8_equals 26 = .ok (.iconst 0, 1) := dk_3 (dk_at dksJ8_equals_1 3 rfl rfl)
theorem dJ8_equals_27 : decode cJ8_equals 27 = .ok (.ireturn, 1) := dk_172 (dk_at dksJ8_equals_1 4 rfl rfl)
theorem dJ8_equals_28 : decode cJ8_equals 28 = .ok (.aload_n 0, 1) := dk_42 (dk_at dksJ8_equals_1 5 rfl rfl)
theorem dJ8_equals_29 : decode cJ8_equals 29 = .ok (.aload_n 1, 1) := dk_43 (dk_at dksJ8_equals_1 6 rfl rfl)
theorem dJ8_equals_30 : decode cJ8_equals 30 = .ok (.iload_n 2, 1) := dk_28 (dk_at dksJ8_equals_1 7 rfl rfl)
theorem dJ8_equals_31 : decode cJ8_equals 31 = .ok (.invokestatic 254, 3) := dk_184 0 254 (dk_at dksJ8_equals_1 8 rfl rfl)
theorem dJ8_equals_34 : decode cJ8_equals 34 = .ok (.ifCond .ge 7, 3) := dk_156 0 7 (dk_at dksJ8_equals_1 11 rfl rfl)
theorem dJ8_equals_37 : decode cJ8_equals 37 = .ok (.iconst 1, 1) := dk_4 (dk_at dksJ8_equals_1 14 rfl rfl)
theorem dJ8_equals_38 : decode cJ8_equals 38 = .ok (.goto 4, 3) := dk_167 0 4 (dk_at dksJ8_equals_1 15 rfl rfl)
theorem dJ8_equals_41 : decode cJ8_equals 41 = .ok (.iconst 0, 1) := dk_3 (dk_at dksJ8_equals_1 18 rfl rfl)
theorem dJ8_equals_42 : decode cJ8_equals 42 = .ok (.ireturn, 1) := dk_172 (dk_at dksJ8_equals_1 19 rfl rfl)
abbrev cJ8_fill : ByteArray := prog_53_method_103_code
def yJ8_fill : MethodName := ⟨RJ8, "fill", "([II)V"⟩
def dkwJ8_fill_0 : List UInt8 := [3, 61, 42, 190, 62, 28, 29, 162, 0, 13, 42, 28, 27, 79, 132, 2, 1, 167, 255, 244, 177]
abbrev dktJ8_fill_0 : List UInt8 := dkwJ8_fill_0 ++ []
theorem dksJ8_fill_0 : cJ8_fill.data.toList.drop 0 = dktJ8_fill_0 := by decide +kernel
theorem dJ8_fill_0 : decode cJ8_fill 0 = .ok (.iconst 0, 1) := dk_3 (dk_at dksJ8_fill_0 0 rfl rfl)
theorem dJ8_fill_1 : decode cJ8_fill 1 = .ok (.istore_n 2, 1) := dk_61 (dk_at dksJ8_fill_0 1 rfl rfl)
theorem dJ8_fill_2 : decode cJ8_fill 2 = .ok (.aload_n 0, 1) := dk_42 (dk_at dksJ8_fill_0 2 rfl rfl)
theorem dJ8_fill_3 : decode cJ8_fill 3 = .ok (.arraylength, 1) := dk_190 (dk_at dksJ8_fill_0 3 rfl rfl)
theorem dJ8_fill_4 : decode cJ8_fill 4 = .ok (.istore_n 3, 1) := dk_62 (dk_at dksJ8_fill_0 4 rfl rfl)
theorem dJ8_fill_5 : decode cJ8_fill 5 = .ok (.iload_n 2, 1) := dk_28 (dk_at dksJ8_fill_0 5 rfl rfl)
theorem dJ8_fill_6 : decode cJ8_fill 6 = .ok (.iload_n 3, 1) := dk_29 (dk_at dksJ8_fill_0 6 rfl rfl)
theorem dJ8_fill_7 : decode cJ8_fill 7 = .ok (.if_icmp .ge 13, 3) := dk_162 0 13 (dk_at dksJ8_fill_0 7 rfl rfl)
theorem dJ8_fill_10 : decode cJ8_fill 10 = .ok (.aload_n 0, 1) := dk_42 (dk_at dksJ8_fill_0 10 rfl rfl)
theorem dJ8_fill_11 : decode cJ8_fill 11 = .ok (.iload_n 2, 1) := dk_28 (dk_at dksJ8_fill_0 11 rfl rfl)
theorem dJ8_fill_12 : decode cJ8_fill 12 = .ok (.iload_n 1, 1) := dk_27 (dk_at dksJ8_fill_0 12 rfl rfl)
theorem dJ8_fill_13 : decode cJ8_fill 13 = .ok (.iastore, 1) := dk_79 (dk_at dksJ8_fill_0 13 rfl rfl)
theorem dJ8_fill_14 : decode cJ8_fill 14 = .ok (.iinc 2 1, 3) := dk_132 2 1 (dk_at dksJ8_fill_0 14 rfl rfl)
theorem dJ8_fill_17 : decode cJ8_fill 17 = .ok (.goto (-12), 3) := dk_167 255 244 (dk_at dksJ8_fill_0 17 rfl rfl)
theorem dJ8_fill_20 : decode cJ8_fill 20 = .ok (.return_, 1) := dk_177 (dk_at dksJ8_fill_0 20 rfl rfl)
theorem q113 : (Jvm.Cond.initialized "java/util/Arrays") ∈ lw_all := lw_g (lw_at lw_m1 12 rfl) rfl
theorem q281 : (Jvm.Cond.static ({ cls := "java/util/Arrays", name := "copyOf", desc := "([Ljava/lang/Object;I)[Ljava/lang/Object;" } : Jvm.MethodName)) ∈ lw_all := lw_g (lw_at lw_m1 180 rfl) rfl
theorem q282 : (Jvm.Cond.code ({ cls := "java/util/Arrays", name := "copyOf", desc := "([Ljava/lang/Object;I)[Ljava/lang/Object;" } : Jvm.MethodName) prog_53_method_119_code (2 : Nat) (Option.some (Jvm.ClassFile.FieldType.array (Jvm.ClassFile.FieldType.object "java/lang/Object")))) ∈ lw_all := lw_g (lw_at lw_m1 181 rfl) rfl
theorem q283 : (Jvm.Cond.methodLink "java/util/Arrays" (86 : Nat) ({ cls := "java/lang/Object", name := "getClass", desc := "()Ljava/lang/Class;" } : Jvm.MethodName)) ∈ lw_all := lw_g (lw_at lw_m1 182 rfl) rfl
theorem q323 : (Jvm.Cond.methodLink "java/util/Arrays" (300 : Nat) ({ cls := "java/util/Arrays", name := "copyOf", desc := "([Ljava/lang/Object;ILjava/lang/Class;)[Ljava/lang/Object;" } : Jvm.MethodName)) ∈ lw_all := lw_g (lw_at lw_m1 222 rfl) rfl
theorem q324 : (Jvm.Cond.static ({ cls := "java/util/Arrays", name := "copyOf", desc := "([Ljava/lang/Object;ILjava/lang/Class;)[Ljava/lang/Object;" } : Jvm.MethodName)) ∈ lw_all := lw_g (lw_at lw_m1 223 rfl) rfl
theorem q325 : (Jvm.Cond.code ({ cls := "java/util/Arrays", name := "copyOf", desc := "([Ljava/lang/Object;ILjava/lang/Class;)[Ljava/lang/Object;" } : Jvm.MethodName) prog_53_method_120_code (4 : Nat) (Option.some (Jvm.ClassFile.FieldType.array (Jvm.ClassFile.FieldType.object "java/lang/Object")))) ∈ lw_all := lw_g (lw_at lw_m1 224 rfl) rfl
theorem q326 : (Jvm.Cond.classLink "java/util/Arrays" (110 : Nat) "[Ljava/lang/Object;") ∈ lw_all := lw_g (lw_at lw_m1 225 rfl) rfl
theorem q328 : (Jvm.Cond.classLink "java/util/Arrays" (2 : Nat) "java/lang/Object") ∈ lw_all := lw_g (lw_at lw_m1 227 rfl) rfl
theorem q329 : (Jvm.Cond.methodLink "java/util/Arrays" (304 : Nat) ({ cls := "java/lang/Math", name := "min", desc := "(II)I" } : Jvm.MethodName)) ∈ lw_all := lw_g (lw_at lw_m1 228 rfl) rfl
theorem q332 : (Jvm.Cond.methodLink "java/util/Arrays" (150 : Nat) ({ cls := "java/lang/System", name := "arraycopy", desc := "(Ljava/lang/Object;ILjava/lang/Object;II)V" } : Jvm.MethodName)) ∈ lw_all := lw_g (lw_at lw_m1 231 rfl) rfl
theorem q440 : (Jvm.Cond.static ({ cls := "java/util/Arrays", name := "copyOf", desc := "([BI)[B" } : Jvm.MethodName)) ∈ lw_all := lw_g (lw_at lw_m2 99 rfl) rfl
theorem q441 : (Jvm.Cond.code ({ cls := "java/util/Arrays", name := "copyOf", desc := "([BI)[B" } : Jvm.MethodName) prog_53_method_121_code (3 : Nat) (Option.some (Jvm.ClassFile.FieldType.array Jvm.ClassFile.FieldType.byte))) ∈ lw_all := lw_g (lw_at lw_m2 100 rfl) rfl
theorem q442 : (Jvm.Cond.methodLink "java/util/Arrays" (310 : Nat) ({ cls := "[B", name := "clone", desc := "()Ljava/lang/Object;" } : Jvm.MethodName)) ∈ lw_all := lw_g (lw_at lw_m2 101 rfl) rfl
theorem q448 : (Jvm.Cond.classLink "java/util/Arrays" (311 : Nat) "[B") ∈ lw_all := lw_g (lw_at lw_m2 107 rfl) rfl
theorem q576 : (Jvm.Cond.static ({ cls := "java/util/Arrays", name := "copyOfRange", desc := "([BII)[B" } : Jvm.MethodName)) ∈ lw_all := lw_g (lw_at lw_m2 235 rfl) rfl
theorem q577 : (Jvm.Cond.code ({ cls := "java/util/Arrays", name := "copyOfRange", desc := "([BII)[B" } : Jvm.MethodName) prog_53_method_132_code (3 : Nat) (Option.some (Jvm.ClassFile.FieldType.array Jvm.ClassFile.FieldType.byte))) ∈ lw_all := lw_g (lw_at lw_m2 236 rfl) rfl
theorem q578 : (Jvm.Cond.methodLink "java/util/Arrays" (339 : Nat) ({ cls := "java/util/Arrays", name := "copyOfRangeByte", desc := "([BII)[B" } : Jvm.MethodName)) ∈ lw_all := lw_g (lw_at lw_m2 237 rfl) rfl
theorem q579 : (Jvm.Cond.static ({ cls := "java/util/Arrays", name := "copyOfRangeByte", desc := "([BII)[B" } : Jvm.MethodName)) ∈ lw_all := lw_g (lw_at lw_m2 238 rfl) rfl
theorem q580 : (Jvm.Cond.code ({ cls := "java/util/Arrays", name := "copyOfRangeByte", desc := "([BII)[B" } : Jvm.MethodName) prog_53_method_133_code (5 : Nat) (Option.some (Jvm.ClassFile.FieldType.array Jvm.ClassFile.FieldType.byte))) ∈ lw_all := lw_g (lw_at lw_m2 239 rfl) rfl
theorem q581 : (Jvm.Cond.methodLink "java/util/Arrays" (343 : Nat) ({ cls := "java/util/Arrays", name := "checkLength", desc := "(II)V" } : Jvm.MethodName)) ∈ lw_all := lw_g (lw_at lw_m3 0 rfl) rfl
theorem q582 : (Jvm.Cond.static ({ cls := "java/util/Arrays", name := "checkLength", desc := "(II)V" } : Jvm.MethodName)) ∈ lw_all := lw_g (lw_at lw_m3 1 rfl) rfl
theorem q583 : (Jvm.Cond.code ({ cls := "java/util/Arrays", name := "checkLength", desc := "(II)V" } : Jvm.MethodName) prog_53_method_131_code (2 : Nat) (Option.none : Option Jvm.ClassFile.FieldType)) ∈ lw_all := lw_g (lw_at lw_m3 2 rfl) rfl
theorem q584 : (Jvm.Cond.classLink "java/util/Arrays" (43 : Nat) "java/lang/IllegalArgumentException") ∈ lw_all := lw_g (lw_at lw_m3 3 rfl) rfl
theorem q593 : (Jvm.Cond.classLink "java/util/Arrays" (45 : Nat) "java/lang/StringBuilder") ∈ lw_all := lw_g (lw_at lw_m3 12 rfl) rfl
theorem q594 : (Jvm.Cond.methodLink "java/util/Arrays" (47 : Nat) ({ cls := "java/lang/StringBuilder", name := "<init>", desc := "()V" } : Jvm.MethodName)) ∈ lw_all := lw_g (lw_at lw_m3 13 rfl) rfl
theorem q595 : (Jvm.Cond.methodLink "java/util/Arrays" (54 : Nat) ({ cls := "java/lang/StringBuilder", name := "append", desc := "(I)Ljava/lang/StringBuilder;" } : Jvm.MethodName)) ∈ lw_all := lw_g (lw_at lw_m3 14 rfl) rfl
theorem q596 : (Jvm.Cond.stringRef "java/util/Arrays" (337 : Nat) " > ") ∈ lw_tbl := lw_at lw_m3 15 rfl
theorem q597 : (Jvm.Cond.methodLink "java/util/Arrays" (50 : Nat) ({ cls := "java/lang/StringBuilder", name := "append", desc := "(Ljava/lang/String;)Ljava/lang/StringBuilder;" } : Jvm.MethodName)) ∈ lw_all := lw_g (lw_at lw_m3 16 rfl) rfl
theorem q598 : (Jvm.Cond.methodLink "java/util/Arrays" (61 : Nat) ({ cls := "java/lang/StringBuilder", name := "toString", desc := "()Ljava/lang/String;" } : Jvm.MethodName)) ∈ lw_all := lw_g (lw_at lw_m3 17 rfl) rfl
theorem q599 : (Jvm.Cond.methodLink "java/util/Arrays" (65 : Nat) ({ cls := "java/lang/IllegalArgumentException", name := "<init>", desc := "(Ljava/lang/String;)V" } : Jvm.MethodName)) ∈ lw_all := lw_g (lw_at lw_m3 18 rfl) rfl
theorem q664 : (Jvm.Cond.static ({ cls := "java/util/Arrays", name := "copyOf", desc := "([JI)[J" } : Jvm.MethodName)) ∈ lw_all := lw_g (lw_at lw_m3 83 rfl) rfl
theorem q665 : (Jvm.Cond.code ({ cls := "java/util/Arrays", name := "copyOf", desc := "([JI)[J" } : Jvm.MethodName) prog_53_method_124_code (3 : Nat) (Option.some (Jvm.ClassFile.FieldType.array Jvm.ClassFile.FieldType.long))) ∈ lw_all := lw_g (lw_at lw_m3 84 rfl) rfl
theorem q666 : (Jvm.Cond.methodLink "java/util/Arrays" (319 : Nat) ({ cls := "[J", name := "clone", desc := "()Ljava/lang/Object;" } : Jvm.MethodName)) ∈ lw_all := lw_g (lw_at lw_m3 85 rfl) rfl
theorem q670 : (Jvm.Cond.classLink "java/util/Arrays" (320 : Nat) "[J") ∈ lw_all := lw_g (lw_at lw_m3 89 rfl) rfl
theorem q753 : (Jvm.Cond.static ({ cls := "java/util/Arrays", name := "equals", desc := "([I[I)Z" } : Jvm.MethodName)) ∈ lw_all := lw_g (lw_at lw_m3 172 rfl) rfl
theorem q754 : (Jvm.Cond.code ({ cls := "java/util/Arrays", name := "equals", desc := "([I[I)Z" } : Jvm.MethodName) prog_53_method_83_code (3 : Nat) (Option.some Jvm.ClassFile.FieldType.boolean)) ∈ lw_all := lw_g (lw_at lw_m3 173 rfl) rfl
theorem q755 : (Jvm.Cond.methodLink "java/util/Arrays" (254 : Nat) ({ cls := "jdk/internal/util/ArraysSupport", name := "mismatch", desc := "([I[II)I" } : Jvm.MethodName)) ∈ lw_all := lw_g (lw_at lw_m3 174 rfl) rfl
theorem q894 : (Jvm.Cond.static ({ cls := "java/util/Arrays", name := "fill", desc := "([II)V" } : Jvm.MethodName)) ∈ lw_all := lw_g (lw_at lw_m4 73 rfl) rfl
theorem q895 : (Jvm.Cond.code ({ cls := "java/util/Arrays", name := "fill", desc := "([II)V" } : Jvm.MethodName) prog_53_method_103_code (4 : Nat) (Option.none : Option Jvm.ClassFile.FieldType)) ∈ lw_all := lw_g (lw_at lw_m4 74 rfl) rfl
theorem q2241 : (Jvm.Cond.static ({ cls := "java/util/Arrays", name := "copyOfRange", desc := "([Ljava/lang/Object;IILjava/lang/Class;)[Ljava/lang/Object;" } : Jvm.MethodName)) ∈ lw_all := lw_g (lw_at lw_m9 220 rfl) rfl
theorem q2242 : (Jvm.Cond.code ({ cls := "java/util/Arrays", name := "copyOfRange", desc := "([Ljava/lang/Object;IILjava/lang/Class;)[Ljava/lang/Object;" } : Jvm.MethodName) prog_53_method_130_code (6 : Nat) (Option.some (Jvm.ClassFile.FieldType.array (Jvm.ClassFile.FieldType.object "java/lang/Object")))) ∈ lw_all := lw_g (lw_at lw_m9 221 rfl) rfl
/-! java/lang/Throwable -/
set_option maxRecDepth 100000
def RJ9 : String := "java/lang/Throwable"
def TJ9 : u_T := fun k => match k with
  | 0 => ("java/lang/Throwable", "cause", "Ljava/lang/Throwable;", false)
  | 1 => ("java/lang/Throwable", "stackTrace", "[Ljava/lang/StackTraceElement;", false)
  | 2 => ("java/lang/Throwable", "suppressedExceptions", "Ljava/util/List;", false)
  | 3 => ("java/lang/Throwable", "detailMessage", "Ljava/lang/String;", false)
  | _ => ("java/lang/Throwable", "backtrace", "Ljava/lang/Object;", false)
def tyJ9 : Nat → FieldType := fun k => match k with
  | 0 => .object "java/lang/Throwable"
  | 1 => .array (.object "java/lang/StackTraceElement")
  | 2 => .object "java/util/List"
  | 3 => .object "java/lang/String"
  | _ => .object "java/lang/Object"
abbrev wsJ90 : List Cond := u_ws RJ9 TJ9 5
theorem nmJ9 : ∀ a, a < 5 → ∀ b, b < 5 → a ≠ b → (TJ9 a).2.1 ≠ (TJ9 b).2.1 := by decide +kernel
theorem tyJ9_ok : ∀ k, k < 5 → parseFieldDescriptor (TJ9 k).2.2.1 = some (tyJ9 k) := by decide +kernel
abbrev cJ9_init_3 : ByteArray := prog_41_method_5_code
def yJ9_init_3 : MethodName := ⟨RJ9, "<init>", "(Ljava/lang/String;Ljava/lang/Throwable;ZZ)V"⟩
def dkwJ9_init_3_2 : List UInt8 := [44, 181, 0, 7, 29, 154, 0, 8, 42, 1, 181, 0, 24, 177]
abbrev dktJ9_init_3_2 : List UInt8 := dkwJ9_init_3_2 ++ []
def dkwJ9_init_3_1 : List UInt8 := [21, 4, 153, 0, 11, 42, 182, 0, 27, 87, 167, 0, 8, 42, 1, 181, 0, 17, 42, 43, 181, 0, 31, 42]
abbrev dktJ9_init_3_1 : List UInt8 := dkwJ9_init_3_1 ++ dktJ9_init_3_2
def dkwJ9_init_3_0 : List UInt8 := [42, 183, 0, 1, 42, 42, 181, 0, 7, 42, 178, 0, 13, 181, 0, 17, 42, 178, 0, 20, 181, 0, 24]
abbrev dktJ9_init_3_0 : List UInt8 := dkwJ9_init_3_0 ++ dktJ9_init_3_1
theorem dksJ9_init_3_0 : cJ9_init_3.data.toList.drop 0 = dktJ9_init_3_0 := by decide +kernel
theorem dksJ9_init_3_1 : cJ9_init_3.data.toList.drop 23 = dktJ9_init_3_1 := dk_seg dksJ9_init_3_0 23 rfl rfl
theorem dksJ9_init_3_2 : cJ9_init_3.data.toList.drop 47 = dktJ9_init_3_2 := dk_seg dksJ9_init_3_1 24 rfl rfl
theorem dJ9_init_3_0 : decode cJ9_init_3 0 = .ok (.aload_n 0, 1) := dk_42 (dk_at dksJ9_init_3_0 0 rfl rfl)
theorem dJ9_init_3_1 : decode cJ9_init_3 1 = .ok (.invokespecial 1, 3) := dk_183 0 1 (dk_at dksJ9_init_3_0 1 rfl rfl)
theorem dJ9_init_3_4 : decode cJ9_init_3 4 = .ok (.aload_n 0, 1) := dk_42 (dk_at dksJ9_init_3_0 4 rfl rfl)
theorem dJ9_init_3_5 : decode cJ9_init_3 5 = .ok (.aload_n 0, 1) := dk_42 (dk_at dksJ9_init_3_0 5 rfl rfl)
theorem dJ9_init_3_6 : decode cJ9_init_3 6 = .ok (.putfield 7, 3) := dk_181 0 7 (dk_at dksJ9_init_3_0 6 rfl rfl)
theorem dJ9_init_3_9 : decode cJ9_init_3 9 = .ok (.aload_n 0, 1) := dk_42 (dk_at dksJ9_init_3_0 9 rfl rfl)
theorem dJ9_init_3_10 : decode cJ9_init_3 10 = .ok (.getstatic 13, 3) := dk_178 0 13 (dk_at dksJ9_init_3_0 10 rfl rfl)
theorem dJ9_init_3_13 : decode cJ9_init_3 13 = .ok (.putfield 17, 3) := dk_181 0 17 (dk_at dksJ9_init_3_0 13 rfl rfl)
theorem dJ9_init_3_16 : decode cJ9_init_3 16 = .ok (.aload_n 0, 1) := dk_42 (dk_at dksJ9_init_3_0 16 rfl rfl)
theorem dJ9_init_3_17 : decode cJ9_init_3 17 = .ok (.getstatic 20, 3) := dk_178 0 20 (dk_at dksJ9_init_3_0 17 rfl rfl)
theorem dJ9_init_3_20 : decode cJ9_init_3 20 = .ok (.putfield 24, 3) := dk_181 0 24 (dk_at dksJ9_init_3_0 20 rfl rfl)
theorem dJ9_init_3_23 : decode cJ9_init_3 23 = .ok (.iload 4, 2) := dk_21 4 (dk_at dksJ9_init_3_1 0 rfl rfl)
theorem dJ9_init_3_25 : decode cJ9_init_3 25 = .ok (.ifCond .eq 11, 3) := dk_153 0 11 (dk_at dksJ9_init_3_1 2 rfl rfl)
theorem dJ9_init_3_28 : decode cJ9_init_3 28 = .ok (.aload_n 0, 1) := dk_42 (dk_at dksJ9_init_3_1 5 rfl rfl)
theorem dJ9_init_3_29 : decode cJ9_init_3 29 = .ok (.invokevirtual 27, 3) := dk_182 0 27 (dk_at dksJ9_init_3_1 6 rfl rfl)
theorem dJ9_init_3_32 : decode cJ9_init_3 32 = .ok (.pop, 1) := dk_87 (dk_at dksJ9_init_3_1 9 rfl rfl)
theorem dJ9_init_3_33 : decode cJ9_init_3 33 = .ok (.goto 8, 3) := dk_167 0 8 (dk_at dksJ9_init_3_1 10 rfl rfl)
theorem dJ9_init_3_36 : decode cJ9_init_3 36 = .ok (.aload_n 0, 1) := dk_42 (dk_at dksJ9_init_3_1 13 rfl rfl)
theorem dJ9_init_3_37 : decode cJ9_init_3 37 = .ok (.aconst_null, 1) := dk_1 (dk_at dksJ9_init_3_1 14 rfl rfl)
theorem dJ9_init_3_38 : decode cJ9_init_3 38 = .ok (.putfield 17, 3) := dk_181 0 17 (dk_at dksJ9_init_3_1 15 rfl rfl)
theorem dJ9_init_3_41 : decode cJ9_init_3 41 = .ok (.aload_n 0, 1) := dk_42 (dk_at dksJ9_init_3_1 18 rfl rfl)
theorem dJ9_init_3_42 : decode cJ9_init_3 42 = .ok (.aload_n 1, 1) := dk_43 (dk_at dksJ9_init_3_1 19 rfl rfl)
theorem dJ9_init_3_43 : decode cJ9_init_3 43 = .ok (.putfield 31, 3) := dk_181 0 31 (dk_at dksJ9_init_3_1 20 rfl rfl)
theorem dJ9_init_3_46 : decode cJ9_init_3 46 = .ok (.aload_n 0, 1) := dk_42 (dk_at dksJ9_init_3_1 23 rfl rfl)
theorem dJ9_init_3_47 : decode cJ9_init_3 47 = .ok (.aload_n 2, 1) := dk_44 (dk_at dksJ9_init_3_2 0 rfl rfl)
theorem dJ9_init_3_48 : decode cJ9_init_3 48 = .ok (.putfield 7, 3) := dk_181 0 7 (dk_at dksJ9_init_3_2 1 rfl rfl)
theorem dJ9_init_3_51 : decode cJ9_init_3 51 = .ok (.iload_n 3, 1) := dk_29 (dk_at dksJ9_init_3_2 4 rfl rfl)
theorem dJ9_init_3_52 : decode cJ9_init_3 52 = .ok (.ifCond .ne 8, 3) := dk_154 0 8 (dk_at dksJ9_init_3_2 5 rfl rfl)
theorem dJ9_init_3_55 : decode cJ9_init_3 55 = .ok (.aload_n 0, 1) := dk_42 (dk_at dksJ9_init_3_2 8 rfl rfl)
theorem dJ9_init_3_56 : decode cJ9_init_3 56 = .ok (.aconst_null, 1) := dk_1 (dk_at dksJ9_init_3_2 9 rfl rfl)
theorem dJ9_init_3_57 : decode cJ9_init_3 57 = .ok (.putfield 24, 3) := dk_181 0 24 (dk_at dksJ9_init_3_2 10 rfl rfl)
theorem dJ9_init_3_60 : decode cJ9_init_3 60 = .ok (.return_, 1) := dk_177 (dk_at dksJ9_init_3_2 13 rfl rfl)
theorem q115 : (Jvm.Cond.initialized "java/lang/Throwable") ∈ lw_all := lw_g (lw_at lw_m1 14 rfl) rfl
theorem q348 : (Jvm.Cond.declares ({ cls := "java/lang/Throwable", name := "<init>", desc := "()V" } : Jvm.MethodName)) ∈ lw_tbl := lw_at lw_m2 7 rfl
theorem q349 : (Jvm.Cond.declares ({ cls := "java/lang/Throwable", name := "<init>", desc := "(Ljava/lang/String;)V" } : Jvm.MethodName)) ∈ lw_tbl := lw_at lw_m2 8 rfl
theorem q353 : (Jvm.Cond.lays "java/lang/Throwable" "java/lang/Throwable" "cause" "Ljava/lang/Throwable;") ∈ lw_all := lw_g (lw_at lw_m2 12 rfl) rfl
theorem q355 : (Jvm.Cond.lays "java/lang/Throwable" "java/lang/Throwable" "stackTrace" "[Ljava/lang/StackTraceElement;") ∈ lw_all := lw_g (lw_at lw_m2 14 rfl) rfl
theorem q357 : (Jvm.Cond.lays "java/lang/Throwable" "java/lang/Throwable" "suppressedExceptions" "Ljava/util/List;") ∈ lw_all := lw_g (lw_at lw_m2 16 rfl) rfl
theorem q359 : (Jvm.Cond.lays "java/lang/Throwable" "java/lang/Throwable" "detailMessage" "Ljava/lang/String;") ∈ lw_all := lw_g (lw_at lw_m2 18 rfl) rfl
theorem q361 : (Jvm.Cond.lays "java/lang/Throwable" "java/lang/Throwable" "backtrace" "Ljava/lang/Object;") ∈ lw_all := lw_g (lw_at lw_m2 20 rfl) rfl
theorem q362 : (Jvm.Cond.fieldLink "java/lang/Throwable" (198 : Nat) "java/lang/Throwable" "backtrace" "Ljava/lang/Object;") ∈ lw_all := lw_g (lw_at lw_m2 21 rfl) rfl
theorem q363 : (Jvm.Cond.superclass "java/lang/Throwable" "java/lang/Object") ∈ lw_all := lw_g (lw_at lw_m2 22 rfl) rfl
theorem q364 : (Jvm.Cond.instanceMethod ({ cls := "java/lang/Throwable", name := "<init>", desc := "()V" } : Jvm.MethodName)) ∈ lw_all := lw_g (lw_at lw_m2 23 rfl) rfl
theorem q365 : (Jvm.Cond.code ({ cls := "java/lang/Throwable", name := "<init>", desc := "()V" } : Jvm.MethodName) prog_41_method_1_code (1 : Nat) (Option.none : Option Jvm.ClassFile.FieldType)) ∈ lw_all := lw_g (lw_at lw_m2 24 rfl) rfl
theorem q366 : (Jvm.Cond.methodLink "java/lang/Throwable" (1 : Nat) ({ cls := "java/lang/Object", name := "<init>", desc := "()V" } : Jvm.MethodName)) ∈ lw_all := lw_g (lw_at lw_m2 25 rfl) rfl
theorem q367 : (Jvm.Cond.fieldLink "java/lang/Throwable" (13 : Nat) "java/lang/Throwable" "UNASSIGNED_STACK" "[Ljava/lang/StackTraceElement;") ∈ lw_all := lw_g (lw_at lw_m2 26 rfl) rfl
theorem q368 : (Jvm.Cond.laysStatic "java/lang/Throwable" "UNASSIGNED_STACK" "[Ljava/lang/StackTraceElement;") ∈ lw_tbl := lw_at lw_m2 27 rfl
theorem q369 : (Jvm.Cond.fieldLink "java/lang/Throwable" (20 : Nat) "java/lang/Throwable" "SUPPRESSED_SENTINEL" "Ljava/util/List;") ∈ lw_all := lw_g (lw_at lw_m2 28 rfl) rfl
theorem q370 : (Jvm.Cond.laysStatic "java/lang/Throwable" "SUPPRESSED_SENTINEL" "Ljava/util/List;") ∈ lw_tbl := lw_at lw_m2 29 rfl
theorem q371 : (Jvm.Cond.methodLink "java/lang/Throwable" (27 : Nat) ({ cls := "java/lang/Throwable", name := "fillInStackTrace", desc := "()Ljava/lang/Throwable;" } : Jvm.MethodName)) ∈ lw_all := lw_g (lw_at lw_m2 30 rfl) rfl
theorem q372 : (Jvm.Cond.instanceMethod ({ cls := "java/lang/Throwable", name := "fillInStackTrace", desc := "()Ljava/lang/Throwable;" } : Jvm.MethodName)) ∈ lw_all := lw_g (lw_at lw_m2 31 rfl) rfl
theorem q373 : (Jvm.Cond.sameMethod "java/lang/Throwable" "java/lang/Throwable" "fillInStackTrace" "()Ljava/lang/Throwable;") ∈ lw_all := lw_g (lw_at lw_m2 32 rfl) rfl
theorem q379 : (Jvm.Cond.codeSync ({ cls := "java/lang/Throwable", name := "fillInStackTrace", desc := "()Ljava/lang/Throwable;" } : Jvm.MethodName) prog_41_method_18_code (1 : Nat) (Option.some (Jvm.ClassFile.FieldType.object "java/lang/Throwable"))) ∈ lw_all := lw_g (lw_at lw_m2 38 rfl) rfl
theorem q380 : (Jvm.Cond.methodLink "java/lang/Throwable" (202 : Nat) ({ cls := "java/lang/Throwable", name := "fillInStackTrace", desc := "(I)Ljava/lang/Throwable;" } : Jvm.MethodName)) ∈ lw_all := lw_g (lw_at lw_m2 39 rfl) rfl
theorem q381 : (Jvm.Cond.privateMethod ({ cls := "java/lang/Throwable", name := "fillInStackTrace", desc := "(I)Ljava/lang/Throwable;" } : Jvm.MethodName)) ∈ lw_tbl := lw_at lw_m2 40 rfl
theorem q382 : (Jvm.Cond.instanceMethod ({ cls := "java/lang/Throwable", name := "fillInStackTrace", desc := "(I)Ljava/lang/Throwable;" } : Jvm.MethodName)) ∈ lw_all := lw_g (lw_at lw_m2 41 rfl) rfl
theorem q383 : (Jvm.Cond.instantiable "java/lang/Throwable" (6 : Nat)) ∈ lw_all := lw_g (lw_at lw_m2 42 rfl) rfl
theorem q384 : (Jvm.Cond.native ({ cls := "java/lang/Throwable", name := "fillInStackTrace", desc := "(I)Ljava/lang/Throwable;" } : Jvm.MethodName)) ∈ lw_all := lw_g (lw_at lw_m2 43 rfl) rfl
theorem q609 : (Jvm.Cond.instanceMethod ({ cls := "java/lang/Throwable", name := "<init>", desc := "(Ljava/lang/String;)V" } : Jvm.MethodName)) ∈ lw_all := lw_g (lw_at lw_m3 28 rfl) rfl
theorem q610 : (Jvm.Cond.code ({ cls := "java/lang/Throwable", name := "<init>", desc := "(Ljava/lang/String;)V" } : Jvm.MethodName) prog_41_method_2_code (2 : Nat) (Option.none : Option Jvm.ClassFile.FieldType)) ∈ lw_all := lw_g (lw_at lw_m3 29 rfl) rfl
theorem q611 : (Jvm.Cond.fieldLink "java/lang/Throwable" (198 : Nat) "java/lang/Throwable" "backtrace" "Ljava/lang/Object;") ∈ lw_all := lw_g (lw_at lw_m3 30 rfl) rfl
theorem q612 : (Jvm.Cond.fieldLink "java/lang/Throwable" (31 : Nat) "java/lang/Throwable" "detailMessage" "Ljava/lang/String;") ∈ lw_all := lw_g (lw_at lw_m3 31 rfl) rfl
theorem q613 : (Jvm.Cond.fieldLink "java/lang/Throwable" (7 : Nat) "java/lang/Throwable" "cause" "Ljava/lang/Throwable;") ∈ lw_all := lw_g (lw_at lw_m3 32 rfl) rfl
theorem q614 : (Jvm.Cond.fieldLink "java/lang/Throwable" (17 : Nat) "java/lang/Throwable" "stackTrace" "[Ljava/lang/StackTraceElement;") ∈ lw_all := lw_g (lw_at lw_m3 33 rfl) rfl
theorem q615 : (Jvm.Cond.fieldLink "java/lang/Throwable" (24 : Nat) "java/lang/Throwable" "suppressedExceptions" "Ljava/util/List;") ∈ lw_all := lw_g (lw_at lw_m3 34 rfl) rfl
theorem q616 : (Jvm.Cond.soleField "java/lang/Throwable" "backtrace") ∈ lw_all := lw_g (lw_at lw_m3 35 rfl) rfl
theorem q617 : (Jvm.Cond.soleField "java/lang/Throwable" "detailMessage") ∈ lw_all := lw_g (lw_at lw_m3 36 rfl) rfl
theorem q618 : (Jvm.Cond.soleField "java/lang/Throwable" "cause") ∈ lw_all := lw_g (lw_at lw_m3 37 rfl) rfl
theorem q619 : (Jvm.Cond.soleField "java/lang/Throwable" "stackTrace") ∈ lw_all := lw_g (lw_at lw_m3 38 rfl) rfl
theorem q621 : (Jvm.Cond.soleField "java/lang/Throwable" "depth") ∈ lw_all := lw_g (lw_at lw_m3 40 rfl) rfl
theorem q622 : (Jvm.Cond.soleField "java/lang/Throwable" "suppressedExceptions") ∈ lw_all := lw_g (lw_at lw_m3 41 rfl) rfl
theorem q1921 : (Jvm.Cond.instanceMethod ({ cls := "java/lang/Throwable", name := "<init>", desc := "(Ljava/lang/String;Ljava/lang/Throwable;ZZ)V" } : Jvm.MethodName)) ∈ lw_all := lw_g (lw_at lw_m8 140 rfl) rfl
theorem q1922 : (Jvm.Cond.code ({ cls := "java/lang/Throwable", name := "<init>", desc := "(Ljava/lang/String;Ljava/lang/Throwable;ZZ)V" } : Jvm.MethodName) prog_41_method_5_code (5 : Nat) (Option.none : Option Jvm.ClassFile.FieldType)) ∈ lw_all := lw_g (lw_at lw_m8 141 rfl) rfl
theorem q3280 : (Jvm.Cond.sameMethod "java/lang/Throwable" "java/lang/Throwable" "fillInStackTrace" "(I)Ljava/lang/Throwable;") ∈ lw_all := lw_g (lw_at lw_m14 59 rfl) rfl
theorem q3330 : (Jvm.Cond.castable "java/lang/Throwable" "java/lang/Object") ∈ lw_tbl := lw_at lw_m14 109 rfl
theorem in_J9 : ∀ w ∈ wsJ90, w ∈ lw_all := lw_in wsJ90 [353, 355, 357, 359, 361] (by decide +kernel) (by decide +kernel)
theorem q443 : (Jvm.Cond.sameMethod "[B" "java/lang/Object" "clone" "()Ljava/lang/Object;") ∈ lw_all := lw_g (lw_at lw_m2 102 rfl) rfl
set_option maxRecDepth 100000
theorem q446 : (Jvm.Cond.selects "[B" ({ cls := "[B", name := "clone", desc := "()Ljava/lang/Object;" } : Jvm.MethodName) ({ cls := "java/lang/Object", name := "clone", desc := "()Ljava/lang/Object;" } : Jvm.MethodName)) ∈ lw_all := lw_g (lw_at lw_m2 105 rfl) rfl
theorem q447 : (Jvm.Cond.castable "[B" "java/lang/Cloneable") ∈ lw_tbl := lw_at lw_m2 106 rfl
theorem q3336 : (Jvm.Cond.castable "[B" "java/lang/Object") ∈ lw_tbl := lw_at lw_m14 115 rfl
theorem q3338 : (Jvm.Cond.castable "[I" "java/lang/Object") ∈ lw_tbl := lw_at lw_m14 117 rfl
set_option maxRecDepth 100000
theorem q667 : (Jvm.Cond.sameMethod "[J" "java/lang/Object" "clone" "()Ljava/lang/Object;") ∈ lw_all := lw_g (lw_at lw_m3 86 rfl) rfl
set_option maxRecDepth 100000
theorem q668 : (Jvm.Cond.selects "[J" ({ cls := "[J", name := "clone", desc := "()Ljava/lang/Object;" } : Jvm.MethodName) ({ cls := "java/lang/Object", name := "clone", desc := "()Ljava/lang/Object;" } : Jvm.MethodName)) ∈ lw_all := lw_g (lw_at lw_m3 87 rfl) rfl
theorem q669 : (Jvm.Cond.castable "[J" "java/lang/Cloneable") ∈ lw_tbl := lw_at lw_m3 88 rfl
theorem q3334 : (Jvm.Cond.castable "[J" "java/lang/Object") ∈ lw_tbl := lw_at lw_m14 113 rfl
theorem q3339 : (Jvm.Cond.castable "[LSlidingtray$Image;" "java/lang/Object") ∈ lw_tbl := lw_at lw_m14 118 rfl
set_option maxRecDepth 100000
theorem q3340 : (Jvm.Cond.castable "[LSlidingtray$Lie;" "java/lang/Object") ∈ lw_tbl := lw_at lw_m14 119 rfl
set_option maxRecDepth 100000
theorem q3331 : (Jvm.Cond.sameMethod "[Ljava/lang/Object;" "java/lang/Object" "getClass" "()Ljava/lang/Class;") ∈ lw_all := lw_g (lw_at lw_m14 110 rfl) rfl
set_option maxRecDepth 100000
theorem q3332 : (Jvm.Cond.selects "[Ljava/lang/Object;" ({ cls := "java/lang/Object", name := "getClass", desc := "()Ljava/lang/Class;" } : Jvm.MethodName) ({ cls := "java/lang/Object", name := "getClass", desc := "()Ljava/lang/Class;" } : Jvm.MethodName)) ∈ lw_all := lw_g (lw_at lw_m14 111 rfl) rfl
theorem q3335 : (Jvm.Cond.castable "[Ljava/lang/Object;" "java/lang/Object") ∈ lw_tbl := lw_at lw_m14 114 rfl
theorem q3341 : (Jvm.Cond.castable "[Z" "java/lang/Object") ∈ lw_tbl := lw_at lw_m14 120 rfl
set_option maxRecDepth 100000
theorem q3337 : (Jvm.Cond.castable "[[I" "java/lang/Object") ∈ lw_tbl := lw_at lw_m14 116 rfl
set_option maxRecDepth 100000
theorem q1536 : (Jvm.Cond.interfaceMethod "java/lang/Comparable" "java/lang/Comparable" "compareTo" "(Ljava/lang/Object;)I") ∈ lw_tbl := lw_at lw_m6 235 rfl
set_option maxRecDepth 100000
theorem q1537 : (Jvm.Cond.declares ({ cls := "java/lang/Comparable", name := "compareTo", desc := "(Ljava/lang/Object;)I" } : Jvm.MethodName)) ∈ lw_tbl := lw_at lw_m6 236 rfl
theorem q110 : (Jvm.Cond.initialized "java/lang/Integer$IntegerCache") ∈ lw_all := lw_g (lw_at lw_m1 9 rfl) rfl
set_option maxRecDepth 100000
theorem q232 : (Jvm.Cond.laysStatic "java/lang/Integer$IntegerCache" "high" "I") ∈ lw_tbl := lw_at lw_m1 131 rfl
theorem q234 : (Jvm.Cond.laysStatic "java/lang/Integer$IntegerCache" "cache" "[Ljava/lang/Integer;") ∈ lw_tbl := lw_at lw_m1 133 rfl
theorem q153 : (Jvm.Cond.initialized "java/lang/Long$LongCache") ∈ lw_all := lw_g (lw_at lw_m1 52 rfl) rfl
set_option maxRecDepth 100000
theorem q1796 : (Jvm.Cond.laysStatic "java/lang/Long$LongCache" "cache" "[Ljava/lang/Long;") ∈ lw_tbl := lw_at lw_m8 15 rfl
theorem q114 : (Jvm.Cond.initialized "java/lang/System") ∈ lw_all := lw_g (lw_at lw_m1 13 rfl) rfl
set_option maxRecDepth 100000
theorem q333 : (Jvm.Cond.static ({ cls := "java/lang/System", name := "arraycopy", desc := "(Ljava/lang/Object;ILjava/lang/Object;II)V" } : Jvm.MethodName)) ∈ lw_all := lw_g (lw_at lw_m1 232 rfl) rfl
theorem q334 : (Jvm.Cond.native ({ cls := "java/lang/System", name := "arraycopy", desc := "(Ljava/lang/Object;ILjava/lang/Object;II)V" } : Jvm.MethodName)) ∈ lw_all := lw_g (lw_at lw_m1 233 rfl) rfl
theorem q2227 : (Jvm.Cond.interfaceMethod "java/util/Collection" "java/util/Collection" "toArray" "()[Ljava/lang/Object;") ∈ lw_tbl := lw_at lw_m9 206 rfl
set_option maxRecDepth 100000
theorem q2228 : (Jvm.Cond.declares ({ cls := "java/util/Collection", name := "toArray", desc := "()[Ljava/lang/Object;" } : Jvm.MethodName)) ∈ lw_tbl := lw_at lw_m9 207 rfl
theorem q1528 : (Jvm.Cond.interfaceMethod "java/util/Comparator" "java/util/Comparator" "compare" "(Ljava/lang/Object;Ljava/lang/Object;)I") ∈ lw_tbl := lw_at lw_m6 227 rfl
set_option maxRecDepth 100000
theorem q1529 : (Jvm.Cond.declares ({ cls := "java/util/Comparator", name := "compare", desc := "(Ljava/lang/Object;Ljava/lang/Object;)I" } : Jvm.MethodName)) ∈ lw_tbl := lw_at lw_m6 228 rfl
theorem q1298 : (Jvm.Cond.interfaceMethod "java/util/Iterator" "java/util/Iterator" "hasNext" "()Z") ∈ lw_tbl := lw_at lw_m5 237 rfl
set_option maxRecDepth 100000
theorem q1299 : (Jvm.Cond.declares ({ cls := "java/util/Iterator", name := "hasNext", desc := "()Z" } : Jvm.MethodName)) ∈ lw_tbl := lw_at lw_m5 238 rfl
theorem q1327 : (Jvm.Cond.interfaceMethod "java/util/Iterator" "java/util/Iterator" "next" "()Ljava/lang/Object;") ∈ lw_tbl := lw_at lw_m6 26 rfl
theorem q1328 : (Jvm.Cond.declares ({ cls := "java/util/Iterator", name := "next", desc := "()Ljava/lang/Object;" } : Jvm.MethodName)) ∈ lw_tbl := lw_at lw_m6 27 rfl
theorem q250 : (Jvm.Cond.interfaceMethod "java/util/List" "java/util/List" "add" "(Ljava/lang/Object;)Z") ∈ lw_tbl := lw_at lw_m1 149 rfl
set_option maxRecDepth 100000
theorem q251 : (Jvm.Cond.declares ({ cls := "java/util/List", name := "add", desc := "(Ljava/lang/Object;)Z" } : Jvm.MethodName)) ∈ lw_tbl := lw_at lw_m1 150 rfl
theorem q679 : (Jvm.Cond.interfaceMethod "java/util/List" "java/util/List" "size" "()I") ∈ lw_tbl := lw_at lw_m3 98 rfl
theorem q680 : (Jvm.Cond.declares ({ cls := "java/util/List", name := "size", desc := "()I" } : Jvm.MethodName)) ∈ lw_tbl := lw_at lw_m3 99 rfl
theorem q694 : (Jvm.Cond.interfaceMethod "java/util/List" "java/util/List" "get" "(I)Ljava/lang/Object;") ∈ lw_tbl := lw_at lw_m3 113 rfl
theorem q695 : (Jvm.Cond.declares ({ cls := "java/util/List", name := "get", desc := "(I)Ljava/lang/Object;" } : Jvm.MethodName)) ∈ lw_tbl := lw_at lw_m3 114 rfl
theorem q726 : (Jvm.Cond.interfaceMethod "java/util/List" "java/util/List" "indexOf" "(Ljava/lang/Object;)I") ∈ lw_tbl := lw_at lw_m3 145 rfl
theorem q727 : (Jvm.Cond.declares ({ cls := "java/util/List", name := "indexOf", desc := "(Ljava/lang/Object;)I" } : Jvm.MethodName)) ∈ lw_tbl := lw_at lw_m3 146 rfl
theorem q1031 : (Jvm.Cond.interfaceMethod "java/util/List" "java/util/List" "remove" "(I)Ljava/lang/Object;") ∈ lw_tbl := lw_at lw_m4 210 rfl
theorem q1032 : (Jvm.Cond.declares ({ cls := "java/util/List", name := "remove", desc := "(I)Ljava/lang/Object;" } : Jvm.MethodName)) ∈ lw_tbl := lw_at lw_m4 211 rfl
theorem q1191 : (Jvm.Cond.interfaceMethod "java/util/List" "java/util/List" "clear" "()V") ∈ lw_tbl := lw_at lw_m5 130 rfl
theorem q1192 : (Jvm.Cond.declares ({ cls := "java/util/List", name := "clear", desc := "()V" } : Jvm.MethodName)) ∈ lw_tbl := lw_at lw_m5 131 rfl
theorem q1270 : (Jvm.Cond.interfaceMethod "java/util/List" "java/util/List" "iterator" "()Ljava/util/Iterator;") ∈ lw_tbl := lw_at lw_m5 209 rfl
theorem q1271 : (Jvm.Cond.declares ({ cls := "java/util/List", name := "iterator", desc := "()Ljava/util/Iterator;" } : Jvm.MethodName)) ∈ lw_tbl := lw_at lw_m5 210 rfl
theorem q1929 : (Jvm.Cond.interfaceMethod "java/util/List" "java/util/List" "add" "(ILjava/lang/Object;)V") ∈ lw_tbl := lw_at lw_m8 148 rfl
theorem q1930 : (Jvm.Cond.declares ({ cls := "java/util/List", name := "add", desc := "(ILjava/lang/Object;)V" } : Jvm.MethodName)) ∈ lw_tbl := lw_at lw_m8 149 rfl
theorem q2218 : (Jvm.Cond.interfaceMethod "java/util/List" "java/util/List" "addAll" "(Ljava/util/Collection;)Z") ∈ lw_tbl := lw_at lw_m9 197 rfl
theorem q2219 : (Jvm.Cond.declares ({ cls := "java/util/List", name := "addAll", desc := "(Ljava/util/Collection;)Z" } : Jvm.MethodName)) ∈ lw_tbl := lw_at lw_m9 198 rfl
theorem q2414 : (Jvm.Cond.interfaceMethod "java/util/List" "java/util/List" "isEmpty" "()Z") ∈ lw_tbl := lw_at lw_m10 153 rfl
theorem q2415 : (Jvm.Cond.declares ({ cls := "java/util/List", name := "isEmpty", desc := "()Z" } : Jvm.MethodName)) ∈ lw_tbl := lw_at lw_m10 154 rfl
theorem q1693 : (Jvm.Cond.publicMethod ({ cls := "java/util/Map", name := "size", desc := "()I" } : Jvm.MethodName)) ∈ lw_tbl := lw_at lw_m7 152 rfl
set_option maxRecDepth 100000
theorem q1694 : (Jvm.Cond.declares ({ cls := "java/util/Map", name := "size", desc := "()I" } : Jvm.MethodName)) ∈ lw_tbl := lw_at lw_m7 153 rfl
theorem q2542 : (Jvm.Cond.publicMethod ({ cls := "java/util/Map", name := "put", desc := "(Ljava/lang/Object;Ljava/lang/Object;)Ljava/lang/Object;" } : Jvm.MethodName)) ∈ lw_tbl := lw_at lw_m11 41 rfl
theorem q2543 : (Jvm.Cond.declares ({ cls := "java/util/Map", name := "put", desc := "(Ljava/lang/Object;Ljava/lang/Object;)Ljava/lang/Object;" } : Jvm.MethodName)) ∈ lw_tbl := lw_at lw_m11 42 rfl
theorem q2572 : (Jvm.Cond.publicMethod ({ cls := "java/util/Map", name := "containsKey", desc := "(Ljava/lang/Object;)Z" } : Jvm.MethodName)) ∈ lw_tbl := lw_at lw_m11 71 rfl
theorem q2573 : (Jvm.Cond.declares ({ cls := "java/util/Map", name := "containsKey", desc := "(Ljava/lang/Object;)Z" } : Jvm.MethodName)) ∈ lw_tbl := lw_at lw_m11 72 rfl
theorem q2360 : (Jvm.Cond.interfaceMethod "java/util/NavigableMap" "java/util/NavigableMap" "navigableKeySet" "()Ljava/util/NavigableSet;") ∈ lw_tbl := lw_at lw_m10 99 rfl
set_option maxRecDepth 100000
theorem q2361 : (Jvm.Cond.declares ({ cls := "java/util/NavigableMap", name := "navigableKeySet", desc := "()Ljava/util/NavigableSet;" } : Jvm.MethodName)) ∈ lw_tbl := lw_at lw_m10 100 rfl
theorem q2382 : (Jvm.Cond.interfaceMethod "java/util/NavigableSet" "java/util/NavigableSet" "iterator" "()Ljava/util/Iterator;") ∈ lw_tbl := lw_at lw_m10 121 rfl
set_option maxRecDepth 100000
theorem q2383 : (Jvm.Cond.declares ({ cls := "java/util/NavigableSet", name := "iterator", desc := "()Ljava/util/Iterator;" } : Jvm.MethodName)) ∈ lw_tbl := lw_at lw_m10 122 rfl
theorem q2353 : (Jvm.Cond.declares ({ cls := "java/util/TreeMap$NavigableSubMap", name := "keyIterator", desc := "()Ljava/util/Iterator;" } : Jvm.MethodName)) ∈ lw_tbl := lw_at lw_m10 92 rfl
set_option maxRecDepth 100000
theorem q2354 : (Jvm.Cond.selects "java/util/TreeMap$NavigableSubMap" ({ cls := "java/util/TreeMap$NavigableSubMap", name := "keyIterator", desc := "()Ljava/util/Iterator;" } : Jvm.MethodName) ({ cls := "java/util/TreeMap$NavigableSubMap", name := "keyIterator", desc := "()Ljava/util/Iterator;" } : Jvm.MethodName)) ∈ lw_all := lw_g (lw_at lw_m10 93 rfl) rfl
theorem q128 : (Jvm.Cond.initialized "jdk/internal/misc/UnsafeConstants") ∈ lw_all := lw_g (lw_at lw_m1 27 rfl) rfl
set_option maxRecDepth 100000
theorem q795 : (Jvm.Cond.laysStatic "jdk/internal/misc/UnsafeConstants" "BIG_ENDIAN" "Z") ∈ lw_tbl := lw_at lw_m3 214 rfl
theorem q227 : (Jvm.Cond.arrayClass Jvm.ClassFile.FieldType.long) ∈ lw_all := lw_g (lw_at lw_m1 126 rfl) rfl
set_option maxRecDepth 100000
theorem q327 : (Jvm.Cond.arrayOver (Jvm.ClassFile.FieldType.object "java/lang/Object")) ∈ lw_tbl := lw_at lw_m1 226 rfl
theorem q416 : (Jvm.Cond.arrayClass Jvm.ClassFile.FieldType.byte) ∈ lw_all := lw_g (lw_at lw_m2 75 rfl) rfl
theorem q687 : (Jvm.Cond.arrayOver (Jvm.ClassFile.FieldType.array Jvm.ClassFile.FieldType.int)) ∈ lw_tbl := lw_at lw_m3 106 rfl
theorem q915 : (Jvm.Cond.arrayClass Jvm.ClassFile.FieldType.int) ∈ lw_all := lw_g (lw_at lw_m4 94 rfl) rfl
theorem q1102 : (Jvm.Cond.arrayOver (Jvm.ClassFile.FieldType.object "Slidingtray$Image")) ∈ lw_tbl := lw_at lw_m5 41 rfl
theorem q1433 : (Jvm.Cond.arrayOver (Jvm.ClassFile.FieldType.object "Slidingtray$Lie")) ∈ lw_tbl := lw_at lw_m6 132 rfl
theorem q2945 : (Jvm.Cond.arrayClass Jvm.ClassFile.FieldType.boolean) ∈ lw_all := lw_g (lw_at lw_m12 204 rfl) rfl

