/-! Slidingtray$Beyond -/
set_option maxRecDepth 100000
def RX10 : String := "Slidingtray$Beyond"
def TX10 : u_T := fun k => match k with
  | 0 => ("java/lang/Throwable", "cause", "Ljava/lang/Throwable;", false)
  | 1 => ("java/lang/Throwable", "stackTrace", "[Ljava/lang/StackTraceElement;", false)
  | 2 => ("java/lang/Throwable", "suppressedExceptions", "Ljava/util/List;", false)
  | 3 => ("java/lang/Throwable", "detailMessage", "Ljava/lang/String;", false)
  | 4 => ("java/lang/Throwable", "backtrace", "Ljava/lang/Object;", false)
  | _ => ("java/lang/Throwable", "depth", "I", false)
def tyX10 : Nat → FieldType := fun k => match k with
  | 0 => .object "java/lang/Throwable"
  | 1 => .array (.object "java/lang/StackTraceElement")
  | 2 => .object "java/util/List"
  | 3 => .object "java/lang/String"
  | 4 => .object "java/lang/Object"
  | _ => .int
abbrev wsX100 : List Cond := u_ws RX10 TX10 6
theorem nmX10 : ∀ a, a < 6 → ∀ b, b < 6 → a ≠ b → (TX10 a).2.1 ≠ (TX10 b).2.1 := by decide +kernel
theorem tyX10_ok : ∀ k, k < 6 → parseFieldDescriptor (TX10 k).2.2.1 = some (tyX10 k) := by decide +kernel
abbrev cX10_init : ByteArray := prog_4_method_1_code
def yX10_init : MethodName := ⟨RX10, "<init>", "()V"⟩
def dkwX10_init_0 : List UInt8 := [42, 1, 1, 3, 3, 183, 0, 1, 177]
abbrev dktX10_init_0 : List UInt8 := dkwX10_init_0 ++ []
theorem dksX10_init_0 : cX10_init.data.toList.drop 0 = dktX10_init_0 := by decide +kernel
theorem dX10_init_0 : decode cX10_init 0 = .ok (.aload_n 0, 1) := dk_42 (dk_at dksX10_init_0 0 rfl rfl)
theorem dX10_init_1 : decode cX10_init 1 = .ok (.aconst_null, 1) := dk_1 (dk_at dksX10_init_0 1 rfl rfl)
theorem dX10_init_2 : decode cX10_init 2 = .ok (.aconst_null, 1) := dk_1 (dk_at dksX10_init_0 2 rfl rfl)
theorem dX10_init_3 : decode cX10_init 3 = .ok (.iconst 0, 1) := dk_3 (dk_at dksX10_init_0 3 rfl rfl)
theorem dX10_init_4 : decode cX10_init 4 = .ok (.iconst 0, 1) := dk_3 (dk_at dksX10_init_0 4 rfl rfl)
theorem dX10_init_5 : decode cX10_init 5 = .ok (.invokespecial 1, 3) := dk_183 0 1 (dk_at dksX10_init_0 5 rfl rfl)
theorem dX10_init_8 : decode cX10_init 8 = .ok (.return_, 1) := dk_177 (dk_at dksX10_init_0 8 rfl rfl)
theorem q155 : (Jvm.Cond.initialized "Slidingtray$Beyond") ∈ lw_all := lw_g (lw_at lw_m1 54 rfl) rfl
theorem q289 : (Jvm.Cond.selects "Slidingtray$Beyond" ({ cls := "java/lang/Object", name := "getClass", desc := "()Ljava/lang/Class;" } : Jvm.MethodName) ({ cls := "java/lang/Object", name := "getClass", desc := "()Ljava/lang/Class;" } : Jvm.MethodName)) ∈ lw_all := lw_g (lw_at lw_m1 188 rfl) rfl
theorem q374 : (Jvm.Cond.selects "Slidingtray$Beyond" ({ cls := "java/lang/Throwable", name := "fillInStackTrace", desc := "()Ljava/lang/Throwable;" } : Jvm.MethodName) ({ cls := "java/lang/Throwable", name := "fillInStackTrace", desc := "()Ljava/lang/Throwable;" } : Jvm.MethodName)) ∈ lw_all := lw_g (lw_at lw_m2 33 rfl) rfl
theorem q744 : (Jvm.Cond.selects "Slidingtray$Beyond" ({ cls := "java/lang/Object", name := "equals", desc := "(Ljava/lang/Object;)Z" } : Jvm.MethodName) ({ cls := "java/lang/Object", name := "equals", desc := "(Ljava/lang/Object;)Z" } : Jvm.MethodName)) ∈ lw_all := lw_g (lw_at lw_m3 163 rfl) rfl
theorem q1906 : (Jvm.Cond.instantiable "Slidingtray$Beyond" (6 : Nat)) ∈ lw_all := lw_g (lw_at lw_m8 125 rfl) rfl
theorem q1907 : (Jvm.Cond.castable "Slidingtray$Beyond" "Slidingtray$Beyond") ∈ lw_tbl := lw_at lw_m8 126 rfl
theorem q1908 : (Jvm.Cond.selects "Slidingtray$Beyond" ({ cls := "java/lang/Throwable", name := "fillInStackTrace", desc := "(I)Ljava/lang/Throwable;" } : Jvm.MethodName) ({ cls := "java/lang/Throwable", name := "fillInStackTrace", desc := "(I)Ljava/lang/Throwable;" } : Jvm.MethodName)) ∈ lw_all := lw_g (lw_at lw_m8 127 rfl) rfl
theorem q1909 : (Jvm.Cond.lays "Slidingtray$Beyond" "java/lang/Throwable" "cause" "Ljava/lang/Throwable;") ∈ lw_all := lw_g (lw_at lw_m8 128 rfl) rfl
theorem q1910 : (Jvm.Cond.lays "Slidingtray$Beyond" "java/lang/Throwable" "stackTrace" "[Ljava/lang/StackTraceElement;") ∈ lw_all := lw_g (lw_at lw_m8 129 rfl) rfl
theorem q1911 : (Jvm.Cond.lays "Slidingtray$Beyond" "java/lang/Throwable" "suppressedExceptions" "Ljava/util/List;") ∈ lw_all := lw_g (lw_at lw_m8 130 rfl) rfl
theorem q1912 : (Jvm.Cond.lays "Slidingtray$Beyond" "java/lang/Throwable" "detailMessage" "Ljava/lang/String;") ∈ lw_all := lw_g (lw_at lw_m8 131 rfl) rfl
theorem q1913 : (Jvm.Cond.lays "Slidingtray$Beyond" "java/lang/Throwable" "backtrace" "Ljava/lang/Object;") ∈ lw_all := lw_g (lw_at lw_m8 132 rfl) rfl
theorem q1915 : (Jvm.Cond.instanceMethod ({ cls := "Slidingtray$Beyond", name := "<init>", desc := "()V" } : Jvm.MethodName)) ∈ lw_all := lw_g (lw_at lw_m8 134 rfl) rfl
theorem q1916 : (Jvm.Cond.code ({ cls := "Slidingtray$Beyond", name := "<init>", desc := "()V" } : Jvm.MethodName) prog_4_method_1_code (1 : Nat) (Option.none : Option Jvm.ClassFile.FieldType)) ∈ lw_all := lw_g (lw_at lw_m8 135 rfl) rfl
theorem q1917 : (Jvm.Cond.methodLink "Slidingtray$Beyond" (1 : Nat) ({ cls := "java/lang/Exception", name := "<init>", desc := "(Ljava/lang/String;Ljava/lang/Throwable;ZZ)V" } : Jvm.MethodName)) ∈ lw_all := lw_g (lw_at lw_m8 136 rfl) rfl
theorem q1923 : (Jvm.Cond.lays "Slidingtray$Beyond" "java/lang/Throwable" "depth" "I") ∈ lw_all := lw_g (lw_at lw_m8 142 rfl) rfl
theorem q1924 : (Jvm.Cond.superclass "Slidingtray$Beyond" "java/lang/Exception") ∈ lw_all := lw_g (lw_at lw_m8 143 rfl) rfl
theorem q3319 : (Jvm.Cond.castable "Slidingtray$Beyond" "java/lang/Object") ∈ lw_tbl := lw_at lw_m14 98 rfl
theorem in_X10 : ∀ w ∈ wsX100, w ∈ lw_all := lw_in wsX100 [1909, 1910, 1911, 1912, 1913, 1923] (by decide +kernel) (by decide +kernel)
/-! Slidingtray$Depth -/
set_option maxRecDepth 100000
def RX11 : String := "Slidingtray$Depth"
def TX11 : u_T := fun k => match k with
  | 0 => ("Slidingtray$Depth", "estimate", "I", true)
  | 1 => ("Slidingtray$Depth", "made", "LSlidingtray$Found;", true)
  | 2 => ("Slidingtray$Depth", "bound", "I", false)
  | 3 => ("Slidingtray$Depth", "next", "I", false)
  | _ => ("Slidingtray$Depth", "this$0", "LSlidingtray;", true)
def tyX11 : Nat → FieldType := fun k => match k with
  | 0 => .int
  | 1 => .object "Slidingtray$Found"
  | 2 => .int
  | 3 => .int
  | _ => .object "Slidingtray"
abbrev wsX110 : List Cond := u_ws RX11 TX11 5
theorem nmX11 : ∀ a, a < 5 → ∀ b, b < 5 → a ≠ b → (TX11 a).2.1 ≠ (TX11 b).2.1 := by decide +kernel
theorem tyX11_ok : ∀ k, k < 5 → parseFieldDescriptor (TX11 k).2.2.1 = some (tyX11 k) := by decide +kernel
abbrev cX11_init : ByteArray := prog_5_method_1_code
def yX11_init : MethodName := ⟨RX11, "<init>", "(LSlidingtray;I)V"⟩
def dkwX11_init_1 : List UInt8 := [181, 0, 22, 177]
abbrev dktX11_init_1 : List UInt8 := dkwX11_init_1 ++ []
def dkwX11_init_0 : List UInt8 := [42, 43, 181, 0, 3, 42, 183, 0, 9, 42, 187, 0, 15, 89, 183, 0, 17, 181, 0, 18, 42, 28]
abbrev dktX11_init_0 : List UInt8 := dkwX11_init_0 ++ dktX11_init_1
theorem dksX11_init_0 : cX11_init.data.toList.drop 0 = dktX11_init_0 := by decide +kernel
theorem dksX11_init_1 : cX11_init.data.toList.drop 22 = dktX11_init_1 := dk_seg dksX11_init_0 22 rfl rfl
theorem dX11_init_0 : decode cX11_init 0 = .ok (.aload_n 0, 1) := dk_42 (dk_at dksX11_init_0 0 rfl rfl)
theorem dX11_init_1 : decode cX11_init 1 = .ok (.aload_n 1, 1) := dk_43 (dk_at dksX11_init_0 1 rfl rfl)
theorem dX11_init_2 : decode cX11_init 2 = .ok (.putfield 3, 3) := dk_181 0 3 (dk_at dksX11_init_0 2 rfl rfl)
theorem dX11_init_5 : decode cX11_init 5 = .ok (.aload_n 0, 1) := dk_42 (dk_at dksX11_init_0 5 rfl rfl)
theorem dX11_init_6 : decode cX11_init 6 = .ok (.invokespecial 9, 3) := dk_183 0 9 (dk_at dksX11_init_0 6 rfl rfl)
theorem dX11_init_9 : decode cX11_init 9 = .ok (.aload_n 0, 1) := dk_42 (dk_at dksX11_init_0 9 rfl rfl)
theorem dX11_init_10 : decode cX11_init 10 = .ok (.new 15, 3) := dk_187 0 15 (dk_at dksX11_init_0 10 rfl rfl)
theorem dX11_init_13 : decode cX11_init 13 = .ok (.dup, 1) := dk_89 (dk_at dksX11_init_0 13 rfl rfl)
theorem dX11_init_14 : decode cX11_init 14 = .ok (.invokespecial 17, 3) := dk_183 0 17 (dk_at dksX11_init_0 14 rfl rfl)
theorem dX11_init_17 : decode cX11_init 17 = .ok (.putfield 18, 3) := dk_181 0 18 (dk_at dksX11_init_0 17 rfl rfl)
theorem dX11_init_20 : decode cX11_init 20 = .ok (.aload_n 0, 1) := dk_42 (dk_at dksX11_init_0 20 rfl rfl)
theorem dX11_init_21 : decode cX11_init 21 = .ok (.iload_n 2, 1) := dk_28 (dk_at dksX11_init_0 21 rfl rfl)
theorem dX11_init_22 : decode cX11_init 22 = .ok (.putfield 22, 3) := dk_181 0 22 (dk_at dksX11_init_1 0 rfl rfl)
theorem dX11_init_25 : decode cX11_init 25 = .ok (.return_, 1) := dk_177 (dk_at dksX11_init_1 3 rfl rfl)
abbrev cX11_search : ByteArray := prog_5_method_3_code
def yX11_search : MethodName := ⟨RX11, "search", "(LSlidingtray$Lie;)LSlidingtray$Found;"⟩
def dkwX11_search_3 : List UInt8 := [180, 0, 42, 181, 0, 39, 167, 255, 200, 42, 180, 0, 18, 176]
abbrev dktX11_search_3 : List UInt8 := dkwX11_search_3 ++ []
def dkwX11_search_2 : List UInt8 := [182, 0, 94, 154, 0, 12, 42, 180, 0, 42, 18, 112, 160, 0, 7, 4, 167, 0, 4, 3, 61, 42, 42]
abbrev dktX11_search_2 : List UInt8 := dkwX11_search_2 ++ dktX11_search_3
def dkwX11_search_1 : List UInt8 := [180, 0, 18, 89, 180, 0, 109, 4, 96, 181, 0, 109, 42, 18, 112, 181, 0, 42, 42, 43, 3, 2]
abbrev dktX11_search_1 : List UInt8 := dkwX11_search_1 ++ dktX11_search_2
def dkwX11_search_0 : List UInt8 := [42, 42, 180, 0, 3, 43, 42, 180, 0, 22, 182, 0, 35, 181, 0, 39, 3, 61, 28, 154, 0, 58, 42]
abbrev dktX11_search_0 : List UInt8 := dkwX11_search_0 ++ dktX11_search_1
theorem dksX11_search_0 : cX11_search.data.toList.drop 0 = dktX11_search_0 := by decide +kernel
theorem dksX11_search_1 : cX11_search.data.toList.drop 23 = dktX11_search_1 := dk_seg dksX11_search_0 23 rfl rfl
theorem dksX11_search_2 : cX11_search.data.toList.drop 45 = dktX11_search_2 := dk_seg dksX11_search_1 22 rfl rfl
theorem dksX11_search_3 : cX11_search.data.toList.drop 68 = dktX11_search_3 := dk_seg dksX11_search_2 23 rfl rfl
theorem dX11_search_0 : decode cX11_search 0 = .ok (.aload_n 0, 1) := dk_42 (dk_at dksX11_search_0 0 rfl rfl)
theorem dX11_search_1 : decode cX11_search 1 = .ok (.aload_n 0, 1) := dk_42 (dk_at dksX11_search_0 1 rfl rfl)
theorem dX11_search_2 : decode cX11_search 2 = .ok (.getfield 3, 3) := dk_180 0 3 (dk_at dksX11_search_0 2 rfl rfl)
theorem dX11_search_5 : decode cX11_search 5 = .ok (.aload_n 1, 1) := dk_43 (dk_at dksX11_search_0 5 rfl rfl)
theorem dX11_search_6 : decode cX11_search 6 = .ok (.aload_n 0, 1) := dk_42 (dk_at dksX11_search_0 6 rfl rfl)
theorem dX11_search_7 : decode cX11_search 7 = .ok (.getfield 22, 3) := dk_180 0 22 (dk_at dksX11_search_0 7 rfl rfl)
theorem dX11_search_10 : decode cX11_search 10 = .ok (.invokevirtual 35, 3) := dk_182 0 35 (dk_at dksX11_search_0 10 rfl rfl)
theorem dX11_search_13 : decode cX11_search 13 = .ok (.putfield 39, 3) := dk_181 0 39 (dk_at dksX11_search_0 13 rfl rfl)
theorem dX11_search_16 : decode cX11_search 16 = .ok (.iconst 0, 1) := dk_3 (dk_at dksX11_search_0 16 rfl rfl)
theorem dX11_search_17 : decode cX11_search 17 = .ok (.istore_n 2, 1) := dk_61 (dk_at dksX11_search_0 17 rfl rfl)
theorem dX11_search_18 : decode cX11_search 18 = .ok (.iload_n 2, 1) := dk_28 (dk_at dksX11_search_0 18 rfl rfl)
theorem dX11_search_19 : decode cX11_search 19 = .ok (.ifCond .ne 58, 3) := dk_154 0 58 (dk_at dksX11_search_0 19 rfl rfl)
theorem dX11_search_22 : decode cX11_search 22 = .ok (.aload_n 0, 1) := dk_42 (dk_at dksX11_search_0 22 rfl rfl)
theorem dX11_search_23 : decode cX11_search 23 = .ok (.getfield 18, 3) := dk_180 0 18 (dk_at dksX11_search_1 0 rfl rfl)
theorem dX11_search_26 : decode cX11_search 26 = .ok (.dup, 1) := dk_89 (dk_at dksX11_search_1 3 rfl rfl)
theorem dX11_search_27 : decode cX11_search 27 = .ok (.getfield 109, 3) := dk_180 0 109 (dk_at dksX11_search_1 4 rfl rfl)
theorem dX11_search_30 : decode cX11_search 30 = .ok (.iconst 1, 1) := dk_4 (dk_at dksX11_search_1 7 rfl rfl)
theorem dX11_search_31 : decode cX11_search 31 = .ok (.iadd, 1) := dk_96 (dk_at dksX11_search_1 8 rfl rfl)
theorem dX11_search_32 : decode cX11_search 32 = .ok (.putfield 109, 3) := dk_181 0 109 (dk_at dksX11_search_1 9 rfl rfl)
theorem dX11_search_35 : decode cX11_search 35 = .ok (.aload_n 0, 1) := dk_42 (dk_at dksX11_search_1 12 rfl rfl)
theorem dX11_search_36 : decode cX11_search 36 = .ok (.ldc 112, 2) := dk_18 112 (dk_at dksX11_search_1 13 rfl rfl)
theorem dX11_search_38 : decode cX11_search 38 = .ok (.putfield 42, 3) := dk_181 0 42 (dk_at dksX11_search_1 15 rfl rfl)
theorem dX11_search_41 : decode cX11_search 41 = .ok (.aload_n 0, 1) := dk_42 (dk_at dksX11_search_1 18 rfl rfl)
theorem dX11_search_42 : decode cX11_search 42 = .ok (.aload_n 1, 1) := dk_43 (dk_at dksX11_search_1 19 rfl rfl)
theorem dX11_search_43 : decode cX11_search 43 = .ok (.iconst 0, 1) := dk_3 (dk_at dksX11_search_1 20 rfl rfl)
theorem dX11_search_44 : decode cX11_search 44 = .ok (.iconst (-1), 1) := dk_2 (dk_at dksX11_search_1 21 rfl rfl)
theorem dX11_search_45 : decode cX11_search 45 = .ok (.invokevirtual 94, 3) := dk_182 0 94 (dk_at dksX11_search_2 0 rfl rfl)
theorem dX11_search_48 : decode cX11_search 48 = .ok (.ifCond .ne 12, 3) := dk_154 0 12 (dk_at dksX11_search_2 3 rfl rfl)
theorem dX11_search_51 : decode cX11_search 51 = .ok (.aload_n 0, 1) := dk_42 (dk_at dksX11_search_2 6 rfl rfl)
theorem dX11_search_52 : decode cX11_search 52 = .ok (.getfield 42, 3) := dk_180 0 42 (dk_at dksX11_search_2 7 rfl rfl)
theorem dX11_search_55 : decode cX11_search 55 = .ok (.ldc 112, 2) := dk_18 112 (dk_at dksX11_search_2 10 rfl rfl)
theorem dX11_search_57 : decode cX11_search 57 = .ok (.if_icmp .ne 7, 3) := dk_160 0 7 (dk_at dksX11_search_2 12 rfl rfl)
theorem dX11_search_60 : decode cX11_search 60 = .ok (.iconst 1, 1) := dk_4 (dk_at dksX11_search_2 15 rfl rfl)
theorem dX11_search_61 : decode cX11_search 61 = .ok (.goto 4, 3) := dk_167 0 4 (dk_at dksX11_search_2 16 rfl rfl)
theorem dX11_search_64 : decode cX11_search 64 = .ok (.iconst 0, 1) := dk_3 (dk_at dksX11_search_2 19 rfl rfl)
theorem dX11_search_65 : decode cX11_search 65 = .ok (.istore_n 2, 1) := dk_61 (dk_at dksX11_search_2 20 rfl rfl)
theorem dX11_search_66 : decode cX11_search 66 = .ok (.aload_n 0, 1) := dk_42 (dk_at dksX11_search_2 21 rfl rfl)
theorem dX11_search_67 : decode cX11_search 67 = .ok (.aload_n 0, 1) := dk_42 (dk_at dksX11_search_2 22 rfl rfl)
theorem dX11_search_68 : decode cX11_search 68 = .ok (.getfield 42, 3) := dk_180 0 42 (dk_at dksX11_search_3 0 rfl rfl)
theorem dX11_search_71 : decode cX11_search 71 = .ok (.putfield 39, 3) := dk_181 0 39 (dk_at dksX11_search_3 3 rfl rfl)
theorem dX11_search_74 : decode cX11_search 74 = .ok (.goto (-56), 3) := dk_167 255 200 (dk_at dksX11_search_3 6 rfl rfl)
theorem dX11_search_77 : decode cX11_search 77 = .ok (.aload_n 0, 1) := dk_42 (dk_at dksX11_search_3 9 rfl rfl)
theorem dX11_search_78 : decode cX11_search 78 = .ok (.getfield 18, 3) := dk_180 0 18 (dk_at dksX11_search_3 10 rfl rfl)
theorem dX11_search_81 : decode cX11_search 81 = .ok (.areturn, 1) := dk_176 (dk_at dksX11_search_3 13 rfl rfl)
abbrev cX11_goes : ByteArray := prog_5_method_2_code
def yX11_goes : MethodName := ⟨RX11, "goes", "(LSlidingtray$Lie;II)Z"⟩
def dkwX11_goes_9 : List UInt8 := [192, 0, 75, 182, 0, 106, 54, 7, 132, 5, 1, 167, 255, 142, 3, 172]
abbrev dktX11_goes_9 : List UInt8 := dkwX11_goes_9 ++ []
def dkwX11_goes_8 : List UInt8 := [180, 0, 70, 42, 180, 0, 18, 180, 0, 70, 185, 0, 98, 1, 0, 4, 100, 185, 0, 102, 2, 0]
abbrev dktX11_goes_8 : List UInt8 := dkwX11_goes_8 ++ dktX11_goes_9
def dkwX11_goes_7 : List UInt8 := [180, 0, 90, 21, 6, 46, 96, 6, 21, 5, 100, 182, 0, 94, 153, 0, 5, 4, 172, 42, 180, 0, 18]
abbrev dktX11_goes_7 : List UInt8 := dkwX11_goes_7 ++ dktX11_goes_8
def dkwX11_goes_6 : List UInt8 := [184, 0, 74, 185, 0, 80, 2, 0, 87, 42, 43, 21, 5, 182, 0, 86, 28, 42, 180, 0, 3, 180, 0, 51]
abbrev dktX11_goes_6 : List UInt8 := dkwX11_goes_6 ++ dktX11_goes_7
def dkwX11_goes_5 : List UInt8 := [54, 6, 21, 6, 158, 0, 95, 21, 5, 29, 159, 0, 89, 42, 180, 0, 18, 180, 0, 70, 21, 5]
abbrev dktX11_goes_5 : List UInt8 := dkwX11_goes_5 ++ dktX11_goes_6
def dkwX11_goes_4 : List UInt8 := [180, 0, 18, 28, 181, 0, 61, 4, 172, 3, 54, 5, 21, 5, 6, 163, 0, 114, 43, 21, 5, 182, 0, 64]
abbrev dktX11_goes_4 : List UInt8 := dkwX11_goes_4 ++ dktX11_goes_5
def dkwX11_goes_3 : List UInt8 := [184, 0, 45, 181, 0, 42, 3, 172, 42, 180, 0, 3, 180, 0, 51, 43, 182, 0, 55, 153, 0, 13, 42]
abbrev dktX11_goes_3 : List UInt8 := dkwX11_goes_3 ++ dktX11_goes_4
def dkwX11_goes_2 : List UInt8 := [182, 0, 35, 96, 54, 4, 21, 4, 42, 180, 0, 39, 164, 0, 18, 42, 42, 180, 0, 42, 21, 4]
abbrev dktX11_goes_2 : List UInt8 := dkwX11_goes_2 ++ dktX11_goes_3
def dkwX11_goes_1 : List UInt8 := [191, 42, 180, 0, 18, 89, 180, 0, 26, 4, 96, 181, 0, 26, 28, 42, 180, 0, 3, 43, 42, 180, 0, 22]
abbrev dktX11_goes_1 : List UInt8 := dkwX11_goes_1 ++ dktX11_goes_2
def dkwX11_goes_0 : List UInt8 := [42, 180, 0, 18, 180, 0, 26, 42, 180, 0, 3, 180, 0, 29, 160, 0, 11, 187, 0, 32, 89, 183, 0, 34]
abbrev dktX11_goes_0 : List UInt8 := dkwX11_goes_0 ++ dktX11_goes_1
theorem dksX11_goes_0 : cX11_goes.data.toList.drop 0 = dktX11_goes_0 := by decide +kernel
theorem dksX11_goes_1 : cX11_goes.data.toList.drop 24 = dktX11_goes_1 := dk_seg dksX11_goes_0 24 rfl rfl
theorem dksX11_goes_2 : cX11_goes.data.toList.drop 48 = dktX11_goes_2 := dk_seg dksX11_goes_1 24 rfl rfl
theorem dksX11_goes_3 : cX11_goes.data.toList.drop 70 = dktX11_goes_3 := dk_seg dksX11_goes_2 22 rfl rfl
theorem dksX11_goes_4 : cX11_goes.data.toList.drop 93 = dktX11_goes_4 := dk_seg dksX11_goes_3 23 rfl rfl
theorem dksX11_goes_5 : cX11_goes.data.toList.drop 117 = dktX11_goes_5 := dk_seg dksX11_goes_4 24 rfl rfl
theorem dksX11_goes_6 : cX11_goes.data.toList.drop 139 = dktX11_goes_6 := dk_seg dksX11_goes_5 22 rfl rfl
theorem dksX11_goes_7 : cX11_goes.data.toList.drop 163 = dktX11_goes_7 := dk_seg dksX11_goes_6 24 rfl rfl
theorem dksX11_goes_8 : cX11_goes.data.toList.drop 186 = dktX11_goes_8 := dk_seg dksX11_goes_7 23 rfl rfl
theorem dksX11_goes_9 : cX11_goes.data.toList.drop 208 = dktX11_goes_9 := dk_seg dksX11_goes_8 22 rfl rfl
theorem dX11_goes_0 : decode cX11_goes 0 = .ok (.aload_n 0, 1) := dk_42 (dk_at dksX11_goes_0 0 rfl rfl)
theorem dX11_goes_1 : decode cX11_goes 1 = .ok (.getfield 18, 3) := dk_180 0 18 (dk_at dksX11_goes_0 1 rfl rfl)
theorem dX11_goes_4 : decode cX11_goes 4 = .ok (.getfield 26, 3) := dk_180 0 26 (dk_at dksX11_goes_0 4 rfl rfl)
theorem dX11_goes_7 : decode cX11_goes 7 = .ok (.aload_n 0, 1) := dk_42 (dk_at dksX11_goes_0 7 rfl rfl)
theorem dX11_goes_8 : decode cX11_goes 8 = .ok (.getfield 3, 3) := dk_180 0 3 (dk_at dksX11_goes_0 8 rfl rfl)
theorem dX11_goes_11 : decode cX11_goes 11 = .ok (.getfield 29, 3) := dk_180 0 29 (dk_at dksX11_goes_0 11 rfl rfl)
theorem dX11_goes_14 : decode cX11_goes 14 = .ok (.if_icmp .ne 11, 3) := dk_160 0 11 (dk_at dksX11_goes_0 14 rfl rfl)
theorem dX11_goes_17 : decode cX11_goes 17 = .ok (.new 32, 3) := dk_187 0 32 (dk_at dksX11_goes_0 17 rfl rfl)
theorem dX11_goes_20 : decode cX11_goes 20 = .ok (.dup, 1) := dk_89 (dk_at dksX11_goes_0 20 rfl rfl)
theorem dX11_goes_21 : decode cX11_goes 21 = .ok (.invokespecial 34, 3) := dk_183 0 34 (dk_at dksX11_goes_0 21 rfl rfl)
theorem dX11_goes_24 : decode cX11_goes 24 = .ok (.athrow, 1) := dk_191 (dk_at dksX11_goes_1 0 rfl rfl)
theorem dX11_goes_25 : decode cX11_goes 25 = .ok (.aload_n 0, 1) := dk_42 (dk_at dksX11_goes_1 1 rfl rfl)
theorem dX11_goes_26 : decode cX11_goes 26 = .ok (.getfield 18, 3) := dk_180 0 18 (dk_at dksX11_goes_1 2 rfl rfl)
theorem dX11_goes_29 : decode cX11_goes 29 = .ok (.dup, 1) := dk_89 (dk_at dksX11_goes_1 5 rfl rfl)
theorem dX11_goes_30 : decode cX11_goes 30 = .ok (.getfield 26, 3) := dk_180 0 26 (dk_at dksX11_goes_1 6 rfl rfl)
theorem dX11_goes_33 : decode cX11_goes 33 = .ok (.iconst 1, 1) := dk_4 (dk_at dksX11_goes_1 9 rfl rfl)
theorem dX11_goes_34 : decode cX11_goes 34 = .ok (.iadd, 1) := dk_96 (dk_at dksX11_goes_1 10 rfl rfl)
theorem dX11_goes_35 : decode cX11_goes 35 = .ok (.putfield 26, 3) := dk_181 0 26 (dk_at dksX11_goes_1 11 rfl rfl)
theorem dX11_goes_38 : decode cX11_goes 38 = .ok (.iload_n 2, 1) := dk_28 (dk_at dksX11_goes_1 14 rfl rfl)
theorem dX11_goes_39 : decode cX11_goes 39 = .ok (.aload_n 0, 1) := dk_42 (dk_at dksX11_goes_1 15 rfl rfl)
theorem dX11_goes_40 : decode cX11_goes 40 = .ok (.getfield 3, 3) := dk_180 0 3 (dk_at dksX11_goes_1 16 rfl rfl)
theorem dX11_goes_43 : decode cX11_goes 43 = .ok (.aload_n 1, 1) := dk_43 (dk_at dksX11_goes_1 19 rfl rfl)
theorem dX11_goes_44 : decode cX11_goes 44 = .ok (.aload_n 0, 1) := dk_42 (dk_at dksX11_goes_1 20 rfl rfl)
theorem dX11_goes_45 : decode cX11_goes 45 = .ok (.getfield 22, 3) := dk_180 0 22 (dk_at dksX11_goes_1 21 rfl rfl)
theorem dX11_goes_48 : decode cX11_goes 48 = .ok (.invokevirtual 35, 3) := dk_182 0 35 (dk_at dksX11_goes_2 0 rfl rfl)
theorem dX11_goes_51 : decode cX11_goes 51 = .ok (.iadd, 1) := dk_96 (dk_at dksX11_goes_2 3 rfl rfl)
theorem dX11_goes_52 : decode cX11_goes 52 = .ok (.istore 4, 2) := dk_54 4 (dk_at dksX11_goes_2 4 rfl rfl)
theorem dX11_goes_54 : decode cX11_goes 54 = .ok (.iload 4, 2) := dk_21 4 (dk_at dksX11_goes_2 6 rfl rfl)
theorem dX11_goes_56 : decode cX11_goes 56 = .ok (.aload_n 0, 1) := dk_42 (dk_at dksX11_goes_2 8 rfl rfl)
theorem dX11_goes_57 : decode cX11_goes 57 = .ok (.getfield 39, 3) := dk_180 0 39 (dk_at dksX11_goes_2 9 rfl rfl)
theorem dX11_goes_60 : decode cX11_goes 60 = .ok (.if_icmp .le 18, 3) := dk_164 0 18 (dk_at dksX11_goes_2 12 rfl rfl)
theorem dX11_goes_63 : decode cX11_goes 63 = .ok (.aload_n 0, 1) := dk_42 (dk_at dksX11_goes_2 15 rfl rfl)
theorem dX11_goes_64 : decode cX11_goes 64 = .ok (.aload_n 0, 1) := dk_42 (dk_at dksX11_goes_2 16 rfl rfl)
theorem dX11_goes_65 : decode cX11_goes 65 = .ok (.getfield 42, 3) := dk_180 0 42 (dk_at dksX11_goes_2 17 rfl rfl)
theorem dX11_goes_68 : decode cX11_goes 68 = .ok (.iload 4, 2) := dk_21 4 (dk_at dksX11_goes_2 20 rfl rfl)
theorem dX11_goes_70 : decode cX11_goes 70 = .ok (.invokestatic 45, 3) := dk_184 0 45 (dk_at dksX11_goes_3 0 rfl rfl)
theorem dX11_goes_73 : decode cX11_goes 73 = .ok (.putfield 42, 3) := dk_181 0 42 (dk_at dksX11_goes_3 3 rfl rfl)
theorem dX11_goes_76 : decode cX11_goes 76 = .ok (.iconst 0, 1) := dk_3 (dk_at dksX11_goes_3 6 rfl rfl)
theorem dX11_goes_77 : decode cX11_goes 77 = .ok (.ireturn, 1) := dk_172 (dk_at dksX11_goes_3 7 rfl rfl)
theorem dX11_goes_78 : decode cX11_goes 78 = .ok (.aload_n 0, 1) := dk_42 (dk_at dksX11_goes_3 8 rfl rfl)
theorem dX11_goes_79 : decode cX11_goes 79 = .ok (.getfield 3, 3) := dk_180 0 3 (dk_at dksX11_goes_3 9 rfl rfl)
theorem dX11_goes_82 : decode cX11_goes 82 = .ok (.getfield 51, 3) := dk_180 0 51 (dk_at dksX11_goes_3 12 rfl rfl)
theorem dX11_goes_85 : decode cX11_goes 85 = .ok (.aload_n 1, 1) := dk_43 (dk_at dksX11_goes_3 15 rfl rfl)
theorem dX11_goes_86 : decode cX11_goes 86 = .ok (.invokevirtual 55, 3) := dk_182 0 55 (dk_at dksX11_goes_3 16 rfl rfl)
theorem dX11_goes_89 : decode cX11_goes 89 = .ok (.ifCond .eq 13, 3) := dk_153 0 13 (dk_at dksX11_goes_3 19 rfl rfl)
theorem dX11_goes_92 : decode cX11_goes 92 = .ok (.aload_n 0, 1) := dk_42 (dk_at dksX11_goes_3 22 rfl rfl)
theorem dX11_goes_93 : decode cX11_goes 93 = .ok (.getfield 18, 3) := dk_180 0 18 (dk_at dksX11_goes_4 0 rfl rfl)
theorem dX11_goes_96 : decode cX11_goes 96 = .ok (.iload_n 2, 1) := dk_28 (dk_at dksX11_goes_4 3 rfl rfl)
theorem dX11_goes_97 : decode cX11_goes 97 = .ok (.putfield 61, 3) := dk_181 0 61 (dk_at dksX11_goes_4 4 rfl rfl)
theorem dX11_goes_100 : decode cX11_goes 100 = .ok (.iconst 1, 1) := dk_4 (dk_at dksX11_goes_4 7 rfl rfl)
theorem dX11_goes_101 : decode cX11_goes 101 = .ok (.ireturn, 1) := dk_172 (dk_at dksX11_goes_4 8 rfl rfl)
theorem dX11_goes_102 : decode cX11_goes 102 = .ok (.iconst 0, 1) := dk_3 (dk_at dksX11_goes_4 9 rfl rfl)
theorem dX11_goes_103 : decode cX11_goes 103 = .ok (.istore 5, 2) := dk_54 5 (dk_at dksX11_goes_4 10 rfl rfl)
theorem dX11_goes_105 : decode cX11_goes 105 = .ok (.iload 5, 2) := dk_21 5 (dk_at dksX11_goes_4 12 rfl rfl)
theorem dX11_goes_107 : decode cX11_goes 107 = .ok (.iconst 3, 1) := dk_6 (dk_at dksX11_goes_4 14 rfl rfl)
theorem dX11_goes_108 : decode cX11_goes 108 = .ok (.if_icmp .gt 114, 3) := dk_163 0 114 (dk_at dksX11_goes_4 15 rfl rfl)
theorem dX11_goes_111 : decode cX11_goes 111 = .ok (.aload_n 1, 1) := dk_43 (dk_at dksX11_goes_4 18 rfl rfl)
theorem dX11_goes_112 : decode cX11_goes 112 = .ok (.iload 5, 2) := dk_21 5 (dk_at dksX11_goes_4 19 rfl rfl)
theorem dX11_goes_114 : decode cX11_goes 114 = .ok (.invokevirtual 64, 3) := dk_182 0 64 (dk_at dksX11_goes_4 21 rfl rfl)
theorem dX11_goes_117 : decode cX11_goes 117 = .ok (.istore 6, 2) := dk_54 6 (dk_at dksX11_goes_5 0 rfl rfl)
theorem dX11_goes_119 : decode cX11_goes 119 = .ok (.iload 6, 2) := dk_21 6 (dk_at dksX11_goes_5 2 rfl rfl)
theorem dX11_goes_121 : decode cX11_goes 121 = .ok (.ifCond .le 95, 3) := dk_158 0 95 (dk_at dksX11_goes_5 4 rfl rfl)
theorem dX11_goes_124 : decode cX11_goes 124 = .ok (.iload 5, 2) := dk_21 5 (dk_at dksX11_goes_5 7 rfl rfl)
theorem dX11_goes_126 : decode cX11_goes 126 = .ok (.iload_n 3, 1) := dk_29 (dk_at dksX11_goes_5 9 rfl rfl)
theorem dX11_goes_127 : decode cX11_goes 127 = .ok (.if_icmp .eq 89, 3) := dk_159 0 89 (dk_at dksX11_goes_5 10 rfl rfl)
theorem dX11_goes_130 : decode cX11_goes 130 = .ok (.aload_n 0, 1) := dk_42 (dk_at dksX11_goes_5 13 rfl rfl)
theorem dX11_goes_131 : decode cX11_goes 131 = .ok (.getfield 18, 3) := dk_180 0 18 (dk_at dksX11_goes_5 14 rfl rfl)
theorem dX11_goes_134 : decode cX11_goes 134 = .ok (.getfield 70, 3) := dk_180 0 70 (dk_at dksX11_goes_5 17 rfl rfl)
theorem dX11_goes_137 : decode cX11_goes 137 = .ok (.iload 5, 2) := dk_21 5 (dk_at dksX11_goes_5 20 rfl rfl)
theorem dX11_goes_139 : decode cX11_goes 139 = .ok (.invokestatic 74, 3) := dk_184 0 74 (dk_at dksX11_goes_6 0 rfl rfl)
theorem dX11_goes_142 : decode cX11_goes 142 = .ok (.invokeinterface 80 2, 5) := by decide +kernel
theorem dX11_goes_147 : decode cX11_goes 147 = .ok (.pop, 1) := dk_87 (dk_at dksX11_goes_6 8 rfl rfl)
theorem dX11_goes_148 : decode cX11_goes 148 = .ok (.aload_n 0, 1) := dk_42 (dk_at dksX11_goes_6 9 rfl rfl)
theorem dX11_goes_149 : decode cX11_goes 149 = .ok (.aload_n 1, 1) := dk_43 (dk_at dksX11_goes_6 10 rfl rfl)
theorem dX11_goes_150 : decode cX11_goes 150 = .ok (.iload 5, 2) := dk_21 5 (dk_at dksX11_goes_6 11 rfl rfl)
theorem dX11_goes_152 : decode cX11_goes 152 = .ok (.invokevirtual 86, 3) := dk_182 0 86 (dk_at dksX11_goes_6 13 rfl rfl)
theorem dX11_goes_155 : decode cX11_goes 155 = .ok (.iload_n 2, 1) := dk_28 (dk_at dksX11_goes_6 16 rfl rfl)
theorem dX11_goes_156 : decode cX11_goes 156 = .ok (.aload_n 0, 1) := dk_42 (dk_at dksX11_goes_6 17 rfl rfl)
theorem dX11_goes_157 : decode cX11_goes 157 = .ok (.getfield 3, 3) := dk_180 0 3 (dk_at dksX11_goes_6 18 rfl rfl)
theorem dX11_goes_160 : decode cX11_goes 160 = .ok (.getfield 51, 3) := dk_180 0 51 (dk_at dksX11_goes_6 21 rfl rfl)
theorem dX11_goes_163 : decode cX11_goes 163 = .ok (.getfield 90, 3) := dk_180 0 90 (dk_at dksX11_goes_7 0 rfl rfl)
theorem dX11_goes_166 : decode cX11_goes 166 = .ok (.iload 6, 2) := dk_21 6 (dk_at dksX11_goes_7 3 rfl rfl)
theorem dX11_goes_168 : decode cX11_goes 168 = .ok (.iaload, 1) := dk_46 (dk_at dksX11_goes_7 5 rfl rfl)
theorem dX11_goes_169 : decode cX11_goes 169 = .ok (.iadd, 1) := dk_96 (dk_at dksX11_goes_7 6 rfl rfl)
theorem dX11_goes_170 : decode cX11_goes 170 = .ok (.iconst 3, 1) := dk_6 (dk_at dksX11_goes_7 7 rfl rfl)
theorem dX11_goes_171 : decode cX11_goes 171 = .ok (.iload 5, 2) := dk_21 5 (dk_at dksX11_goes_7 8 rfl rfl)
theorem dX11_goes_173 : decode cX11_goes 173 = .ok (.isub, 1) := dk_100 (dk_at dksX11_goes_7 10 rfl rfl)
theorem dX11_goes_174 : decode cX11_goes 174 = .ok (.invokevirtual 94, 3) := dk_182 0 94 (dk_at dksX11_goes_7 11 rfl rfl)
theorem dX11_goes_177 : decode cX11_goes 177 = .ok (.ifCond .eq 5, 3) := dk_153 0 5 (dk_at dksX11_goes_7 14 rfl rfl)
theorem dX11_goes_180 : decode cX11_goes 180 = .ok (.iconst 1, 1) := dk_4 (dk_at dksX11_goes_7 17 rfl rfl)
theorem dX11_goes_181 : decode cX11_goes 181 = .ok (.ireturn, 1) := dk_172 (dk_at dksX11_goes_7 18 rfl rfl)
theorem dX11_goes_182 : decode cX11_goes 182 = .ok (.aload_n 0, 1) := dk_42 (dk_at dksX11_goes_7 19 rfl rfl)
theorem dX11_goes_183 : decode cX11_goes 183 = .ok (.getfield 18, 3) := dk_180 0 18 (dk_at dksX11_goes_7 20 rfl rfl)
theorem dX11_goes_186 : decode cX11_goes 186 = .ok (.getfield 70, 3) := dk_180 0 70 (dk_at dksX11_goes_8 0 rfl rfl)
theorem dX11_goes_189 : decode cX11_goes 189 = .ok (.aload_n 0, 1) := dk_42 (dk_at dksX11_goes_8 3 rfl rfl)
theorem dX11_goes_190 : decode cX11_goes 190 = .ok (.getfield 18, 3) := dk_180 0 18 (dk_at dksX11_goes_8 4 rfl rfl)
theorem dX11_goes_193 : decode cX11_goes 193 = .ok (.getfield 70, 3) := dk_180 0 70 (dk_at dksX11_goes_8 7 rfl rfl)
theorem dX11_goes_196 : decode cX11_goes 196 = .ok (.invokeinterface 98 1, 5) := by decide +kernel
theorem dX11_goes_201 : decode cX11_goes 201 = .ok (.iconst 1, 1) := dk_4 (dk_at dksX11_goes_8 15 rfl rfl)
theorem dX11_goes_202 : decode cX11_goes 202 = .ok (.isub, 1) := dk_100 (dk_at dksX11_goes_8 16 rfl rfl)
theorem dX11_goes_203 : decode cX11_goes 203 = .ok (.invokeinterface 102 2, 5) := by decide +kernel
theorem dX11_goes_208 : decode cX11_goes 208 = .ok (.checkcast 75, 3) := dk_192 0 75 (dk_at dksX11_goes_9 0 rfl rfl)
theorem dX11_goes_211 : decode cX11_goes 211 = .ok (.invokevirtual 106, 3) := dk_182 0 106 (dk_at dksX11_goes_9 3 rfl rfl)
theorem dX11_goes_214 : decode cX11_goes 214 = .ok (.istore 7, 2) := dk_54 7 (dk_at dksX11_goes_9 6 rfl rfl)
theorem dX11_goes_216 : decode cX11_goes 216 = .ok (.iinc 5 1, 3) := dk_132 5 1 (dk_at dksX11_goes_9 8 rfl rfl)
theorem dX11_goes_219 : decode cX11_goes 219 = .ok (.goto (-114), 3) := dk_167 255 142 (dk_at dksX11_goes_9 11 rfl rfl)
theorem dX11_goes_222 : decode cX11_goes 222 = .ok (.iconst 0, 1) := dk_3 (dk_at dksX11_goes_9 14 rfl rfl)
theorem dX11_goes_223 : decode cX11_goes 223 = .ok (.ireturn, 1) := dk_172 (dk_at dksX11_goes_9 15 rfl rfl)
theorem q156 : (Jvm.Cond.initialized "Slidingtray$Depth") ∈ lw_all := lw_g (lw_at lw_m1 55 rfl) rfl
theorem q290 : (Jvm.Cond.selects "Slidingtray$Depth" ({ cls := "java/lang/Object", name := "getClass", desc := "()Ljava/lang/Class;" } : Jvm.MethodName) ({ cls := "java/lang/Object", name := "getClass", desc := "()Ljava/lang/Class;" } : Jvm.MethodName)) ∈ lw_all := lw_g (lw_at lw_m1 189 rfl) rfl
theorem q745 : (Jvm.Cond.selects "Slidingtray$Depth" ({ cls := "java/lang/Object", name := "equals", desc := "(Ljava/lang/Object;)Z" } : Jvm.MethodName) ({ cls := "java/lang/Object", name := "equals", desc := "(Ljava/lang/Object;)Z" } : Jvm.MethodName)) ∈ lw_all := lw_g (lw_at lw_m3 164 rfl) rfl
theorem q1085 : (Jvm.Cond.fieldLinkNest "Slidingtray$Depth" (90 : Nat) "Slidingtray$Aim" "weights" "[I" "Slidingtray") ∈ lw_tbl := lw_at lw_m5 24 rfl
theorem q1112 : (Jvm.Cond.fieldLinkNest "Slidingtray$Depth" (61 : Nat) "Slidingtray$Found" "cost" "I" "Slidingtray") ∈ lw_tbl := lw_at lw_m5 51 rfl
theorem q1114 : (Jvm.Cond.fieldLinkNest "Slidingtray$Depth" (26 : Nat) "Slidingtray$Found" "taken" "I" "Slidingtray") ∈ lw_tbl := lw_at lw_m5 53 rfl
theorem q1116 : (Jvm.Cond.fieldLinkNest "Slidingtray$Depth" (109 : Nat) "Slidingtray$Found" "rounds" "I" "Slidingtray") ∈ lw_tbl := lw_at lw_m5 55 rfl
theorem q1119 : (Jvm.Cond.fieldLinkNest "Slidingtray$Depth" (70 : Nat) "Slidingtray$Found" "way" "Ljava/util/List;" "Slidingtray") ∈ lw_tbl := lw_at lw_m5 58 rfl
theorem q1137 : (Jvm.Cond.fieldLinkNest "Slidingtray$Depth" (51 : Nat) "Slidingtray" "aim" "LSlidingtray$Aim;" "Slidingtray") ∈ lw_tbl := lw_at lw_m5 76 rfl
theorem q1143 : (Jvm.Cond.fieldLinkNest "Slidingtray$Depth" (29 : Nat) "Slidingtray" "limit" "I" "Slidingtray") ∈ lw_tbl := lw_at lw_m5 82 rfl
theorem q1954 : (Jvm.Cond.instantiable "Slidingtray$Depth" (5 : Nat)) ∈ lw_all := lw_g (lw_at lw_m8 173 rfl) rfl
theorem q1956 : (Jvm.Cond.instanceMethod ({ cls := "Slidingtray$Depth", name := "<init>", desc := "(LSlidingtray;I)V" } : Jvm.MethodName)) ∈ lw_all := lw_g (lw_at lw_m8 175 rfl) rfl
theorem q1957 : (Jvm.Cond.code ({ cls := "Slidingtray$Depth", name := "<init>", desc := "(LSlidingtray;I)V" } : Jvm.MethodName) prog_5_method_1_code (3 : Nat) (Option.none : Option Jvm.ClassFile.FieldType)) ∈ lw_all := lw_g (lw_at lw_m8 176 rfl) rfl
theorem q1958 : (Jvm.Cond.methodLink "Slidingtray$Depth" (9 : Nat) ({ cls := "java/lang/Object", name := "<init>", desc := "()V" } : Jvm.MethodName)) ∈ lw_all := lw_g (lw_at lw_m8 177 rfl) rfl
theorem q1959 : (Jvm.Cond.classLink "Slidingtray$Depth" (15 : Nat) "Slidingtray$Found") ∈ lw_all := lw_g (lw_at lw_m8 178 rfl) rfl
theorem q1960 : (Jvm.Cond.methodLinkNest "Slidingtray$Depth" (17 : Nat) ({ cls := "Slidingtray$Found", name := "<init>", desc := "()V" } : Jvm.MethodName) "Slidingtray") ∈ lw_tbl := lw_at lw_m8 179 rfl
theorem q1961 : (Jvm.Cond.fieldLink "Slidingtray$Depth" (22 : Nat) "Slidingtray$Depth" "estimate" "I") ∈ lw_all := lw_g (lw_at lw_m8 180 rfl) rfl
theorem q1962 : (Jvm.Cond.fieldLink "Slidingtray$Depth" (18 : Nat) "Slidingtray$Depth" "made" "LSlidingtray$Found;") ∈ lw_all := lw_g (lw_at lw_m8 181 rfl) rfl
theorem q1963 : (Jvm.Cond.fieldLink "Slidingtray$Depth" (39 : Nat) "Slidingtray$Depth" "bound" "I") ∈ lw_all := lw_g (lw_at lw_m8 182 rfl) rfl
theorem q1964 : (Jvm.Cond.fieldLink "Slidingtray$Depth" (42 : Nat) "Slidingtray$Depth" "next" "I") ∈ lw_all := lw_g (lw_at lw_m8 183 rfl) rfl
theorem q1965 : (Jvm.Cond.fieldLink "Slidingtray$Depth" (3 : Nat) "Slidingtray$Depth" "this$0" "LSlidingtray;") ∈ lw_all := lw_g (lw_at lw_m8 184 rfl) rfl
theorem q1966 : (Jvm.Cond.laysFinal "Slidingtray$Depth" "Slidingtray$Depth" "estimate" "I") ∈ lw_all := lw_g (lw_at lw_m8 185 rfl) rfl
theorem q1967 : (Jvm.Cond.soleField "Slidingtray$Depth" "estimate") ∈ lw_all := lw_g (lw_at lw_m8 186 rfl) rfl
theorem q1968 : (Jvm.Cond.laysFinal "Slidingtray$Depth" "Slidingtray$Depth" "made" "LSlidingtray$Found;") ∈ lw_all := lw_g (lw_at lw_m8 187 rfl) rfl
theorem q1969 : (Jvm.Cond.soleField "Slidingtray$Depth" "made") ∈ lw_all := lw_g (lw_at lw_m8 188 rfl) rfl
theorem q1970 : (Jvm.Cond.lays "Slidingtray$Depth" "Slidingtray$Depth" "bound" "I") ∈ lw_all := lw_g (lw_at lw_m8 189 rfl) rfl
theorem q1971 : (Jvm.Cond.soleField "Slidingtray$Depth" "bound") ∈ lw_all := lw_g (lw_at lw_m8 190 rfl) rfl
theorem q1972 : (Jvm.Cond.lays "Slidingtray$Depth" "Slidingtray$Depth" "next" "I") ∈ lw_all := lw_g (lw_at lw_m8 191 rfl) rfl
theorem q1973 : (Jvm.Cond.soleField "Slidingtray$Depth" "next") ∈ lw_all := lw_g (lw_at lw_m8 192 rfl) rfl
theorem q1974 : (Jvm.Cond.laysFinal "Slidingtray$Depth" "Slidingtray$Depth" "this$0" "LSlidingtray;") ∈ lw_all := lw_g (lw_at lw_m8 193 rfl) rfl
theorem q1975 : (Jvm.Cond.soleField "Slidingtray$Depth" "this$0") ∈ lw_all := lw_g (lw_at lw_m8 194 rfl) rfl
theorem q1976 : (Jvm.Cond.superclass "Slidingtray$Depth" "java/lang/Object") ∈ lw_all := lw_g (lw_at lw_m8 195 rfl) rfl
theorem q1978 : (Jvm.Cond.instanceMethod ({ cls := "Slidingtray$Depth", name := "search", desc := "(LSlidingtray$Lie;)LSlidingtray$Found;" } : Jvm.MethodName)) ∈ lw_all := lw_g (lw_at lw_m8 197 rfl) rfl
theorem q1979 : (Jvm.Cond.selects "Slidingtray$Depth" ({ cls := "Slidingtray$Depth", name := "search", desc := "(LSlidingtray$Lie;)LSlidingtray$Found;" } : Jvm.MethodName) ({ cls := "Slidingtray$Depth", name := "search", desc := "(LSlidingtray$Lie;)LSlidingtray$Found;" } : Jvm.MethodName)) ∈ lw_all := lw_g (lw_at lw_m8 198 rfl) rfl
theorem q1980 : (Jvm.Cond.code ({ cls := "Slidingtray$Depth", name := "search", desc := "(LSlidingtray$Lie;)LSlidingtray$Found;" } : Jvm.MethodName) prog_5_method_3_code (3 : Nat) (Option.some (Jvm.ClassFile.FieldType.object "Slidingtray$Found"))) ∈ lw_all := lw_g (lw_at lw_m8 199 rfl) rfl
theorem q1981 : (Jvm.Cond.methodLinkNest "Slidingtray$Depth" (35 : Nat) ({ cls := "Slidingtray", name := "estimateOf", desc := "(LSlidingtray$Lie;I)I" } : Jvm.MethodName) "Slidingtray") ∈ lw_tbl := lw_at lw_m8 200 rfl
theorem q1982 : (Jvm.Cond.constant "Slidingtray$Depth" (112 : Nat) (1000000 : Int32)) ∈ lw_all := lw_g (lw_at lw_m8 201 rfl) rfl
theorem q1983 : (Jvm.Cond.methodLink "Slidingtray$Depth" (94 : Nat) ({ cls := "Slidingtray$Depth", name := "goes", desc := "(LSlidingtray$Lie;II)Z" } : Jvm.MethodName)) ∈ lw_all := lw_g (lw_at lw_m8 202 rfl) rfl
theorem q1984 : (Jvm.Cond.privateMethod ({ cls := "Slidingtray$Depth", name := "goes", desc := "(LSlidingtray$Lie;II)Z" } : Jvm.MethodName)) ∈ lw_tbl := lw_at lw_m8 203 rfl
theorem q1985 : (Jvm.Cond.instanceMethod ({ cls := "Slidingtray$Depth", name := "goes", desc := "(LSlidingtray$Lie;II)Z" } : Jvm.MethodName)) ∈ lw_all := lw_g (lw_at lw_m8 204 rfl) rfl
theorem q1986 : (Jvm.Cond.code ({ cls := "Slidingtray$Depth", name := "goes", desc := "(LSlidingtray$Lie;II)Z" } : Jvm.MethodName) prog_5_method_2_code (8 : Nat) (Option.some Jvm.ClassFile.FieldType.boolean)) ∈ lw_all := lw_g (lw_at lw_m8 205 rfl) rfl
theorem q1987 : (Jvm.Cond.classLink "Slidingtray$Depth" (32 : Nat) "Slidingtray$Beyond") ∈ lw_all := lw_g (lw_at lw_m8 206 rfl) rfl
theorem q1988 : (Jvm.Cond.methodLink "Slidingtray$Depth" (34 : Nat) ({ cls := "Slidingtray$Beyond", name := "<init>", desc := "()V" } : Jvm.MethodName)) ∈ lw_all := lw_g (lw_at lw_m8 207 rfl) rfl
theorem q1989 : (Jvm.Cond.methodLink "Slidingtray$Depth" (45 : Nat) ({ cls := "java/lang/Math", name := "min", desc := "(II)I" } : Jvm.MethodName)) ∈ lw_all := lw_g (lw_at lw_m8 208 rfl) rfl
theorem q1990 : (Jvm.Cond.methodLink "Slidingtray$Depth" (55 : Nat) ({ cls := "Slidingtray$Aim", name := "isGoal", desc := "(LSlidingtray$Lie;)Z" } : Jvm.MethodName)) ∈ lw_all := lw_g (lw_at lw_m8 209 rfl) rfl
theorem q1991 : (Jvm.Cond.methodLink "Slidingtray$Depth" (64 : Nat) ({ cls := "Slidingtray$Lie", name := "moves", desc := "(I)I" } : Jvm.MethodName)) ∈ lw_all := lw_g (lw_at lw_m8 210 rfl) rfl
theorem q1992 : (Jvm.Cond.methodLink "Slidingtray$Depth" (74 : Nat) ({ cls := "java/lang/Integer", name := "valueOf", desc := "(I)Ljava/lang/Integer;" } : Jvm.MethodName)) ∈ lw_all := lw_g (lw_at lw_m8 211 rfl) rfl
theorem q1993 : (Jvm.Cond.interfaceEntry "Slidingtray$Depth" (80 : Nat)) ∈ lw_tbl := lw_at lw_m8 212 rfl
theorem q1994 : (Jvm.Cond.methodLink "Slidingtray$Depth" (80 : Nat) ({ cls := "java/util/List", name := "add", desc := "(Ljava/lang/Object;)Z" } : Jvm.MethodName)) ∈ lw_all := lw_g (lw_at lw_m8 213 rfl) rfl
theorem q1995 : (Jvm.Cond.methodLink "Slidingtray$Depth" (86 : Nat) ({ cls := "Slidingtray$Lie", name := "moved", desc := "(I)LSlidingtray$Lie;" } : Jvm.MethodName)) ∈ lw_all := lw_g (lw_at lw_m8 214 rfl) rfl
theorem q1996 : (Jvm.Cond.interfaceEntry "Slidingtray$Depth" (98 : Nat)) ∈ lw_tbl := lw_at lw_m8 215 rfl
theorem q1997 : (Jvm.Cond.methodLink "Slidingtray$Depth" (98 : Nat) ({ cls := "java/util/List", name := "size", desc := "()I" } : Jvm.MethodName)) ∈ lw_all := lw_g (lw_at lw_m8 216 rfl) rfl
theorem q1998 : (Jvm.Cond.interfaceEntry "Slidingtray$Depth" (102 : Nat)) ∈ lw_tbl := lw_at lw_m8 217 rfl
theorem q1999 : (Jvm.Cond.methodLink "Slidingtray$Depth" (102 : Nat) ({ cls := "java/util/List", name := "remove", desc := "(I)Ljava/lang/Object;" } : Jvm.MethodName)) ∈ lw_all := lw_g (lw_at lw_m8 218 rfl) rfl
theorem q2000 : (Jvm.Cond.classLink "Slidingtray$Depth" (75 : Nat) "java/lang/Integer") ∈ lw_all := lw_g (lw_at lw_m8 219 rfl) rfl
theorem q2001 : (Jvm.Cond.methodLink "Slidingtray$Depth" (106 : Nat) ({ cls := "java/lang/Integer", name := "intValue", desc := "()I" } : Jvm.MethodName)) ∈ lw_all := lw_g (lw_at lw_m8 220 rfl) rfl
theorem q3320 : (Jvm.Cond.castable "Slidingtray$Depth" "java/lang/Object") ∈ lw_tbl := lw_at lw_m14 99 rfl
theorem in_X11 : ∀ w ∈ wsX110, w ∈ lw_all := lw_in wsX110 [1966, 1968, 1970, 1972, 1974] (by decide +kernel) (by decide +kernel)
/-! Slidingtray$Rings -/
set_option maxRecDepth 100000
def RX12 : String := "Slidingtray$Rings"
def TX12 : u_T := fun k => match k with
  | 0 => ("Slidingtray$Rings", "all", "Ljava/util/TreeSet;", true)
  | _ => ("Slidingtray$Rings", "ring", "Ljava/util/List;", false)
def tyX12 : Nat → FieldType := fun k => match k with
  | 0 => .object "java/util/TreeSet"
  | _ => .object "java/util/List"
abbrev wsX120 : List Cond := u_ws RX12 TX12 2
theorem nmX12 : ∀ a, a < 2 → ∀ b, b < 2 → a ≠ b → (TX12 a).2.1 ≠ (TX12 b).2.1 := by decide +kernel
theorem tyX12_ok : ∀ k, k < 2 → parseFieldDescriptor (TX12 k).2.2.1 = some (tyX12 k) := by decide +kernel
abbrev cX12_init : ByteArray := prog_11_method_1_code
def yX12_init : MethodName := ⟨RX12, "<init>", "(LSlidingtray$Lie;)V"⟩
def dkwX12_init_2 : List UInt8 := [185, 0, 41, 2, 0, 87, 177]
abbrev dktX12_init_2 : List UInt8 := dkwX12_init_2 ++ []
def dkwX12_init_1 : List UInt8 := [181, 0, 21, 42, 180, 0, 12, 43, 182, 0, 25, 184, 0, 31, 182, 0, 37, 87, 42, 180, 0, 21, 43]
abbrev dktX12_init_1 : List UInt8 := dkwX12_init_1 ++ dktX12_init_2
def dkwX12_init_0 : List UInt8 := [42, 183, 0, 3, 42, 187, 0, 9, 89, 183, 0, 11, 181, 0, 12, 42, 187, 0, 18, 89, 183, 0, 20]
abbrev dktX12_init_0 : List UInt8 := dkwX12_init_0 ++ dktX12_init_1
theorem dksX12_init_0 : cX12_init.data.toList.drop 0 = dktX12_init_0 := by decide +kernel
theorem dksX12_init_1 : cX12_init.data.toList.drop 23 = dktX12_init_1 := dk_seg dksX12_init_0 23 rfl rfl
theorem dksX12_init_2 : cX12_init.data.toList.drop 46 = dktX12_init_2 := dk_seg dksX12_init_1 23 rfl rfl
theorem dX12_init_0 : decode cX12_init 0 = .ok (.aload_n 0, 1) := dk_42 (dk_at dksX12_init_0 0 rfl rfl)
theorem dX12_init_1 : decode cX12_init 1 = .ok (.invokespecial 3, 3) := dk_183 0 3 (dk_at dksX12_init_0 1 rfl rfl)
theorem dX12_init_4 : decode cX12_init 4 = .ok (.aload_n 0, 1) := dk_42 (dk_at dksX12_init_0 4 rfl rfl)
theorem dX12_init_5 : decode cX12_init 5 = .ok (.new 9, 3) := dk_187 0 9 (dk_at dksX12_init_0 5 rfl rfl)
theorem dX12_init_8 : decode cX12_init 8 = .ok (.dup, 1) := dk_89 (dk_at dksX12_init_0 8 rfl rfl)
theorem dX12_init_9 : decode cX12_init 9 = .ok (.invokespecial 11, 3) := dk_183 0 11 (dk_at dksX12_init_0 9 rfl rfl)
theorem dX12_init_12 : decode cX12_init 12 = .ok (.putfield 12, 3) := dk_181 0 12 (dk_at dksX12_init_0 12 rfl rfl)
theorem dX12_init_15 : decode cX12_init 15 = .ok (.aload_n 0, 1) := dk_42 (dk_at dksX12_init_0 15 rfl rfl)
theorem dX12_init_16 : decode cX12_init 16 = .ok (.new 18, 3) := dk_187 0 18 (dk_at dksX12_init_0 16 rfl rfl)
theorem dX12_init_19 : decode cX12_init 19 = .ok (.dup, 1) := dk_89 (dk_at dksX12_init_0 19 rfl rfl)
theorem dX12_init_20 : decode cX12_init 20 = .ok (.invokespecial 20, 3) := dk_183 0 20 (dk_at dksX12_init_0 20 rfl rfl)
theorem dX12_init_23 : decode cX12_init 23 = .ok (.putfield 21, 3) := dk_181 0 21 (dk_at dksX12_init_1 0 rfl rfl)
theorem dX12_init_26 : decode cX12_init 26 = .ok (.aload_n 0, 1) := dk_42 (dk_at dksX12_init_1 3 rfl rfl)
theorem dX12_init_27 : decode cX12_init 27 = .ok (.getfield 12, 3) := dk_180 0 12 (dk_at dksX12_init_1 4 rfl rfl)
theorem dX12_init_30 : decode cX12_init 30 = .ok (.aload_n 1, 1) := dk_43 (dk_at dksX12_init_1 7 rfl rfl)
theorem dX12_init_31 : decode cX12_init 31 = .ok (.invokevirtual 25, 3) := dk_182 0 25 (dk_at dksX12_init_1 8 rfl rfl)
theorem dX12_init_34 : decode cX12_init 34 = .ok (.invokestatic 31, 3) := dk_184 0 31 (dk_at dksX12_init_1 11 rfl rfl)
theorem dX12_init_37 : decode cX12_init 37 = .ok (.invokevirtual 37, 3) := dk_182 0 37 (dk_at dksX12_init_1 14 rfl rfl)
theorem dX12_init_40 : decode cX12_init 40 = .ok (.pop, 1) := dk_87 (dk_at dksX12_init_1 17 rfl rfl)
theorem dX12_init_41 : decode cX12_init 41 = .ok (.aload_n 0, 1) := dk_42 (dk_at dksX12_init_1 18 rfl rfl)
theorem dX12_init_42 : decode cX12_init 42 = .ok (.getfield 21, 3) := dk_180 0 21 (dk_at dksX12_init_1 19 rfl rfl)
theorem dX12_init_45 : decode cX12_init 45 = .ok (.aload_n 1, 1) := dk_43 (dk_at dksX12_init_1 22 rfl rfl)
theorem dX12_init_46 : decode cX12_init 46 = .ok (.invokeinterface 41 2, 5) := by decide +kernel
theorem dX12_init_51 : decode cX12_init 51 = .ok (.pop, 1) := dk_87 (dk_at dksX12_init_2 5 rfl rfl)
theorem dX12_init_52 : decode cX12_init 52 = .ok (.return_, 1) := dk_177 (dk_at dksX12_init_2 6 rfl rfl)
abbrev cX12_meets : ByteArray := prog_11_method_3_code
def yX12_meets : MethodName := ⟨RX12, "meets", "(LSlidingtray$Rings;)Z"⟩
def dkwX12_meets_2 : List UInt8 := [184, 0, 31, 182, 0, 66, 153, 0, 7, 4, 167, 0, 4, 3, 61, 167, 255, 208, 28, 172]
abbrev dktX12_meets_2 : List UInt8 := dkwX12_meets_2 ++ []
def dkwX12_meets_1 : List UInt8 := [185, 0, 54, 1, 0, 192, 0, 26, 58, 4, 28, 154, 0, 21, 43, 180, 0, 12, 25, 4, 182, 0, 25]
abbrev dktX12_meets_1 : List UInt8 := dkwX12_meets_1 ++ dktX12_meets_2
def dkwX12_meets_0 : List UInt8 := [3, 61, 42, 180, 0, 21, 185, 0, 44, 1, 0, 78, 45, 185, 0, 48, 1, 0, 153, 0, 45, 45]
abbrev dktX12_meets_0 : List UInt8 := dkwX12_meets_0 ++ dktX12_meets_1
theorem dksX12_meets_0 : cX12_meets.data.toList.drop 0 = dktX12_meets_0 := by decide +kernel
theorem dksX12_meets_1 : cX12_meets.data.toList.drop 22 = dktX12_meets_1 := dk_seg dksX12_meets_0 22 rfl rfl
theorem dksX12_meets_2 : cX12_meets.data.toList.drop 45 = dktX12_meets_2 := dk_seg dksX12_meets_1 23 rfl rfl
theorem dX12_meets_0 : decode cX12_meets 0 = .ok (.iconst 0, 1) := dk_3 (dk_at dksX12_meets_0 0 rfl rfl)
theorem dX12_meets_1 : decode cX12_meets 1 = .ok (.istore_n 2, 1) := dk_61 (dk_at dksX12_meets_0 1 rfl rfl)
theorem dX12_meets_2 : decode cX12_meets 2 = .ok (.aload_n 0, 1) := dk_42 (dk_at dksX12_meets_0 2 rfl rfl)
theorem dX12_meets_3 : decode cX12_meets 3 = .ok (.getfield 21, 3) := dk_180 0 21 (dk_at dksX12_meets_0 3 rfl rfl)
theorem dX12_meets_6 : decode cX12_meets 6 = .ok (.invokeinterface 44 1, 5) := by decide +kernel
theorem dX12_meets_11 : decode cX12_meets 11 = .ok (.astore_n 3, 1) := dk_78 (dk_at dksX12_meets_0 11 rfl rfl)
theorem dX12_meets_12 : decode cX12_meets 12 = .ok (.aload_n 3, 1) := dk_45 (dk_at dksX12_meets_0 12 rfl rfl)
theorem dX12_meets_13 : decode cX12_meets 13 = .ok (.invokeinterface 48 1, 5) := by decide +kernel
theorem dX12_meets_18 : decode cX12_meets 18 = .ok (.ifCond .eq 45, 3) := dk_153 0 45 (dk_at dksX12_meets_0 18 rfl rfl)
theorem dX12_meets_21 : decode cX12_meets 21 = .ok (.aload_n 3, 1) := dk_45 (dk_at dksX12_meets_0 21 rfl rfl)
theorem dX12_meets_22 : decode cX12_meets 22 = .ok (.invokeinterface 54 1, 5) := by decide +kernel
theorem dX12_meets_27 : decode cX12_meets 27 = .ok (.checkcast 26, 3) := dk_192 0 26 (dk_at dksX12_meets_1 5 rfl rfl)
theorem dX12_meets_30 : decode cX12_meets 30 = .ok (.astore 4, 2) := dk_58 4 (dk_at dksX12_meets_1 8 rfl rfl)
theorem dX12_meets_32 : decode cX12_meets 32 = .ok (.iload_n 2, 1) := dk_28 (dk_at dksX12_meets_1 10 rfl rfl)
theorem dX12_meets_33 : decode cX12_meets 33 = .ok (.ifCond .ne 21, 3) := dk_154 0 21 (dk_at dksX12_meets_1 11 rfl rfl)
theorem dX12_meets_36 : decode cX12_meets 36 = .ok (.aload_n 1, 1) := dk_43 (dk_at dksX12_meets_1 14 rfl rfl)
theorem dX12_meets_37 : decode cX12_meets 37 = .ok (.getfield 12, 3) := dk_180 0 12 (dk_at dksX12_meets_1 15 rfl rfl)
theorem dX12_meets_40 : decode cX12_meets 40 = .ok (.aload 4, 2) := dk_25 4 (dk_at dksX12_meets_1 18 rfl rfl)
theorem dX12_meets_42 : decode cX12_meets 42 = .ok (.invokevirtual 25, 3) := dk_182 0 25 (dk_at dksX12_meets_1 20 rfl rfl)
theorem dX12_meets_45 : decode cX12_meets 45 = .ok (.invokestatic 31, 3) := dk_184 0 31 (dk_at dksX12_meets_2 0 rfl rfl)
theorem dX12_meets_48 : decode cX12_meets 48 = .ok (.invokevirtual 66, 3) := dk_182 0 66 (dk_at dksX12_meets_2 3 rfl rfl)
theorem dX12_meets_51 : decode cX12_meets 51 = .ok (.ifCond .eq 7, 3) := dk_153 0 7 (dk_at dksX12_meets_2 6 rfl rfl)
theorem dX12_meets_54 : decode cX12_meets 54 = .ok (.iconst 1, 1) := dk_4 (dk_at dksX12_meets_2 9 rfl rfl)
theorem dX12_meets_55 : decode cX12_meets 55 = .ok (.goto 4, 3) := dk_167 0 4 (dk_at dksX12_meets_2 10 rfl rfl)
theorem dX12_meets_58 : decode cX12_meets 58 = .ok (.iconst 0, 1) := dk_3 (dk_at dksX12_meets_2 13 rfl rfl)
theorem dX12_meets_59 : decode cX12_meets 59 = .ok (.istore_n 2, 1) := dk_61 (dk_at dksX12_meets_2 14 rfl rfl)
theorem dX12_meets_60 : decode cX12_meets 60 = .ok (.goto (-48), 3) := dk_167 255 208 (dk_at dksX12_meets_2 15 rfl rfl)
theorem dX12_meets_63 : decode cX12_meets 63 = .ok (.iload_n 2, 1) := dk_28 (dk_at dksX12_meets_2 18 rfl rfl)
theorem dX12_meets_64 : decode cX12_meets 64 = .ok (.ireturn, 1) := dk_172 (dk_at dksX12_meets_2 19 rfl rfl)
abbrev cX12_grow : ByteArray := prog_11_method_2_code
def yX12_grow : MethodName := ⟨RX12, "grow", "(I)I"⟩
def dkwX12_grow_6 : List UInt8 := [185, 0, 69, 1, 0, 172]
abbrev dktX12_grow_6 : List UInt8 := dkwX12_grow_6 ++ []
def dkwX12_grow_5 : List UInt8 := [44, 25, 6, 185, 0, 41, 2, 0, 87, 132, 5, 1, 167, 255, 167, 167, 255, 141, 42, 44, 181, 0, 21, 44]
abbrev dktX12_grow_5 : List UInt8 := dkwX12_grow_5 ++ dktX12_grow_6
def dkwX12_grow_4 : List UInt8 := [187, 0, 73, 89, 183, 0, 75, 191, 42, 180, 0, 12, 25, 6, 182, 0, 25, 184, 0, 31, 182, 0, 37, 87]
abbrev dktX12_grow_4 : List UInt8 := dkwX12_grow_4 ++ dktX12_grow_5
def dkwX12_grow_3 : List UInt8 := [25, 6, 182, 0, 25, 184, 0, 31, 182, 0, 66, 154, 0, 46, 44, 185, 0, 69, 1, 0, 27, 160, 0, 11]
abbrev dktX12_grow_3 : List UInt8 := dkwX12_grow_3 ++ dktX12_grow_4
def dkwX12_grow_2 : List UInt8 := [25, 4, 21, 5, 182, 0, 58, 158, 0, 73, 25, 4, 21, 5, 182, 0, 62, 58, 6, 42, 180, 0, 12]
abbrev dktX12_grow_2 : List UInt8 := dkwX12_grow_2 ++ dktX12_grow_3
def dkwX12_grow_1 : List UInt8 := [153, 0, 112, 45, 185, 0, 54, 1, 0, 192, 0, 26, 58, 4, 3, 54, 5, 21, 5, 6, 163, 0, 89]
abbrev dktX12_grow_1 : List UInt8 := dkwX12_grow_1 ++ dktX12_grow_2
def dkwX12_grow_0 : List UInt8 := [187, 0, 18, 89, 183, 0, 20, 77, 42, 180, 0, 21, 185, 0, 44, 1, 0, 78, 45, 185, 0, 48, 1, 0]
abbrev dktX12_grow_0 : List UInt8 := dkwX12_grow_0 ++ dktX12_grow_1
theorem dksX12_grow_0 : cX12_grow.data.toList.drop 0 = dktX12_grow_0 := by decide +kernel
theorem dksX12_grow_1 : cX12_grow.data.toList.drop 24 = dktX12_grow_1 := dk_seg dksX12_grow_0 24 rfl rfl
theorem dksX12_grow_2 : cX12_grow.data.toList.drop 47 = dktX12_grow_2 := dk_seg dksX12_grow_1 23 rfl rfl
theorem dksX12_grow_3 : cX12_grow.data.toList.drop 70 = dktX12_grow_3 := dk_seg dksX12_grow_2 23 rfl rfl
theorem dksX12_grow_4 : cX12_grow.data.toList.drop 94 = dktX12_grow_4 := dk_seg dksX12_grow_3 24 rfl rfl
theorem dksX12_grow_5 : cX12_grow.data.toList.drop 118 = dktX12_grow_5 := dk_seg dksX12_grow_4 24 rfl rfl
theorem dksX12_grow_6 : cX12_grow.data.toList.drop 142 = dktX12_grow_6 := dk_seg dksX12_grow_5 24 rfl rfl
theorem dX12_grow_0 : decode cX12_grow 0 = .ok (.new 18, 3) := dk_187 0 18 (dk_at dksX12_grow_0 0 rfl rfl)
theorem dX12_grow_3 : decode cX12_grow 3 = .ok (.dup, 1) := dk_89 (dk_at dksX12_grow_0 3 rfl rfl)
theorem dX12_grow_4 : decode cX12_grow 4 = .ok (.invokespecial 20, 3) := dk_183 0 20 (dk_at dksX12_grow_0 4 rfl rfl)
theorem dX12_grow_7 : decode cX12_grow 7 = .ok (.astore_n 2, 1) := dk_77 (dk_at dksX12_grow_0 7 rfl rfl)
theorem dX12_grow_8 : decode cX12_grow 8 = .ok (.aload_n 0, 1) := dk_42 (dk_at dksX12_grow_0 8 rfl rfl)
theorem dX12_grow_9 : decode cX12_grow 9 = .ok (.getfield 21, 3) := dk_180 0 21 (dk_at dksX12_grow_0 9 rfl rfl)
theorem dX12_grow_12 : decode cX12_grow 12 = .ok (.invokeinterface 44 1, 5) := by decide +kernel
theorem dX12_grow_17 : decode cX12_grow 17 = .ok (.astore_n 3, 1) := dk_78 (dk_at dksX12_grow_0 17 rfl rfl)
theorem dX12_grow_18 : decode cX12_grow 18 = .ok (.aload_n 3, 1) := dk_45 (dk_at dksX12_grow_0 18 rfl rfl)
theorem dX12_grow_19 : decode cX12_grow 19 = .ok (.invokeinterface 48 1, 5) := by decide +kernel
theorem dX12_grow_24 : decode cX12_grow 24 = .ok (.ifCond .eq 112, 3) := dk_153 0 112 (dk_at dksX12_grow_1 0 rfl rfl)
theorem dX12_grow_27 : decode cX12_grow 27 = .ok (.aload_n 3, 1) := dk_45 (dk_at dksX12_grow_1 3 rfl rfl)
theorem dX12_grow_28 : decode cX12_grow 28 = .ok (.invokeinterface 54 1, 5) := by decide +kernel
theorem dX12_grow_33 : decode cX12_grow 33 = .ok (.checkcast 26, 3) := dk_192 0 26 (dk_at dksX12_grow_1 9 rfl rfl)
theorem dX12_grow_36 : decode cX12_grow 36 = .ok (.astore 4, 2) := dk_58 4 (dk_at dksX12_grow_1 12 rfl rfl)
theorem dX12_grow_38 : decode cX12_grow 38 = .ok (.iconst 0, 1) := dk_3 (dk_at dksX12_grow_1 14 rfl rfl)
theorem dX12_grow_39 : decode cX12_grow 39 = .ok (.istore 5, 2) := dk_54 5 (dk_at dksX12_grow_1 15 rfl rfl)
theorem dX12_grow_41 : decode cX12_grow 41 = .ok (.iload 5, 2) := dk_21 5 (dk_at dksX12_grow_1 17 rfl rfl)
theorem dX12_grow_43 : decode cX12_grow 43 = .ok (.iconst 3, 1) := dk_6 (dk_at dksX12_grow_1 19 rfl rfl)
theorem dX12_grow_44 : decode cX12_grow 44 = .ok (.if_icmp .gt 89, 3) := dk_163 0 89 (dk_at dksX12_grow_1 20 rfl rfl)
theorem dX12_grow_47 : decode cX12_grow 47 = .ok (.aload 4, 2) := dk_25 4 (dk_at dksX12_grow_2 0 rfl rfl)
theorem dX12_grow_49 : decode cX12_grow 49 = .ok (.iload 5, 2) := dk_21 5 (dk_at dksX12_grow_2 2 rfl rfl)
theorem dX12_grow_51 : decode cX12_grow 51 = .ok (.invokevirtual 58, 3) := dk_182 0 58 (dk_at dksX12_grow_2 4 rfl rfl)
theorem dX12_grow_54 : decode cX12_grow 54 = .ok (.ifCond .le 73, 3) := dk_158 0 73 (dk_at dksX12_grow_2 7 rfl rfl)
theorem dX12_grow_57 : decode cX12_grow 57 = .ok (.aload 4, 2) := dk_25 4 (dk_at dksX12_grow_2 10 rfl rfl)
theorem dX12_grow_59 : decode cX12_grow 59 = .ok (.iload 5, 2) := dk_21 5 (dk_at dksX12_grow_2 12 rfl rfl)
theorem dX12_grow_61 : decode cX12_grow 61 = .ok (.invokevirtual 62, 3) := dk_182 0 62 (dk_at dksX12_grow_2 14 rfl rfl)
theorem dX12_grow_64 : decode cX12_grow 64 = .ok (.astore 6, 2) := dk_58 6 (dk_at dksX12_grow_2 17 rfl rfl)
theorem dX12_grow_66 : decode cX12_grow 66 = .ok (.aload_n 0, 1) := dk_42 (dk_at dksX12_grow_2 19 rfl rfl)
theorem dX12_grow_67 : decode cX12_grow 67 = .ok (.getfield 12, 3) := dk_180 0 12 (dk_at dksX12_grow_2 20 rfl rfl)
theorem dX12_grow_70 : decode cX12_grow 70 = .ok (.aload 6, 2) := dk_25 6 (dk_at dksX12_grow_3 0 rfl rfl)
theorem dX12_grow_72 : decode cX12_grow 72 = .ok (.invokevirtual 25, 3) := dk_182 0 25 (dk_at dksX12_grow_3 2 rfl rfl)
theorem dX12_grow_75 : decode cX12_grow 75 = .ok (.invokestatic 31, 3) := dk_184 0 31 (dk_at dksX12_grow_3 5 rfl rfl)
theorem dX12_grow_78 : decode cX12_grow 78 = .ok (.invokevirtual 66, 3) := dk_182 0 66 (dk_at dksX12_grow_3 8 rfl rfl)
theorem dX12_grow_81 : decode cX12_grow 81 = .ok (.ifCond .ne 46, 3) := dk_154 0 46 (dk_at dksX12_grow_3 11 rfl rfl)
theorem dX12_grow_84 : decode cX12_grow 84 = .ok (.aload_n 2, 1) := dk_44 (dk_at dksX12_grow_3 14 rfl rfl)
theorem dX12_grow_85 : decode cX12_grow 85 = .ok (.invokeinterface 69 1, 5) := by decide +kernel
theorem dX12_grow_90 : decode cX12_grow 90 = .ok (.iload_n 1, 1) := dk_27 (dk_at dksX12_grow_3 20 rfl rfl)
theorem dX12_grow_91 : decode cX12_grow 91 = .ok (.if_icmp .ne 11, 3) := dk_160 0 11 (dk_at dksX12_grow_3 21 rfl rfl)
theorem dX12_grow_94 : decode cX12_grow 94 = .ok (.new 73, 3) := dk_187 0 73 (dk_at dksX12_grow_4 0 rfl rfl)
theorem dX12_grow_97 : decode cX12_grow 97 = .ok (.dup, 1) := dk_89 (dk_at dksX12_grow_4 3 rfl rfl)
theorem dX12_grow_98 : decode cX12_grow 98 = .ok (.invokespecial 75, 3) := dk_183 0 75 (dk_at dksX12_grow_4 4 rfl rfl)
theorem dX12_grow_101 : decode cX12_grow 101 = .ok (.athrow, 1) := dk_191 (dk_at dksX12_grow_4 7 rfl rfl)
theorem dX12_grow_102 : decode cX12_grow 102 = .ok (.aload_n 0, 1) := dk_42 (dk_at dksX12_grow_4 8 rfl rfl)
theorem dX12_grow_103 : decode cX12_grow 103 = .ok (.getfield 12, 3) := dk_180 0 12 (dk_at dksX12_grow_4 9 rfl rfl)
theorem dX12_grow_106 : decode cX12_grow 106 = .ok (.aload 6, 2) := dk_25 6 (dk_at dksX12_grow_4 12 rfl rfl)
theorem dX12_grow_108 : decode cX12_grow 108 = .ok (.invokevirtual 25, 3) := dk_182 0 25 (dk_at dksX12_grow_4 14 rfl rfl)
theorem dX12_grow_111 : decode cX12_grow 111 = .ok (.invokestatic 31, 3) := dk_184 0 31 (dk_at dksX12_grow_4 17 rfl rfl)
theorem dX12_grow_114 : decode cX12_grow 114 = .ok (.invokevirtual 37, 3) := dk_182 0 37 (dk_at dksX12_grow_4 20 rfl rfl)
theorem dX12_grow_117 : decode cX12_grow 117 = .ok (.pop, 1) := dk_87 (dk_at dksX12_grow_4 23 rfl rfl)
theorem dX12_grow_118 : decode cX12_grow 118 = .ok (.aload_n 2, 1) := dk_44 (dk_at dksX12_grow_5 0 rfl rfl)
theorem dX12_grow_119 : decode cX12_grow 119 = .ok (.aload 6, 2) := dk_25 6 (dk_at dksX12_grow_5 1 rfl rfl)
theorem dX12_grow_121 : decode cX12_grow 121 = .ok (.invokeinterface 41 2, 5) := by decide +kernel
theorem dX12_grow_126 : decode cX12_grow 126 = .ok (.pop, 1) := dk_87 (dk_at dksX12_grow_5 8 rfl rfl)
theorem dX12_grow_127 : decode cX12_grow 127 = .ok (.iinc 5 1, 3) := dk_132 5 1 (dk_at dksX12_grow_5 9 rfl rfl)
theorem dX12_grow_130 : decode cX12_grow 130 = .ok (.goto (-89), 3) := dk_167 255 167 (dk_at dksX12_grow_5 12 rfl rfl)
theorem dX12_grow_133 : decode cX12_grow 133 = .ok (.goto (-115), 3) := dk_167 255 141 (dk_at dksX12_grow_5 15 rfl rfl)
theorem dX12_grow_136 : decode cX12_grow 136 = .ok (.aload_n 0, 1) := dk_42 (dk_at dksX12_grow_5 18 rfl rfl)
theorem dX12_grow_137 : decode cX12_grow 137 = .ok (.aload_n 2, 1) := dk_44 (dk_at dksX12_grow_5 19 rfl rfl)
theorem dX12_grow_138 : decode cX12_grow 138 = .ok (.putfield 21, 3) := dk_181 0 21 (dk_at dksX12_grow_5 20 rfl rfl)
theorem dX12_grow_141 : decode cX12_grow 141 = .ok (.aload_n 2, 1) := dk_44 (dk_at dksX12_grow_5 23 rfl rfl)
theorem dX12_grow_142 : decode cX12_grow 142 = .ok (.invokeinterface 69 1, 5) := by decide +kernel
theorem dX12_grow_147 : decode cX12_grow 147 = .ok (.ireturn, 1) := dk_172 (dk_at dksX12_grow_6 5 rfl rfl)
theorem q157 : (Jvm.Cond.initialized "Slidingtray$Rings") ∈ lw_all := lw_g (lw_at lw_m1 56 rfl) rfl
theorem q296 : (Jvm.Cond.selects "Slidingtray$Rings" ({ cls := "java/lang/Object", name := "getClass", desc := "()Ljava/lang/Class;" } : Jvm.MethodName) ({ cls := "java/lang/Object", name := "getClass", desc := "()Ljava/lang/Class;" } : Jvm.MethodName)) ∈ lw_all := lw_g (lw_at lw_m1 195 rfl) rfl
theorem q859 : (Jvm.Cond.selects "Slidingtray$Rings" ({ cls := "java/lang/Object", name := "equals", desc := "(Ljava/lang/Object;)Z" } : Jvm.MethodName) ({ cls := "java/lang/Object", name := "equals", desc := "(Ljava/lang/Object;)Z" } : Jvm.MethodName)) ∈ lw_all := lw_g (lw_at lw_m4 38 rfl) rfl
theorem q2511 : (Jvm.Cond.instantiable "Slidingtray$Rings" (2 : Nat)) ∈ lw_all := lw_g (lw_at lw_m11 10 rfl) rfl
theorem q2513 : (Jvm.Cond.instanceMethod ({ cls := "Slidingtray$Rings", name := "<init>", desc := "(LSlidingtray$Lie;)V" } : Jvm.MethodName)) ∈ lw_all := lw_g (lw_at lw_m11 12 rfl) rfl
theorem q2514 : (Jvm.Cond.code ({ cls := "Slidingtray$Rings", name := "<init>", desc := "(LSlidingtray$Lie;)V" } : Jvm.MethodName) prog_11_method_1_code (2 : Nat) (Option.none : Option Jvm.ClassFile.FieldType)) ∈ lw_all := lw_g (lw_at lw_m11 13 rfl) rfl
theorem q2515 : (Jvm.Cond.methodLink "Slidingtray$Rings" (3 : Nat) ({ cls := "java/lang/Object", name := "<init>", desc := "()V" } : Jvm.MethodName)) ∈ lw_all := lw_g (lw_at lw_m11 14 rfl) rfl
theorem q2516 : (Jvm.Cond.classLink "Slidingtray$Rings" (9 : Nat) "java/util/TreeSet") ∈ lw_all := lw_g (lw_at lw_m11 15 rfl) rfl
theorem q2518 : (Jvm.Cond.methodLink "Slidingtray$Rings" (11 : Nat) ({ cls := "java/util/TreeSet", name := "<init>", desc := "()V" } : Jvm.MethodName)) ∈ lw_all := lw_g (lw_at lw_m11 17 rfl) rfl
theorem q2531 : (Jvm.Cond.classLink "Slidingtray$Rings" (18 : Nat) "java/util/ArrayList") ∈ lw_all := lw_g (lw_at lw_m11 30 rfl) rfl
theorem q2532 : (Jvm.Cond.methodLink "Slidingtray$Rings" (20 : Nat) ({ cls := "java/util/ArrayList", name := "<init>", desc := "()V" } : Jvm.MethodName)) ∈ lw_all := lw_g (lw_at lw_m11 31 rfl) rfl
theorem q2533 : (Jvm.Cond.methodLink "Slidingtray$Rings" (25 : Nat) ({ cls := "Slidingtray$Lie", name := "rank", desc := "()J" } : Jvm.MethodName)) ∈ lw_all := lw_g (lw_at lw_m11 32 rfl) rfl
theorem q2534 : (Jvm.Cond.methodLink "Slidingtray$Rings" (31 : Nat) ({ cls := "java/lang/Long", name := "valueOf", desc := "(J)Ljava/lang/Long;" } : Jvm.MethodName)) ∈ lw_all := lw_g (lw_at lw_m11 33 rfl) rfl
theorem q2535 : (Jvm.Cond.methodLink "Slidingtray$Rings" (37 : Nat) ({ cls := "java/util/TreeSet", name := "add", desc := "(Ljava/lang/Object;)Z" } : Jvm.MethodName)) ∈ lw_all := lw_g (lw_at lw_m11 34 rfl) rfl
theorem q2547 : (Jvm.Cond.interfaceEntry "Slidingtray$Rings" (41 : Nat)) ∈ lw_tbl := lw_at lw_m11 46 rfl
theorem q2548 : (Jvm.Cond.methodLink "Slidingtray$Rings" (41 : Nat) ({ cls := "java/util/List", name := "add", desc := "(Ljava/lang/Object;)Z" } : Jvm.MethodName)) ∈ lw_all := lw_g (lw_at lw_m11 47 rfl) rfl
theorem q2549 : (Jvm.Cond.fieldLink "Slidingtray$Rings" (12 : Nat) "Slidingtray$Rings" "all" "Ljava/util/TreeSet;") ∈ lw_all := lw_g (lw_at lw_m11 48 rfl) rfl
theorem q2550 : (Jvm.Cond.fieldLink "Slidingtray$Rings" (21 : Nat) "Slidingtray$Rings" "ring" "Ljava/util/List;") ∈ lw_all := lw_g (lw_at lw_m11 49 rfl) rfl
theorem q2551 : (Jvm.Cond.laysFinal "Slidingtray$Rings" "Slidingtray$Rings" "all" "Ljava/util/TreeSet;") ∈ lw_all := lw_g (lw_at lw_m11 50 rfl) rfl
theorem q2552 : (Jvm.Cond.soleField "Slidingtray$Rings" "all") ∈ lw_all := lw_g (lw_at lw_m11 51 rfl) rfl
theorem q2553 : (Jvm.Cond.lays "Slidingtray$Rings" "Slidingtray$Rings" "ring" "Ljava/util/List;") ∈ lw_all := lw_g (lw_at lw_m11 52 rfl) rfl
theorem q2554 : (Jvm.Cond.soleField "Slidingtray$Rings" "ring") ∈ lw_all := lw_g (lw_at lw_m11 53 rfl) rfl
theorem q2555 : (Jvm.Cond.superclass "Slidingtray$Rings" "java/lang/Object") ∈ lw_all := lw_g (lw_at lw_m11 54 rfl) rfl
theorem q2557 : (Jvm.Cond.instanceMethod ({ cls := "Slidingtray$Rings", name := "meets", desc := "(LSlidingtray$Rings;)Z" } : Jvm.MethodName)) ∈ lw_all := lw_g (lw_at lw_m11 56 rfl) rfl
theorem q2558 : (Jvm.Cond.selects "Slidingtray$Rings" ({ cls := "Slidingtray$Rings", name := "meets", desc := "(LSlidingtray$Rings;)Z" } : Jvm.MethodName) ({ cls := "Slidingtray$Rings", name := "meets", desc := "(LSlidingtray$Rings;)Z" } : Jvm.MethodName)) ∈ lw_all := lw_g (lw_at lw_m11 57 rfl) rfl
theorem q2559 : (Jvm.Cond.code ({ cls := "Slidingtray$Rings", name := "meets", desc := "(LSlidingtray$Rings;)Z" } : Jvm.MethodName) prog_11_method_3_code (5 : Nat) (Option.some Jvm.ClassFile.FieldType.boolean)) ∈ lw_all := lw_g (lw_at lw_m11 58 rfl) rfl
theorem q2560 : (Jvm.Cond.interfaceEntry "Slidingtray$Rings" (44 : Nat)) ∈ lw_tbl := lw_at lw_m11 59 rfl
theorem q2561 : (Jvm.Cond.methodLink "Slidingtray$Rings" (44 : Nat) ({ cls := "java/util/List", name := "iterator", desc := "()Ljava/util/Iterator;" } : Jvm.MethodName)) ∈ lw_all := lw_g (lw_at lw_m11 60 rfl) rfl
theorem q2562 : (Jvm.Cond.interfaceEntry "Slidingtray$Rings" (48 : Nat)) ∈ lw_tbl := lw_at lw_m11 61 rfl
theorem q2563 : (Jvm.Cond.methodLink "Slidingtray$Rings" (48 : Nat) ({ cls := "java/util/Iterator", name := "hasNext", desc := "()Z" } : Jvm.MethodName)) ∈ lw_all := lw_g (lw_at lw_m11 62 rfl) rfl
theorem q2564 : (Jvm.Cond.interfaceEntry "Slidingtray$Rings" (54 : Nat)) ∈ lw_tbl := lw_at lw_m11 63 rfl
theorem q2565 : (Jvm.Cond.methodLink "Slidingtray$Rings" (54 : Nat) ({ cls := "java/util/Iterator", name := "next", desc := "()Ljava/lang/Object;" } : Jvm.MethodName)) ∈ lw_all := lw_g (lw_at lw_m11 64 rfl) rfl
theorem q2566 : (Jvm.Cond.classLink "Slidingtray$Rings" (26 : Nat) "Slidingtray$Lie") ∈ lw_all := lw_g (lw_at lw_m11 65 rfl) rfl
theorem q2567 : (Jvm.Cond.methodLink "Slidingtray$Rings" (66 : Nat) ({ cls := "java/util/TreeSet", name := "contains", desc := "(Ljava/lang/Object;)Z" } : Jvm.MethodName)) ∈ lw_all := lw_g (lw_at lw_m11 66 rfl) rfl
theorem q2580 : (Jvm.Cond.instanceMethod ({ cls := "Slidingtray$Rings", name := "grow", desc := "(I)I" } : Jvm.MethodName)) ∈ lw_all := lw_g (lw_at lw_m11 79 rfl) rfl
theorem q2581 : (Jvm.Cond.selects "Slidingtray$Rings" ({ cls := "Slidingtray$Rings", name := "grow", desc := "(I)I" } : Jvm.MethodName) ({ cls := "Slidingtray$Rings", name := "grow", desc := "(I)I" } : Jvm.MethodName)) ∈ lw_all := lw_g (lw_at lw_m11 80 rfl) rfl
theorem q2582 : (Jvm.Cond.code ({ cls := "Slidingtray$Rings", name := "grow", desc := "(I)I" } : Jvm.MethodName) prog_11_method_2_code (7 : Nat) (Option.some Jvm.ClassFile.FieldType.int)) ∈ lw_all := lw_g (lw_at lw_m11 81 rfl) rfl
theorem q2583 : (Jvm.Cond.methodLink "Slidingtray$Rings" (58 : Nat) ({ cls := "Slidingtray$Lie", name := "moves", desc := "(I)I" } : Jvm.MethodName)) ∈ lw_all := lw_g (lw_at lw_m11 82 rfl) rfl
theorem q2584 : (Jvm.Cond.methodLink "Slidingtray$Rings" (62 : Nat) ({ cls := "Slidingtray$Lie", name := "moved", desc := "(I)LSlidingtray$Lie;" } : Jvm.MethodName)) ∈ lw_all := lw_g (lw_at lw_m11 83 rfl) rfl
theorem q2585 : (Jvm.Cond.interfaceEntry "Slidingtray$Rings" (69 : Nat)) ∈ lw_tbl := lw_at lw_m11 84 rfl
theorem q2586 : (Jvm.Cond.methodLink "Slidingtray$Rings" (69 : Nat) ({ cls := "java/util/List", name := "size", desc := "()I" } : Jvm.MethodName)) ∈ lw_all := lw_g (lw_at lw_m11 85 rfl) rfl
theorem q2587 : (Jvm.Cond.classLink "Slidingtray$Rings" (73 : Nat) "Slidingtray$Beyond") ∈ lw_all := lw_g (lw_at lw_m11 86 rfl) rfl
theorem q2588 : (Jvm.Cond.methodLink "Slidingtray$Rings" (75 : Nat) ({ cls := "Slidingtray$Beyond", name := "<init>", desc := "()V" } : Jvm.MethodName)) ∈ lw_all := lw_g (lw_at lw_m11 87 rfl) rfl
theorem q3321 : (Jvm.Cond.castable "Slidingtray$Rings" "java/lang/Object") ∈ lw_tbl := lw_at lw_m14 100 rfl
theorem in_X12 : ∀ w ∈ wsX120, w ∈ lw_all := lw_in wsX120 [2551, 2553] (by decide +kernel) (by decide +kernel)
/-! Slidingtray$All -/
set_option maxRecDepth 100000
def RX13 : String := "Slidingtray$All"
def TX13 : u_T := fun k => match k with
  | 0 => ("Slidingtray$All", "lies", "[LSlidingtray$Lie;", true)
  | 1 => ("Slidingtray$All", "costs", "[I", true)
  | 2 => ("Slidingtray$All", "ways", "[I", true)
  | _ => ("Slidingtray$All", "this$0", "LSlidingtray;", true)
def tyX13 : Nat → FieldType := fun k => match k with
  | 0 => .array (.object "Slidingtray$Lie")
  | 1 => .array .int
  | 2 => .array .int
  | _ => .object "Slidingtray"
abbrev wsX130 : List Cond := u_ws RX13 TX13 4
theorem nmX13 : ∀ a, a < 4 → ∀ b, b < 4 → a ≠ b → (TX13 a).2.1 ≠ (TX13 b).2.1 := by decide +kernel
theorem tyX13_ok : ∀ k, k < 4 → parseFieldDescriptor (TX13 k).2.2.1 = some (tyX13 k) := by decide +kernel
abbrev cX13_init : ByteArray := prog_3_method_1_code
def yX13_init : MethodName := ⟨RX13, "<init>", "(LSlidingtray;)V"⟩
def dkwX13_init_8 : List UInt8 := [21, 4, 42, 42, 180, 0, 21, 21, 4, 50, 45, 180, 0, 80, 182, 0, 88, 79, 167, 255, 184, 177]
abbrev dktX13_init_8 : List UInt8 := dkwX13_init_8 ++ []
def dkwX13_init_7 : List UInt8 := [160, 0, 42, 42, 180, 0, 25, 21, 4, 45, 180, 0, 80, 79, 42, 45, 44, 182, 0, 84, 42, 180, 0, 29]
abbrev dktX13_init_7 : List UInt8 := dkwX13_init_7 ++ dktX13_init_8
def dkwX13_init_6 : List UInt8 := [182, 0, 72, 192, 0, 59, 78, 45, 180, 0, 76, 136, 54, 4, 42, 180, 0, 25, 21, 4, 46, 2]
abbrev dktX13_init_6 : List UInt8 := dkwX13_init_6 ++ dktX13_init_7
def dkwX13_init_5 : List UInt8 := [1, 2, 183, 0, 61, 182, 0, 64, 87, 132, 3, 1, 167, 255, 191, 44, 182, 0, 68, 154, 0, 71, 44]
abbrev dktX13_init_5 : List UInt8 := dkwX13_init_5 ++ dktX13_init_6
def dkwX13_init_4 : List UInt8 := [180, 0, 21, 29, 50, 182, 0, 53, 153, 0, 25, 44, 187, 0, 59, 89, 42, 180, 0, 21, 29, 50, 3, 3]
abbrev dktX13_init_4 : List UInt8 := dkwX13_init_4 ++ dktX13_init_5
def dkwX13_init_3 : List UInt8 := [162, 0, 62, 42, 180, 0, 21, 29, 43, 180, 0, 41, 29, 133, 184, 0, 45, 83, 43, 180, 0, 49, 42]
abbrev dktX13_init_3 : List UInt8 := dkwX13_init_3 ++ dktX13_init_4
def dkwX13_init_2 : List UInt8 := [187, 0, 32, 89, 183, 0, 34, 77, 42, 180, 0, 25, 2, 184, 0, 35, 3, 62, 29, 42, 180, 0, 21, 190]
abbrev dktX13_init_2 : List UInt8 := dkwX13_init_2 ++ dktX13_init_3
def dkwX13_init_1 : List UInt8 := [42, 42, 180, 0, 21, 190, 188, 10, 181, 0, 25, 42, 42, 180, 0, 21, 190, 188, 10, 181, 0, 29]
abbrev dktX13_init_1 : List UInt8 := dkwX13_init_1 ++ dktX13_init_2
def dkwX13_init_0 : List UInt8 := [42, 43, 181, 0, 3, 42, 183, 0, 9, 42, 42, 180, 0, 3, 182, 0, 15, 136, 189, 0, 19, 181, 0, 21]
abbrev dktX13_init_0 : List UInt8 := dkwX13_init_0 ++ dktX13_init_1
theorem dksX13_init_0 : cX13_init.data.toList.drop 0 = dktX13_init_0 := by decide +kernel
theorem dksX13_init_1 : cX13_init.data.toList.drop 24 = dktX13_init_1 := dk_seg dksX13_init_0 24 rfl rfl
theorem dksX13_init_2 : cX13_init.data.toList.drop 46 = dktX13_init_2 := dk_seg dksX13_init_1 22 rfl rfl
theorem dksX13_init_3 : cX13_init.data.toList.drop 70 = dktX13_init_3 := dk_seg dksX13_init_2 24 rfl rfl
theorem dksX13_init_4 : cX13_init.data.toList.drop 93 = dktX13_init_4 := dk_seg dksX13_init_3 23 rfl rfl
theorem dksX13_init_5 : cX13_init.data.toList.drop 117 = dktX13_init_5 := dk_seg dksX13_init_4 24 rfl rfl
theorem dksX13_init_6 : cX13_init.data.toList.drop 140 = dktX13_init_6 := dk_seg dksX13_init_5 23 rfl rfl
theorem dksX13_init_7 : cX13_init.data.toList.drop 162 = dktX13_init_7 := dk_seg dksX13_init_6 22 rfl rfl
theorem dksX13_init_8 : cX13_init.data.toList.drop 186 = dktX13_init_8 := dk_seg dksX13_init_7 24 rfl rfl
theorem dX13_init_0 : decode cX13_init 0 = .ok (.aload_n 0, 1) := dk_42 (dk_at dksX13_init_0 0 rfl rfl)
theorem dX13_init_1 : decode cX13_init 1 = .ok (.aload_n 1, 1) := dk_43 (dk_at dksX13_init_0 1 rfl rfl)
theorem dX13_init_2 : decode cX13_init 2 = .ok (.putfield 3, 3) := dk_181 0 3 (dk_at dksX13_init_0 2 rfl rfl)
theorem dX13_init_5 : decode cX13_init 5 = .ok (.aload_n 0, 1) := dk_42 (dk_at dksX13_init_0 5 rfl rfl)
theorem dX13_init_6 : decode cX13_init 6 = .ok (.invokespecial 9, 3) := dk_183 0 9 (dk_at dksX13_init_0 6 rfl rfl)
theorem dX13_init_9 : decode cX13_init 9 = .ok (.aload_n 0, 1) := dk_42 (dk_at dksX13_init_0 9 rfl rfl)
theorem dX13_init_10 : decode cX13_init 10 = .ok (.aload_n 0, 1) := dk_42 (dk_at dksX13_init_0 10 rfl rfl)
theorem dX13_init_11 : decode cX13_init 11 = .ok (.getfield 3, 3) := dk_180 0 3 (dk_at dksX13_init_0 11 rfl rfl)
theorem dX13_init_14 : decode cX13_init 14 = .ok (.invokevirtual 15, 3) := dk_182 0 15 (dk_at dksX13_init_0 14 rfl rfl)
theorem dX13_init_17 : decode cX13_init 17 = .ok (.l2i, 1) := dk_136 (dk_at dksX13_init_0 17 rfl rfl)
theorem dX13_init_18 : decode cX13_init 18 = .ok (.anewarray 19, 3) := dk_189 0 19 (dk_at dksX13_init_0 18 rfl rfl)
theorem dX13_init_21 : decode cX13_init 21 = .ok (.putfield 21, 3) := dk_181 0 21 (dk_at dksX13_init_0 21 rfl rfl)
theorem dX13_init_24 : decode cX13_init 24 = .ok (.aload_n 0, 1) := dk_42 (dk_at dksX13_init_1 0 rfl rfl)
theorem dX13_init_25 : decode cX13_init 25 = .ok (.aload_n 0, 1) := dk_42 (dk_at dksX13_init_1 1 rfl rfl)
theorem dX13_init_26 : decode cX13_init 26 = .ok (.getfield 21, 3) := dk_180 0 21 (dk_at dksX13_init_1 2 rfl rfl)
theorem dX13_init_29 : decode cX13_init 29 = .ok (.arraylength, 1) := dk_190 (dk_at dksX13_init_1 5 rfl rfl)
theorem dX13_init_30 : decode cX13_init 30 = .ok (.newarray .int, 2) := dk_188_10 (dk_at dksX13_init_1 6 rfl rfl)
theorem dX13_init_32 : decode cX13_init 32 = .ok (.putfield 25, 3) := dk_181 0 25 (dk_at dksX13_init_1 8 rfl rfl)
theorem dX13_init_35 : decode cX13_init 35 = .ok (.aload_n 0, 1) := dk_42 (dk_at dksX13_init_1 11 rfl rfl)
theorem dX13_init_36 : decode cX13_init 36 = .ok (.aload_n 0, 1) := dk_42 (dk_at dksX13_init_1 12 rfl rfl)
theorem dX13_init_37 : decode cX13_init 37 = .ok (.getfield 21, 3) := dk_180 0 21 (dk_at dksX13_init_1 13 rfl rfl)
theorem dX13_init_40 : decode cX13_init 40 = .ok (.arraylength, 1) := dk_190 (dk_at dksX13_init_1 16 rfl rfl)
theorem dX13_init_41 : decode cX13_init 41 = .ok (.newarray .int, 2) := dk_188_10 (dk_at dksX13_init_1 17 rfl rfl)
theorem dX13_init_43 : decode cX13_init 43 = .ok (.putfield 29, 3) := dk_181 0 29 (dk_at dksX13_init_1 19 rfl rfl)
theorem dX13_init_46 : decode cX13_init 46 = .ok (.new 32, 3) := dk_187 0 32 (dk_at dksX13_init_2 0 rfl rfl)
theorem dX13_init_49 : decode cX13_init 49 = .ok (.dup, 1) := dk_89 (dk_at dksX13_init_2 3 rfl rfl)
theorem dX13_init_50 : decode cX13_init 50 = .ok (.invokespecial 34, 3) := dk_183 0 34 (dk_at dksX13_init_2 4 rfl rfl)
theorem dX13_init_53 : decode cX13_init 53 = .ok (.astore_n 2, 1) := dk_77 (dk_at dksX13_init_2 7 rfl rfl)
theorem dX13_init_54 : decode cX13_init 54 = .ok (.aload_n 0, 1) := dk_42 (dk_at dksX13_init_2 8 rfl rfl)
theorem dX13_init_55 : decode cX13_init 55 = .ok (.getfield 25, 3) := dk_180 0 25 (dk_at dksX13_init_2 9 rfl rfl)
theorem dX13_init_58 : decode cX13_init 58 = .ok (.iconst (-1), 1) := dk_2 (dk_at dksX13_init_2 12 rfl rfl)
theorem dX13_init_59 : decode cX13_init 59 = .ok (.invokestatic 35, 3) := dk_184 0 35 (dk_at dksX13_init_2 13 rfl rfl)
theorem dX13_init_62 : decode cX13_init 62 = .ok (.iconst 0, 1) := dk_3 (dk_at dksX13_init_2 16 rfl rfl)
theorem dX13_init_63 : decode cX13_init 63 = .ok (.istore_n 3, 1) := dk_62 (dk_at dksX13_init_2 17 rfl rfl)
theorem dX13_init_64 : decode cX13_init 64 = .ok (.iload_n 3, 1) := dk_29 (dk_at dksX13_init_2 18 rfl rfl)
theorem dX13_init_65 : decode cX13_init 65 = .ok (.aload_n 0, 1) := dk_42 (dk_at dksX13_init_2 19 rfl rfl)
theorem dX13_init_66 : decode cX13_init 66 = .ok (.getfield 21, 3) := dk_180 0 21 (dk_at dksX13_init_2 20 rfl rfl)
theorem dX13_init_69 : decode cX13_init 69 = .ok (.arraylength, 1) := dk_190 (dk_at dksX13_init_2 23 rfl rfl)
theorem dX13_init_70 : decode cX13_init 70 = .ok (.if_icmp .ge 62, 3) := dk_162 0 62 (dk_at dksX13_init_3 0 rfl rfl)
theorem dX13_init_73 : decode cX13_init 73 = .ok (.aload_n 0, 1) := dk_42 (dk_at dksX13_init_3 3 rfl rfl)
theorem dX13_init_74 : decode cX13_init 74 = .ok (.getfield 21, 3) := dk_180 0 21 (dk_at dksX13_init_3 4 rfl rfl)
theorem dX13_init_77 : decode cX13_init 77 = .ok (.iload_n 3, 1) := dk_29 (dk_at dksX13_init_3 7 rfl rfl)
theorem dX13_init_78 : decode cX13_init 78 = .ok (.aload_n 1, 1) := dk_43 (dk_at dksX13_init_3 8 rfl rfl)
theorem dX13_init_79 : decode cX13_init 79 = .ok (.getfield 41, 3) := dk_180 0 41 (dk_at dksX13_init_3 9 rfl rfl)
theorem dX13_init_82 : decode cX13_init 82 = .ok (.iload_n 3, 1) := dk_29 (dk_at dksX13_init_3 12 rfl rfl)
theorem dX13_init_83 : decode cX13_init 83 = .ok (.i2l, 1) := dk_133 (dk_at dksX13_init_3 13 rfl rfl)
theorem dX13_init_84 : decode cX13_init 84 = .ok (.invokestatic 45, 3) := dk_184 0 45 (dk_at dksX13_init_3 14 rfl rfl)
theorem dX13_init_87 : decode cX13_init 87 = .ok (.aastore, 1) := dk_83 (dk_at dksX13_init_3 17 rfl rfl)
theorem dX13_init_88 : decode cX13_init 88 = .ok (.aload_n 1, 1) := dk_43 (dk_at dksX13_init_3 18 rfl rfl)
theorem dX13_init_89 : decode cX13_init 89 = .ok (.getfield 49, 3) := dk_180 0 49 (dk_at dksX13_init_3 19 rfl rfl)
theorem dX13_init_92 : decode cX13_init 92 = .ok (.aload_n 0, 1) := dk_42 (dk_at dksX13_init_3 22 rfl rfl)
theorem dX13_init_93 : decode cX13_init 93 = .ok (.getfield 21, 3) := dk_180 0 21 (dk_at dksX13_init_4 0 rfl rfl)
theorem dX13_init_96 : decode cX13_init 96 = .ok (.iload_n 3, 1) := dk_29 (dk_at dksX13_init_4 3 rfl rfl)
theorem dX13_init_97 : decode cX13_init 97 = .ok (.aaload, 1) := dk_50 (dk_at dksX13_init_4 4 rfl rfl)
theorem dX13_init_98 : decode cX13_init 98 = .ok (.invokevirtual 53, 3) := dk_182 0 53 (dk_at dksX13_init_4 5 rfl rfl)
theorem dX13_init_101 : decode cX13_init 101 = .ok (.ifCond .eq 25, 3) := dk_153 0 25 (dk_at dksX13_init_4 8 rfl rfl)
theorem dX13_init_104 : decode cX13_init 104 = .ok (.aload_n 2, 1) := dk_44 (dk_at dksX13_init_4 11 rfl rfl)
theorem dX13_init_105 : decode cX13_init 105 = .ok (.new 59, 3) := dk_187 0 59 (dk_at dksX13_init_4 12 rfl rfl)
theorem dX13_init_108 : decode cX13_init 108 = .ok (.dup, 1) := dk_89 (dk_at dksX13_init_4 15 rfl rfl)
theorem dX13_init_109 : decode cX13_init 109 = .ok (.aload_n 0, 1) := dk_42 (dk_at dksX13_init_4 16 rfl rfl)
theorem dX13_init_110 : decode cX13_init 110 = .ok (.getfield 21, 3) := dk_180 0 21 (dk_at dksX13_init_4 17 rfl rfl)
theorem dX13_init_113 : decode cX13_init 113 = .ok (.iload_n 3, 1) := dk_29 (dk_at dksX13_init_4 20 rfl rfl)
theorem dX13_init_114 : decode cX13_init 114 = .ok (.aaload, 1) := dk_50 (dk_at dksX13_init_4 21 rfl rfl)
theorem dX13_init_115 : decode cX13_init 115 = .ok (.iconst 0, 1) := dk_3 (dk_at dksX13_init_4 22 rfl rfl)
theorem dX13_init_116 : decode cX13_init 116 = .ok (.iconst 0, 1) := dk_3 (dk_at dksX13_init_4 23 rfl rfl)
theorem dX13_init_117 : decode cX13_init 117 = .ok (.aconst_null, 1) := dk_1 (dk_at dksX13_init_5 0 rfl rfl)
theorem dX13_init_118 : decode cX13_init 118 = .ok (.iconst (-1), 1) := dk_2 (dk_at dksX13_init_5 1 rfl rfl)
theorem dX13_init_119 : decode cX13_init 119 = .ok (.invokespecial 61, 3) := dk_183 0 61 (dk_at dksX13_init_5 2 rfl rfl)
theorem dX13_init_122 : decode cX13_init 122 = .ok (.invokevirtual 64, 3) := dk_182 0 64 (dk_at dksX13_init_5 5 rfl rfl)
theorem dX13_init_125 : decode cX13_init 125 = .ok (.pop, 1) := dk_87 (dk_at dksX13_init_5 8 rfl rfl)
theorem dX13_init_126 : decode cX13_init 126 = .ok (.iinc 3 1, 3) := dk_132 3 1 (dk_at dksX13_init_5 9 rfl rfl)
theorem dX13_init_129 : decode cX13_init 129 = .ok (.goto (-65), 3) := dk_167 255 191 (dk_at dksX13_init_5 12 rfl rfl)
theorem dX13_init_132 : decode cX13_init 132 = .ok (.aload_n 2, 1) := dk_44 (dk_at dksX13_init_5 15 rfl rfl)
theorem dX13_init_133 : decode cX13_init 133 = .ok (.invokevirtual 68, 3) := dk_182 0 68 (dk_at dksX13_init_5 16 rfl rfl)
theorem dX13_init_136 : decode cX13_init 136 = .ok (.ifCond .ne 71, 3) := dk_154 0 71 (dk_at dksX13_init_5 19 rfl rfl)
theorem dX13_init_139 : decode cX13_init 139 = .ok (.aload_n 2, 1) := dk_44 (dk_at dksX13_init_5 22 rfl rfl)
theorem dX13_init_140 : decode cX13_init 140 = .ok (.invokevirtual 72, 3) := dk_182 0 72 (dk_at dksX13_init_6 0 rfl rfl)
theorem dX13_init_143 : decode cX13_init 143 = .ok (.checkcast 59, 3) := dk_192 0 59 (dk_at dksX13_init_6 3 rfl rfl)
theorem dX13_init_146 : decode cX13_init 146 = .ok (.astore_n 3, 1) := dk_78 (dk_at dksX13_init_6 6 rfl rfl)
theorem dX13_init_147 : decode cX13_init 147 = .ok (.aload_n 3, 1) := dk_45 (dk_at dksX13_init_6 7 rfl rfl)
theorem dX13_init_148 : decode cX13_init 148 = .ok (.getfield 76, 3) := dk_180 0 76 (dk_at dksX13_init_6 8 rfl rfl)
theorem dX13_init_151 : decode cX13_init 151 = .ok (.l2i, 1) := dk_136 (dk_at dksX13_init_6 11 rfl rfl)
theorem dX13_init_152 : decode cX13_init 152 = .ok (.istore 4, 2) := dk_54 4 (dk_at dksX13_init_6 12 rfl rfl)
theorem dX13_init_154 : decode cX13_init 154 = .ok (.aload_n 0, 1) := dk_42 (dk_at dksX13_init_6 14 rfl rfl)
theorem dX13_init_155 : decode cX13_init 155 = .ok (.getfield 25, 3) := dk_180 0 25 (dk_at dksX13_init_6 15 rfl rfl)
theorem dX13_init_158 : decode cX13_init 158 = .ok (.iload 4, 2) := dk_21 4 (dk_at dksX13_init_6 18 rfl rfl)
theorem dX13_init_160 : decode cX13_init 160 = .ok (.iaload, 1) := dk_46 (dk_at dksX13_init_6 20 rfl rfl)
theorem dX13_init_161 : decode cX13_init 161 = .ok (.iconst (-1), 1) := dk_2 (dk_at dksX13_init_6 21 rfl rfl)
theorem dX13_init_162 : decode cX13_init 162 = .ok (.if_icmp .ne 42, 3) := dk_160 0 42 (dk_at dksX13_init_7 0 rfl rfl)
theorem dX13_init_165 : decode cX13_init 165 = .ok (.aload_n 0, 1) := dk_42 (dk_at dksX13_init_7 3 rfl rfl)
theorem dX13_init_166 : decode cX13_init 166 = .ok (.getfield 25, 3) := dk_180 0 25 (dk_at dksX13_init_7 4 rfl rfl)
theorem dX13_init_169 : decode cX13_init 169 = .ok (.iload 4, 2) := dk_21 4 (dk_at dksX13_init_7 7 rfl rfl)
theorem dX13_init_171 : decode cX13_init 171 = .ok (.aload_n 3, 1) := dk_45 (dk_at dksX13_init_7 9 rfl rfl)
theorem dX13_init_172 : decode cX13_init 172 = .ok (.getfield 80, 3) := dk_180 0 80 (dk_at dksX13_init_7 10 rfl rfl)
theorem dX13_init_175 : decode cX13_init 175 = .ok (.iastore, 1) := dk_79 (dk_at dksX13_init_7 13 rfl rfl)
theorem dX13_init_176 : decode cX13_init 176 = .ok (.aload_n 0, 1) := dk_42 (dk_at dksX13_init_7 14 rfl rfl)
theorem dX13_init_177 : decode cX13_init 177 = .ok (.aload_n 3, 1) := dk_45 (dk_at dksX13_init_7 15 rfl rfl)
theorem dX13_init_178 : decode cX13_init 178 = .ok (.aload_n 2, 1) := dk_44 (dk_at dksX13_init_7 16 rfl rfl)
theorem dX13_init_179 : decode cX13_init 179 = .ok (.invokevirtual 84, 3) := dk_182 0 84 (dk_at dksX13_init_7 17 rfl rfl)
theorem dX13_init_182 : decode cX13_init 182 = .ok (.aload_n 0, 1) := dk_42 (dk_at dksX13_init_7 20 rfl rfl)
theorem dX13_init_183 : decode cX13_init 183 = .ok (.getfield 29, 3) := dk_180 0 29 (dk_at dksX13_init_7 21 rfl rfl)
theorem dX13_init_186 : decode cX13_init 186 = .ok (.iload 4, 2) := dk_21 4 (dk_at dksX13_init_8 0 rfl rfl)
theorem dX13_init_188 : decode cX13_init 188 = .ok (.aload_n 0, 1) := dk_42 (dk_at dksX13_init_8 2 rfl rfl)
theorem dX13_init_189 : decode cX13_init 189 = .ok (.aload_n 0, 1) := dk_42 (dk_at dksX13_init_8 3 rfl rfl)
theorem dX13_init_190 : decode cX13_init 190 = .ok (.getfield 21, 3) := dk_180 0 21 (dk_at dksX13_init_8 4 rfl rfl)
theorem dX13_init_193 : decode cX13_init 193 = .ok (.iload 4, 2) := dk_21 4 (dk_at dksX13_init_8 7 rfl rfl)
theorem dX13_init_195 : decode cX13_init 195 = .ok (.aaload, 1) := dk_50 (dk_at dksX13_init_8 9 rfl rfl)
theorem dX13_init_196 : decode cX13_init 196 = .ok (.aload_n 3, 1) := dk_45 (dk_at dksX13_init_8 10 rfl rfl)
theorem dX13_init_197 : decode cX13_init 197 = .ok (.getfield 80, 3) := dk_180 0 80 (dk_at dksX13_init_8 11 rfl rfl)
theorem dX13_init_200 : decode cX13_init 200 = .ok (.invokevirtual 88, 3) := dk_182 0 88 (dk_at dksX13_init_8 14 rfl rfl)
theorem dX13_init_203 : decode cX13_init 203 = .ok (.iastore, 1) := dk_79 (dk_at dksX13_init_8 17 rfl rfl)
theorem dX13_init_204 : decode cX13_init 204 = .ok (.goto (-72), 3) := dk_167 255 184 (dk_at dksX13_init_8 18 rfl rfl)
theorem dX13_init_207 : decode cX13_init 207 = .ok (.return_, 1) := dk_177 (dk_at dksX13_init_8 21 rfl rfl)
abbrev cX13_spread : ByteArray := prog_3_method_2_code
def yX13_spread : MethodName := ⟨RX13, "spread", "(LSlidingtray$State;Ljava/util/PriorityQueue;)V"⟩
def dkwX13_spread_3 : List UInt8 := [46, 96, 43, 29, 183, 0, 61, 182, 0, 64, 87, 132, 3, 1, 167, 255, 173, 177]
abbrev dktX13_spread_3 : List UInt8 := dkwX13_spread_3 ++ []
def dkwX13_spread_2 : List UInt8 := [44, 187, 0, 59, 89, 25, 5, 3, 43, 180, 0, 80, 42, 180, 0, 3, 180, 0, 49, 180, 0, 106, 21, 4]
abbrev dktX13_spread_2 : List UInt8 := dkwX13_spread_2 ++ dktX13_spread_3
def dkwX13_spread_1 : List UInt8 := [180, 0, 92, 29, 182, 0, 100, 58, 5, 42, 180, 0, 25, 25, 5, 182, 0, 104, 136, 46, 2, 160, 0, 38]
abbrev dktX13_spread_1 : List UInt8 := dkwX13_spread_1 ++ dktX13_spread_2
def dkwX13_spread_0 : List UInt8 := [3, 62, 29, 6, 163, 0, 84, 43, 180, 0, 92, 29, 182, 0, 96, 54, 4, 21, 4, 158, 0, 63, 43]
abbrev dktX13_spread_0 : List UInt8 := dkwX13_spread_0 ++ dktX13_spread_1
theorem dksX13_spread_0 : cX13_spread.data.toList.drop 0 = dktX13_spread_0 := by decide +kernel
theorem dksX13_spread_1 : cX13_spread.data.toList.drop 23 = dktX13_spread_1 := dk_seg dksX13_spread_0 23 rfl rfl
theorem dksX13_spread_2 : cX13_spread.data.toList.drop 47 = dktX13_spread_2 := dk_seg dksX13_spread_1 24 rfl rfl
theorem dksX13_spread_3 : cX13_spread.data.toList.drop 71 = dktX13_spread_3 := dk_seg dksX13_spread_2 24 rfl rfl
theorem dX13_spread_0 : decode cX13_spread 0 = .ok (.iconst 0, 1) := dk_3 (dk_at dksX13_spread_0 0 rfl rfl)
theorem dX13_spread_1 : decode cX13_spread 1 = .ok (.istore_n 3, 1) := dk_62 (dk_at dksX13_spread_0 1 rfl rfl)
theorem dX13_spread_2 : decode cX13_spread 2 = .ok (.iload_n 3, 1) := dk_29 (dk_at dksX13_spread_0 2 rfl rfl)
theorem dX13_spread_3 : decode cX13_spread 3 = .ok (.iconst 3, 1) := dk_6 (dk_at dksX13_spread_0 3 rfl rfl)
theorem dX13_spread_4 : decode cX13_spread 4 = .ok (.if_icmp .gt 84, 3) := dk_163 0 84 (dk_at dksX13_spread_0 4 rfl rfl)
theorem dX13_spread_7 : decode cX13_spread 7 = .ok (.aload_n 1, 1) := dk_43 (dk_at dksX13_spread_0 7 rfl rfl)
theorem dX13_spread_8 : decode cX13_spread 8 = .ok (.getfield 92, 3) := dk_180 0 92 (dk_at dksX13_spread_0 8 rfl rfl)
theorem dX13_spread_11 : decode cX13_spread 11 = .ok (.iload_n 3, 1) := dk_29 (dk_at dksX13_spread_0 11 rfl rfl)
theorem dX13_spread_12 : decode cX13_spread 12 = .ok (.invokevirtual 96, 3) := dk_182 0 96 (dk_at dksX13_spread_0 12 rfl rfl)
theorem dX13_spread_15 : decode cX13_spread 15 = .ok (.istore 4, 2) := dk_54 4 (dk_at dksX13_spread_0 15 rfl rfl)
theorem dX13_spread_17 : decode cX13_spread 17 = .ok (.iload 4, 2) := dk_21 4 (dk_at dksX13_spread_0 17 rfl rfl)
theorem dX13_spread_19 : decode cX13_spread 19 = .ok (.ifCond .le 63, 3) := dk_158 0 63 (dk_at dksX13_spread_0 19 rfl rfl)
theorem dX13_spread_22 : decode cX13_spread 22 = .ok (.aload_n 1, 1) := dk_43 (dk_at dksX13_spread_0 22 rfl rfl)
theorem dX13_spread_23 : decode cX13_spread 23 = .ok (.getfield 92, 3) := dk_180 0 92 (dk_at dksX13_spread_1 0 rfl rfl)
theorem dX13_spread_26 : decode cX13_spread 26 = .ok (.iload_n 3, 1) := dk_29 (dk_at dksX13_spread_1 3 rfl rfl)
theorem dX13_spread_27 : decode cX13_spread 27 = .ok (.invokevirtual 100, 3) := dk_182 0 100 (dk_at dksX13_spread_1 4 rfl rfl)
theorem dX13_spread_30 : decode cX13_spread 30 = .ok (.astore 5, 2) := dk_58 5 (dk_at dksX13_spread_1 7 rfl rfl)
theorem dX13_spread_32 : decode cX13_spread 32 = .ok (.aload_n 0, 1) := dk_42 (dk_at dksX13_spread_1 9 rfl rfl)
theorem dX13_spread_33 : decode cX13_spread 33 = .ok (.getfield 25, 3) := dk_180 0 25 (dk_at dksX13_spread_1 10 rfl rfl)
theorem dX13_spread_36 : decode cX13_spread 36 = .ok (.aload 5, 2) := dk_25 5 (dk_at dksX13_spread_1 13 rfl rfl)
theorem dX13_spread_38 : decode cX13_spread 38 = .ok (.invokevirtual 104, 3) := dk_182 0 104 (dk_at dksX13_spread_1 15 rfl rfl)
theorem dX13_spread_41 : decode cX13_spread 41 = .ok (.l2i, 1) := dk_136 (dk_at dksX13_spread_1 18 rfl rfl)
theorem dX13_spread_42 : decode cX13_spread 42 = .ok (.iaload, 1) := dk_46 (dk_at dksX13_spread_1 19 rfl rfl)
theorem dX13_spread_43 : decode cX13_spread 43 = .ok (.iconst (-1), 1) := dk_2 (dk_at dksX13_spread_1 20 rfl rfl)
theorem dX13_spread_44 : decode cX13_spread 44 = .ok (.if_icmp .ne 38, 3) := dk_160 0 38 (dk_at dksX13_spread_1 21 rfl rfl)
theorem dX13_spread_47 : decode cX13_spread 47 = .ok (.aload_n 2, 1) := dk_44 (dk_at dksX13_spread_2 0 rfl rfl)
theorem dX13_spread_48 : decode cX13_spread 48 = .ok (.new 59, 3) := dk_187 0 59 (dk_at dksX13_spread_2 1 rfl rfl)
theorem dX13_spread_51 : decode cX13_spread 51 = .ok (.dup, 1) := dk_89 (dk_at dksX13_spread_2 4 rfl rfl)
theorem dX13_spread_52 : decode cX13_spread 52 = .ok (.aload 5, 2) := dk_25 5 (dk_at dksX13_spread_2 5 rfl rfl)
theorem dX13_spread_54 : decode cX13_spread 54 = .ok (.iconst 0, 1) := dk_3 (dk_at dksX13_spread_2 7 rfl rfl)
theorem dX13_spread_55 : decode cX13_spread 55 = .ok (.aload_n 1, 1) := dk_43 (dk_at dksX13_spread_2 8 rfl rfl)
theorem dX13_spread_56 : decode cX13_spread 56 = .ok (.getfield 80, 3) := dk_180 0 80 (dk_at dksX13_spread_2 9 rfl rfl)
theorem dX13_spread_59 : decode cX13_spread 59 = .ok (.aload_n 0, 1) := dk_42 (dk_at dksX13_spread_2 12 rfl rfl)
theorem dX13_spread_60 : decode cX13_spread 60 = .ok (.getfield 3, 3) := dk_180 0 3 (dk_at dksX13_spread_2 13 rfl rfl)
theorem dX13_spread_63 : decode cX13_spread 63 = .ok (.getfield 49, 3) := dk_180 0 49 (dk_at dksX13_spread_2 16 rfl rfl)
theorem dX13_spread_66 : decode cX13_spread 66 = .ok (.getfield 106, 3) := dk_180 0 106 (dk_at dksX13_spread_2 19 rfl rfl)
theorem dX13_spread_69 : decode cX13_spread 69 = .ok (.iload 4, 2) := dk_21 4 (dk_at dksX13_spread_2 22 rfl rfl)
theorem dX13_spread_71 : decode cX13_spread 71 = .ok (.iaload, 1) := dk_46 (dk_at dksX13_spread_3 0 rfl rfl)
theorem dX13_spread_72 : decode cX13_spread 72 = .ok (.iadd, 1) := dk_96 (dk_at dksX13_spread_3 1 rfl rfl)
theorem dX13_spread_73 : decode cX13_spread 73 = .ok (.aload_n 1, 1) := dk_43 (dk_at dksX13_spread_3 2 rfl rfl)
theorem dX13_spread_74 : decode cX13_spread 74 = .ok (.iload_n 3, 1) := dk_29 (dk_at dksX13_spread_3 3 rfl rfl)
theorem dX13_spread_75 : decode cX13_spread 75 = .ok (.invokespecial 61, 3) := dk_183 0 61 (dk_at dksX13_spread_3 4 rfl rfl)
theorem dX13_spread_78 : decode cX13_spread 78 = .ok (.invokevirtual 64, 3) := dk_182 0 64 (dk_at dksX13_spread_3 7 rfl rfl)
theorem dX13_spread_81 : decode cX13_spread 81 = .ok (.pop, 1) := dk_87 (dk_at dksX13_spread_3 10 rfl rfl)
theorem dX13_spread_82 : decode cX13_spread 82 = .ok (.iinc 3 1, 3) := dk_132 3 1 (dk_at dksX13_spread_3 11 rfl rfl)
theorem dX13_spread_85 : decode cX13_spread 85 = .ok (.goto (-83), 3) := dk_167 255 173 (dk_at dksX13_spread_3 14 rfl rfl)
theorem dX13_spread_88 : decode cX13_spread 88 = .ok (.return_, 1) := dk_177 (dk_at dksX13_spread_3 17 rfl rfl)
abbrev cX13_waysFrom : ByteArray := prog_3_method_3_code
def yX13_waysFrom : MethodName := ⟨RX13, "waysFrom", "(LSlidingtray$Lie;I)I"⟩
def dkwX13_waysFrom_4 : List UInt8 := [3, 96, 62, 132, 4, 1, 167, 255, 168, 18, 109, 29, 184, 0, 110, 172]
abbrev dktX13_waysFrom_4 : List UInt8 := dkwX13_waysFrom_4 ++ []
def dkwX13_waysFrom_3 : List UInt8 := [180, 0, 49, 180, 0, 106, 21, 5, 46, 96, 28, 160, 0, 13, 42, 180, 0, 29, 21, 6, 46, 167, 0, 4]
abbrev dktX13_waysFrom_3 : List UInt8 := dkwX13_waysFrom_3 ++ dktX13_waysFrom_4
def dkwX13_waysFrom_2 : List UInt8 := [29, 42, 180, 0, 25, 21, 6, 46, 2, 159, 0, 38, 42, 180, 0, 25, 21, 6, 46, 42, 180, 0, 3]
abbrev dktX13_waysFrom_2 : List UInt8 := dkwX13_waysFrom_2 ++ dktX13_waysFrom_3
def dkwX13_waysFrom_1 : List UInt8 := [21, 4, 182, 0, 96, 54, 5, 21, 5, 158, 0, 65, 43, 21, 4, 182, 0, 100, 182, 0, 104, 136, 54, 6]
abbrev dktX13_waysFrom_1 : List UInt8 := dkwX13_waysFrom_1 ++ dktX13_waysFrom_2
def dkwX13_waysFrom_0 : List UInt8 := [28, 154, 0, 7, 4, 167, 0, 4, 3, 62, 3, 54, 4, 21, 4, 6, 163, 0, 88, 28, 158, 0, 84, 43]
abbrev dktX13_waysFrom_0 : List UInt8 := dkwX13_waysFrom_0 ++ dktX13_waysFrom_1
theorem dksX13_waysFrom_0 : cX13_waysFrom.data.toList.drop 0 = dktX13_waysFrom_0 := by decide +kernel
theorem dksX13_waysFrom_1 : cX13_waysFrom.data.toList.drop 24 = dktX13_waysFrom_1 := dk_seg dksX13_waysFrom_0 24 rfl rfl
theorem dksX13_waysFrom_2 : cX13_waysFrom.data.toList.drop 48 = dktX13_waysFrom_2 := dk_seg dksX13_waysFrom_1 24 rfl rfl
theorem dksX13_waysFrom_3 : cX13_waysFrom.data.toList.drop 71 = dktX13_waysFrom_3 := dk_seg dksX13_waysFrom_2 23 rfl rfl
theorem dksX13_waysFrom_4 : cX13_waysFrom.data.toList.drop 95 = dktX13_waysFrom_4 := dk_seg dksX13_waysFrom_3 24 rfl rfl
theorem dX13_waysFrom_0 : decode cX13_waysFrom 0 = .ok (.iload_n 2, 1) := dk_28 (dk_at dksX13_waysFrom_0 0 rfl rfl)
theorem dX13_waysFrom_1 : decode cX13_waysFrom 1 = .ok (.ifCond .ne 7, 3) := dk_154 0 7 (dk_at dksX13_waysFrom_0 1 rfl rfl)
theorem dX13_waysFrom_4 : decode cX13_waysFrom 4 = .ok (.iconst 1, 1) := dk_4 (dk_at dksX13_waysFrom_0 4 rfl rfl)
theorem dX13_waysFrom_5 : decode cX13_waysFrom 5 = .ok (.goto 4, 3) := dk_167 0 4 (dk_at dksX13_waysFrom_0 5 rfl rfl)
theorem dX13_waysFrom_8 : decode cX13_waysFrom 8 = .ok (.iconst 0, 1) := dk_3 (dk_at dksX13_waysFrom_0 8 rfl rfl)
theorem dX13_waysFrom_9 : decode cX13_waysFrom 9 = .ok (.istore_n 3, 1) := dk_62 (dk_at dksX13_waysFrom_0 9 rfl rfl)
theorem dX13_waysFrom_10 : decode cX13_waysFrom 10 = .ok (.iconst 0, 1) := dk_3 (dk_at dksX13_waysFrom_0 10 rfl rfl)
theorem dX13_waysFrom_11 : decode cX13_waysFrom 11 = .ok (.istore 4, 2) := dk_54 4 (dk_at dksX13_waysFrom_0 11 rfl rfl)
theorem dX13_waysFrom_13 : decode cX13_waysFrom 13 = .ok (.iload 4, 2) := dk_21 4 (dk_at dksX13_waysFrom_0 13 rfl rfl)
theorem dX13_waysFrom_15 : decode cX13_waysFrom 15 = .ok (.iconst 3, 1) := dk_6 (dk_at dksX13_waysFrom_0 15 rfl rfl)
theorem dX13_waysFrom_16 : decode cX13_waysFrom 16 = .ok (.if_icmp .gt 88, 3) := dk_163 0 88 (dk_at dksX13_waysFrom_0 16 rfl rfl)
theorem dX13_waysFrom_19 : decode cX13_waysFrom 19 = .ok (.iload_n 2, 1) := dk_28 (dk_at dksX13_waysFrom_0 19 rfl rfl)
theorem dX13_waysFrom_20 : decode cX13_waysFrom 20 = .ok (.ifCond .le 84, 3) := dk_158 0 84 (dk_at dksX13_waysFrom_0 20 rfl rfl)
theorem dX13_waysFrom_23 : decode cX13_waysFrom 23 = .ok (.aload_n 1, 1) := dk_43 (dk_at dksX13_waysFrom_0 23 rfl rfl)
theorem dX13_waysFrom_24 : decode cX13_waysFrom 24 = .ok (.iload 4, 2) := dk_21 4 (dk_at dksX13_waysFrom_1 0 rfl rfl)
theorem dX13_waysFrom_26 : decode cX13_waysFrom 26 = .ok (.invokevirtual 96, 3) := dk_182 0 96 (dk_at dksX13_waysFrom_1 2 rfl rfl)
theorem dX13_waysFrom_29 : decode cX13_waysFrom 29 = .ok (.istore 5, 2) := dk_54 5 (dk_at dksX13_waysFrom_1 5 rfl rfl)
theorem dX13_waysFrom_31 : decode cX13_waysFrom 31 = .ok (.iload 5, 2) := dk_21 5 (dk_at dksX13_waysFrom_1 7 rfl rfl)
theorem dX13_waysFrom_33 : decode cX13_waysFrom 33 = .ok (.ifCond .le 65, 3) := dk_158 0 65 (dk_at dksX13_waysFrom_1 9 rfl rfl)
theorem dX13_waysFrom_36 : decode cX13_waysFrom 36 = .ok (.aload_n 1, 1) := dk_43 (dk_at dksX13_waysFrom_1 12 rfl rfl)
theorem dX13_waysFrom_37 : decode cX13_waysFrom 37 = .ok (.iload 4, 2) := dk_21 4 (dk_at dksX13_waysFrom_1 13 rfl rfl)
theorem dX13_waysFrom_39 : decode cX13_waysFrom 39 = .ok (.invokevirtual 100, 3) := dk_182 0 100 (dk_at dksX13_waysFrom_1 15 rfl rfl)
theorem dX13_waysFrom_42 : decode cX13_waysFrom 42 = .ok (.invokevirtual 104, 3) := dk_182 0 104 (dk_at dksX13_waysFrom_1 18 rfl rfl)
theorem dX13_waysFrom_45 : decode cX13_waysFrom 45 = .ok (.l2i, 1) := dk_136 (dk_at dksX13_waysFrom_1 21 rfl rfl)
theorem dX13_waysFrom_46 : decode cX13_waysFrom 46 = .ok (.istore 6, 2) := dk_54 6 (dk_at dksX13_waysFrom_1 22 rfl rfl)
theorem dX13_waysFrom_48 : decode cX13_waysFrom 48 = .ok (.iload_n 3, 1) := dk_29 (dk_at dksX13_waysFrom_2 0 rfl rfl)
theorem dX13_waysFrom_49 : decode cX13_waysFrom 49 = .ok (.aload_n 0, 1) := dk_42 (dk_at dksX13_waysFrom_2 1 rfl rfl)
theorem dX13_waysFrom_50 : decode cX13_waysFrom 50 = .ok (.getfield 25, 3) := dk_180 0 25 (dk_at dksX13_waysFrom_2 2 rfl rfl)
theorem dX13_waysFrom_53 : decode cX13_waysFrom 53 = .ok (.iload 6, 2) := dk_21 6 (dk_at dksX13_waysFrom_2 5 rfl rfl)
theorem dX13_waysFrom_55 : decode cX13_waysFrom 55 = .ok (.iaload, 1) := dk_46 (dk_at dksX13_waysFrom_2 7 rfl rfl)
theorem dX13_waysFrom_56 : decode cX13_waysFrom 56 = .ok (.iconst (-1), 1) := dk_2 (dk_at dksX13_waysFrom_2 8 rfl rfl)
theorem dX13_waysFrom_57 : decode cX13_waysFrom 57 = .ok (.if_icmp .eq 38, 3) := dk_159 0 38 (dk_at dksX13_waysFrom_2 9 rfl rfl)
theorem dX13_waysFrom_60 : decode cX13_waysFrom 60 = .ok (.aload_n 0, 1) := dk_42 (dk_at dksX13_waysFrom_2 12 rfl rfl)
theorem dX13_waysFrom_61 : decode cX13_waysFrom 61 = .ok (.getfield 25, 3) := dk_180 0 25 (dk_at dksX13_waysFrom_2 13 rfl rfl)
theorem dX13_waysFrom_64 : decode cX13_waysFrom 64 = .ok (.iload 6, 2) := dk_21 6 (dk_at dksX13_waysFrom_2 16 rfl rfl)
theorem dX13_waysFrom_66 : decode cX13_waysFrom 66 = .ok (.iaload, 1) := dk_46 (dk_at dksX13_waysFrom_2 18 rfl rfl)
theorem dX13_waysFrom_67 : decode cX13_waysFrom 67 = .ok (.aload_n 0, 1) := dk_42 (dk_at dksX13_waysFrom_2 19 rfl rfl)
theorem dX13_waysFrom_68 : decode cX13_waysFrom 68 = .ok (.getfield 3, 3) := dk_180 0 3 (dk_at dksX13_waysFrom_2 20 rfl rfl)
theorem dX13_waysFrom_71 : decode cX13_waysFrom 71 = .ok (.getfield 49, 3) := dk_180 0 49 (dk_at dksX13_waysFrom_3 0 rfl rfl)
theorem dX13_waysFrom_74 : decode cX13_waysFrom 74 = .ok (.getfield 106, 3) := dk_180 0 106 (dk_at dksX13_waysFrom_3 3 rfl rfl)
theorem dX13_waysFrom_77 : decode cX13_waysFrom 77 = .ok (.iload 5, 2) := dk_21 5 (dk_at dksX13_waysFrom_3 6 rfl rfl)
theorem dX13_waysFrom_79 : decode cX13_waysFrom 79 = .ok (.iaload, 1) := dk_46 (dk_at dksX13_waysFrom_3 8 rfl rfl)
theorem dX13_waysFrom_80 : decode cX13_waysFrom 80 = .ok (.iadd, 1) := dk_96 (dk_at dksX13_waysFrom_3 9 rfl rfl)
theorem dX13_waysFrom_81 : decode cX13_waysFrom 81 = .ok (.iload_n 2, 1) := dk_28 (dk_at dksX13_waysFrom_3 10 rfl rfl)
theorem dX13_waysFrom_82 : decode cX13_waysFrom 82 = .ok (.if_icmp .ne 13, 3) := dk_160 0 13 (dk_at dksX13_waysFrom_3 11 rfl rfl)
theorem dX13_waysFrom_85 : decode cX13_waysFrom 85 = .ok (.aload_n 0, 1) := dk_42 (dk_at dksX13_waysFrom_3 14 rfl rfl)
theorem dX13_waysFrom_86 : decode cX13_waysFrom 86 = .ok (.getfield 29, 3) := dk_180 0 29 (dk_at dksX13_waysFrom_3 15 rfl rfl)
theorem dX13_waysFrom_89 : decode cX13_waysFrom 89 = .ok (.iload 6, 2) := dk_21 6 (dk_at dksX13_waysFrom_3 18 rfl rfl)
theorem dX13_waysFrom_91 : decode cX13_waysFrom 91 = .ok (.iaload, 1) := dk_46 (dk_at dksX13_waysFrom_3 20 rfl rfl)
theorem dX13_waysFrom_92 : decode cX13_waysFrom 92 = .ok (.goto 4, 3) := dk_167 0 4 (dk_at dksX13_waysFrom_3 21 rfl rfl)
theorem dX13_waysFrom_95 : decode cX13_waysFrom 95 = .ok (.iconst 0, 1) := dk_3 (dk_at dksX13_waysFrom_4 0 rfl rfl)
theorem dX13_waysFrom_96 : decode cX13_waysFrom 96 = .ok (.iadd, 1) := dk_96 (dk_at dksX13_waysFrom_4 1 rfl rfl)
theorem dX13_waysFrom_97 : decode cX13_waysFrom 97 = .ok (.istore_n 3, 1) := dk_62 (dk_at dksX13_waysFrom_4 2 rfl rfl)
theorem dX13_waysFrom_98 : decode cX13_waysFrom 98 = .ok (.iinc 4 1, 3) := dk_132 4 1 (dk_at dksX13_waysFrom_4 3 rfl rfl)
theorem dX13_waysFrom_101 : decode cX13_waysFrom 101 = .ok (.goto (-88), 3) := dk_167 255 168 (dk_at dksX13_waysFrom_4 6 rfl rfl)
theorem dX13_waysFrom_104 : decode cX13_waysFrom 104 = .ok (.ldc 109, 2) := dk_18 109 (dk_at dksX13_waysFrom_4 9 rfl rfl)
theorem dX13_waysFrom_106 : decode cX13_waysFrom 106 = .ok (.iload_n 3, 1) := dk_29 (dk_at dksX13_waysFrom_4 11 rfl rfl)
theorem dX13_waysFrom_107 : decode cX13_waysFrom 107 = .ok (.invokestatic 110, 3) := dk_184 0 110 (dk_at dksX13_waysFrom_4 12 rfl rfl)
theorem dX13_waysFrom_110 : decode cX13_waysFrom 110 = .ok (.ireturn, 1) := dk_172 (dk_at dksX13_waysFrom_4 15 rfl rfl)
abbrev cX13_count : ByteArray := prog_3_method_5_code
def yX13_count : MethodName := ⟨RX13, "count", "(II)I"⟩
def dkwX13_count_2 : List UInt8 := [3, 96, 62, 132, 6, 1, 167, 255, 219, 29, 172]
abbrev dktX13_count_2 : List UInt8 := dkwX13_count_2 ++ []
def dkwX13_count_1 : List UInt8 := [25, 4, 21, 6, 46, 54, 7, 29, 21, 7, 27, 161, 0, 13, 21, 7, 28, 163, 0, 7, 4, 167, 0, 4]
abbrev dktX13_count_1 : List UInt8 := dkwX13_count_1 ++ dktX13_count_2
def dkwX13_count_0 : List UInt8 := [3, 62, 42, 180, 0, 25, 58, 4, 25, 4, 190, 54, 5, 3, 54, 6, 21, 6, 21, 5, 162, 0, 36]
abbrev dktX13_count_0 : List UInt8 := dkwX13_count_0 ++ dktX13_count_1
theorem dksX13_count_0 : cX13_count.data.toList.drop 0 = dktX13_count_0 := by decide +kernel
theorem dksX13_count_1 : cX13_count.data.toList.drop 23 = dktX13_count_1 := dk_seg dksX13_count_0 23 rfl rfl
theorem dksX13_count_2 : cX13_count.data.toList.drop 47 = dktX13_count_2 := dk_seg dksX13_count_1 24 rfl rfl
theorem dX13_count_0 : decode cX13_count 0 = .ok (.iconst 0, 1) := dk_3 (dk_at dksX13_count_0 0 rfl rfl)
theorem dX13_count_1 : decode cX13_count 1 = .ok (.istore_n 3, 1) := dk_62 (dk_at dksX13_count_0 1 rfl rfl)
theorem dX13_count_2 : decode cX13_count 2 = .ok (.aload_n 0, 1) := dk_42 (dk_at dksX13_count_0 2 rfl rfl)
theorem dX13_count_3 : decode cX13_count 3 = .ok (.getfield 25, 3) := dk_180 0 25 (dk_at dksX13_count_0 3 rfl rfl)
theorem dX13_count_6 : decode cX13_count 6 = .ok (.astore 4, 2) := dk_58 4 (dk_at dksX13_count_0 6 rfl rfl)
theorem dX13_count_8 : decode cX13_count 8 = .ok (.aload 4, 2) := dk_25 4 (dk_at dksX13_count_0 8 rfl rfl)
theorem dX13_count_10 : decode cX13_count 10 = .ok (.arraylength, 1) := dk_190 (dk_at dksX13_count_0 10 rfl rfl)
theorem dX13_count_11 : decode cX13_count 11 = .ok (.istore 5, 2) := dk_54 5 (dk_at dksX13_count_0 11 rfl rfl)
theorem dX13_count_13 : decode cX13_count 13 = .ok (.iconst 0, 1) := dk_3 (dk_at dksX13_count_0 13 rfl rfl)
theorem dX13_count_14 : decode cX13_count 14 = .ok (.istore 6, 2) := dk_54 6 (dk_at dksX13_count_0 14 rfl rfl)
theorem dX13_count_16 : decode cX13_count 16 = .ok (.iload 6, 2) := dk_21 6 (dk_at dksX13_count_0 16 rfl rfl)
theorem dX13_count_18 : decode cX13_count 18 = .ok (.iload 5, 2) := dk_21 5 (dk_at dksX13_count_0 18 rfl rfl)
theorem dX13_count_20 : decode cX13_count 20 = .ok (.if_icmp .ge 36, 3) := dk_162 0 36 (dk_at dksX13_count_0 20 rfl rfl)
theorem dX13_count_23 : decode cX13_count 23 = .ok (.aload 4, 2) := dk_25 4 (dk_at dksX13_count_1 0 rfl rfl)
theorem dX13_count_25 : decode cX13_count 25 = .ok (.iload 6, 2) := dk_21 6 (dk_at dksX13_count_1 2 rfl rfl)
theorem dX13_count_27 : decode cX13_count 27 = .ok (.iaload, 1) := dk_46 (dk_at dksX13_count_1 4 rfl rfl)
theorem dX13_count_28 : decode cX13_count 28 = .ok (.istore 7, 2) := dk_54 7 (dk_at dksX13_count_1 5 rfl rfl)
theorem dX13_count_30 : decode cX13_count 30 = .ok (.iload_n 3, 1) := dk_29 (dk_at dksX13_count_1 7 rfl rfl)
theorem dX13_count_31 : decode cX13_count 31 = .ok (.iload 7, 2) := dk_21 7 (dk_at dksX13_count_1 8 rfl rfl)
theorem dX13_count_33 : decode cX13_count 33 = .ok (.iload_n 1, 1) := dk_27 (dk_at dksX13_count_1 10 rfl rfl)
theorem dX13_count_34 : decode cX13_count 34 = .ok (.if_icmp .lt 13, 3) := dk_161 0 13 (dk_at dksX13_count_1 11 rfl rfl)
theorem dX13_count_37 : decode cX13_count 37 = .ok (.iload 7, 2) := dk_21 7 (dk_at dksX13_count_1 14 rfl rfl)
theorem dX13_count_39 : decode cX13_count 39 = .ok (.iload_n 2, 1) := dk_28 (dk_at dksX13_count_1 16 rfl rfl)
theorem dX13_count_40 : decode cX13_count 40 = .ok (.if_icmp .gt 7, 3) := dk_163 0 7 (dk_at dksX13_count_1 17 rfl rfl)
theorem dX13_count_43 : decode cX13_count 43 = .ok (.iconst 1, 1) := dk_4 (dk_at dksX13_count_1 20 rfl rfl)
theorem dX13_count_44 : decode cX13_count 44 = .ok (.goto 4, 3) := dk_167 0 4 (dk_at dksX13_count_1 21 rfl rfl)
theorem dX13_count_47 : decode cX13_count 47 = .ok (.iconst 0, 1) := dk_3 (dk_at dksX13_count_2 0 rfl rfl)
theorem dX13_count_48 : decode cX13_count 48 = .ok (.iadd, 1) := dk_96 (dk_at dksX13_count_2 1 rfl rfl)
theorem dX13_count_49 : decode cX13_count 49 = .ok (.istore_n 3, 1) := dk_62 (dk_at dksX13_count_2 2 rfl rfl)
theorem dX13_count_50 : decode cX13_count 50 = .ok (.iinc 6 1, 3) := dk_132 6 1 (dk_at dksX13_count_2 3 rfl rfl)
theorem dX13_count_53 : decode cX13_count 53 = .ok (.goto (-37), 3) := dk_167 255 219 (dk_at dksX13_count_2 6 rfl rfl)
theorem dX13_count_56 : decode cX13_count 56 = .ok (.iload_n 3, 1) := dk_29 (dk_at dksX13_count_2 9 rfl rfl)
theorem dX13_count_57 : decode cX13_count 57 = .ok (.ireturn, 1) := dk_172 (dk_at dksX13_count_2 10 rfl rfl)
abbrev cX13_greatest : ByteArray := prog_3_method_4_code
def yX13_greatest : MethodName := ⟨RX13, "greatest", "()I"⟩
def dkwX13_greatest_1 : List UInt8 := [54, 5, 27, 21, 5, 184, 0, 116, 60, 132, 4, 1, 167, 255, 234, 27, 172]
abbrev dktX13_greatest_1 : List UInt8 := dkwX13_greatest_1 ++ []
def dkwX13_greatest_0 : List UInt8 := [3, 60, 42, 180, 0, 25, 77, 44, 190, 62, 3, 54, 4, 21, 4, 29, 162, 0, 22, 44, 21, 4, 46]
abbrev dktX13_greatest_0 : List UInt8 := dkwX13_greatest_0 ++ dktX13_greatest_1
theorem dksX13_greatest_0 : cX13_greatest.data.toList.drop 0 = dktX13_greatest_0 := by decide +kernel
theorem dksX13_greatest_1 : cX13_greatest.data.toList.drop 23 = dktX13_greatest_1 := dk_seg dksX13_greatest_0 23 rfl rfl
theorem dX13_greatest_0 : decode cX13_greatest 0 = .ok (.iconst 0, 1) := dk_3 (dk_at dksX13_greatest_0 0 rfl rfl)
theorem dX13_greatest_1 : decode cX13_greatest 1 = .ok (.istore_n 1, 1) := dk_60 (dk_at dksX13_greatest_0 1 rfl rfl)
theorem dX13_greatest_2 : decode cX13_greatest 2 = .ok (.aload_n 0, 1) := dk_42 (dk_at dksX13_greatest_0 2 rfl rfl)
theorem dX13_greatest_3 : decode cX13_greatest 3 = .ok (.getfield 25, 3) := dk_180 0 25 (dk_at dksX13_greatest_0 3 rfl rfl)
theorem dX13_greatest_6 : decode cX13_greatest 6 = .ok (.astore_n 2, 1) := dk_77 (dk_at dksX13_greatest_0 6 rfl rfl)
theorem dX13_greatest_7 : decode cX13_greatest 7 = .ok (.aload_n 2, 1) := dk_44 (dk_at dksX13_greatest_0 7 rfl rfl)
theorem dX13_greatest_8 : decode cX13_greatest 8 = .ok (.arraylength, 1) := dk_190 (dk_at dksX13_greatest_0 8 rfl rfl)
theorem dX13_greatest_9 : decode cX13_greatest 9 = .ok (.istore_n 3, 1) := dk_62 (dk_at dksX13_greatest_0 9 rfl rfl)
theorem dX13_greatest_10 : decode cX13_greatest 10 = .ok (.iconst 0, 1) := dk_3 (dk_at dksX13_greatest_0 10 rfl rfl)
theorem dX13_greatest_11 : decode cX13_greatest 11 = .ok (.istore 4, 2) := dk_54 4 (dk_at dksX13_greatest_0 11 rfl rfl)
theorem dX13_greatest_13 : decode cX13_greatest 13 = .ok (.iload 4, 2) := dk_21 4 (dk_at dksX13_greatest_0 13 rfl rfl)
theorem dX13_greatest_15 : decode cX13_greatest 15 = .ok (.iload_n 3, 1) := dk_29 (dk_at dksX13_greatest_0 15 rfl rfl)
theorem dX13_greatest_16 : decode cX13_greatest 16 = .ok (.if_icmp .ge 22, 3) := dk_162 0 22 (dk_at dksX13_greatest_0 16 rfl rfl)
theorem dX13_greatest_19 : decode cX13_greatest 19 = .ok (.aload_n 2, 1) := dk_44 (dk_at dksX13_greatest_0 19 rfl rfl)
theorem dX13_greatest_20 : decode cX13_greatest 20 = .ok (.iload 4, 2) := dk_21 4 (dk_at dksX13_greatest_0 20 rfl rfl)
theorem dX13_greatest_22 : decode cX13_greatest 22 = .ok (.iaload, 1) := dk_46 (dk_at dksX13_greatest_0 22 rfl rfl)
theorem dX13_greatest_23 : decode cX13_greatest 23 = .ok (.istore 5, 2) := dk_54 5 (dk_at dksX13_greatest_1 0 rfl rfl)
theorem dX13_greatest_25 : decode cX13_greatest 25 = .ok (.iload_n 1, 1) := dk_27 (dk_at dksX13_greatest_1 2 rfl rfl)
theorem dX13_greatest_26 : decode cX13_greatest 26 = .ok (.iload 5, 2) := dk_21 5 (dk_at dksX13_greatest_1 3 rfl rfl)
theorem dX13_greatest_28 : decode cX13_greatest 28 = .ok (.invokestatic 116, 3) := dk_184 0 116 (dk_at dksX13_greatest_1 5 rfl rfl)
theorem dX13_greatest_31 : decode cX13_greatest 31 = .ok (.istore_n 1, 1) := dk_60 (dk_at dksX13_greatest_1 8 rfl rfl)
theorem dX13_greatest_32 : decode cX13_greatest 32 = .ok (.iinc 4 1, 3) := dk_132 4 1 (dk_at dksX13_greatest_1 9 rfl rfl)
theorem dX13_greatest_35 : decode cX13_greatest 35 = .ok (.goto (-22), 3) := dk_167 255 234 (dk_at dksX13_greatest_1 12 rfl rfl)
theorem dX13_greatest_38 : decode cX13_greatest 38 = .ok (.iload_n 1, 1) := dk_27 (dk_at dksX13_greatest_1 15 rfl rfl)
theorem dX13_greatest_39 : decode cX13_greatest 39 = .ok (.ireturn, 1) := dk_172 (dk_at dksX13_greatest_1 16 rfl rfl)
abbrev cX13_first : ByteArray := prog_3_method_6_code
def yX13_first : MethodName := ⟨RX13, "first", "(IZ)I"⟩
def dkwX13_first_1 : List UInt8 := [153, 0, 13, 42, 180, 0, 29, 29, 46, 4, 160, 0, 5, 29, 172, 132, 3, 1, 167, 255, 218, 2, 172]
abbrev dktX13_first_1 : List UInt8 := dkwX13_first_1 ++ []
def dkwX13_first_0 : List UInt8 := [3, 62, 29, 42, 180, 0, 25, 190, 162, 0, 35, 42, 180, 0, 25, 29, 46, 27, 160, 0, 19, 28]
abbrev dktX13_first_0 : List UInt8 := dkwX13_first_0 ++ dktX13_first_1
theorem dksX13_first_0 : cX13_first.data.toList.drop 0 = dktX13_first_0 := by decide +kernel
theorem dksX13_first_1 : cX13_first.data.toList.drop 22 = dktX13_first_1 := dk_seg dksX13_first_0 22 rfl rfl
theorem dX13_first_0 : decode cX13_first 0 = .ok (.iconst 0, 1) := dk_3 (dk_at dksX13_first_0 0 rfl rfl)
theorem dX13_first_1 : decode cX13_first 1 = .ok (.istore_n 3, 1) := dk_62 (dk_at dksX13_first_0 1 rfl rfl)
theorem dX13_first_2 : decode cX13_first 2 = .ok (.iload_n 3, 1) := dk_29 (dk_at dksX13_first_0 2 rfl rfl)
theorem dX13_first_3 : decode cX13_first 3 = .ok (.aload_n 0, 1) := dk_42 (dk_at dksX13_first_0 3 rfl rfl)
theorem dX13_first_4 : decode cX13_first 4 = .ok (.getfield 25, 3) := dk_180 0 25 (dk_at dksX13_first_0 4 rfl rfl)
theorem dX13_first_7 : decode cX13_first 7 = .ok (.arraylength, 1) := dk_190 (dk_at dksX13_first_0 7 rfl rfl)
theorem dX13_first_8 : decode cX13_first 8 = .ok (.if_icmp .ge 35, 3) := dk_162 0 35 (dk_at dksX13_first_0 8 rfl rfl)
theorem dX13_first_11 : decode cX13_first 11 = .ok (.aload_n 0, 1) := dk_42 (dk_at dksX13_first_0 11 rfl rfl)
theorem dX13_first_12 : decode cX13_first 12 = .ok (.getfield 25, 3) := dk_180 0 25 (dk_at dksX13_first_0 12 rfl rfl)
theorem dX13_first_15 : decode cX13_first 15 = .ok (.iload_n 3, 1) := dk_29 (dk_at dksX13_first_0 15 rfl rfl)
theorem dX13_first_16 : decode cX13_first 16 = .ok (.iaload, 1) := dk_46 (dk_at dksX13_first_0 16 rfl rfl)
theorem dX13_first_17 : decode cX13_first 17 = .ok (.iload_n 1, 1) := dk_27 (dk_at dksX13_first_0 17 rfl rfl)
theorem dX13_first_18 : decode cX13_first 18 = .ok (.if_icmp .ne 19, 3) := dk_160 0 19 (dk_at dksX13_first_0 18 rfl rfl)
theorem dX13_first_21 : decode cX13_first 21 = .ok (.iload_n 2, 1) := dk_28 (dk_at dksX13_first_0 21 rfl rfl)
theorem dX13_first_22 : decode cX13_first 22 = .ok (.ifCond .eq 13, 3) := dk_153 0 13 (dk_at dksX13_first_1 0 rfl rfl)
theorem dX13_first_25 : decode cX13_first 25 = .ok (.aload_n 0, 1) := dk_42 (dk_at dksX13_first_1 3 rfl rfl)
theorem dX13_first_26 : decode cX13_first 26 = .ok (.getfield 29, 3) := dk_180 0 29 (dk_at dksX13_first_1 4 rfl rfl)
theorem dX13_first_29 : decode cX13_first 29 = .ok (.iload_n 3, 1) := dk_29 (dk_at dksX13_first_1 7 rfl rfl)
theorem dX13_first_30 : decode cX13_first 30 = .ok (.iaload, 1) := dk_46 (dk_at dksX13_first_1 8 rfl rfl)
theorem dX13_first_31 : decode cX13_first 31 = .ok (.iconst 1, 1) := dk_4 (dk_at dksX13_first_1 9 rfl rfl)
theorem dX13_first_32 : decode cX13_first 32 = .ok (.if_icmp .ne 5, 3) := dk_160 0 5 (dk_at dksX13_first_1 10 rfl rfl)
theorem dX13_first_35 : decode cX13_first 35 = .ok (.iload_n 3, 1) := dk_29 (dk_at dksX13_first_1 13 rfl rfl)
theorem dX13_first_36 : decode cX13_first 36 = .ok (.ireturn, 1) := dk_172 (dk_at dksX13_first_1 14 rfl rfl)
theorem dX13_first_37 : decode cX13_first 37 = .ok (.iinc 3 1, 3) := dk_132 3 1 (dk_at dksX13_first_1 15 rfl rfl)
theorem dX13_first_40 : decode cX13_first 40 = .ok (.goto (-38), 3) := dk_167 255 218 (dk_at dksX13_first_1 18 rfl rfl)
theorem dX13_first_43 : decode cX13_first 43 = .ok (.iconst (-1), 1) := dk_2 (dk_at dksX13_first_1 21 rfl rfl)
theorem dX13_first_44 : decode cX13_first 44 = .ok (.ireturn, 1) := dk_172 (dk_at dksX13_first_1 22 rfl rfl)
abbrev cX13_isFair : ByteArray := prog_3_method_7_code
def yX13_isFair : MethodName := ⟨RX13, "isFair", "(I)Z"⟩
def dkwX13_isFair_3 : List UInt8 := [3, 61, 132, 3, 1, 167, 255, 184, 28, 172]
abbrev dktX13_isFair_3 : List UInt8 := dkwX13_isFair_3 ++ []
def dkwX13_isFair_2 : List UInt8 := [163, 0, 24, 42, 180, 0, 3, 42, 180, 0, 21, 29, 50, 27, 182, 0, 122, 153, 0, 7, 4, 167, 0, 4]
abbrev dktX13_isFair_2 : List UInt8 := dkwX13_isFair_2 ++ dktX13_isFair_3
def dkwX13_isFair_1 : List UInt8 := [153, 0, 47, 42, 180, 0, 3, 42, 180, 0, 21, 29, 50, 27, 182, 0, 119, 42, 180, 0, 25, 29, 46]
abbrev dktX13_isFair_1 : List UInt8 := dkwX13_isFair_1 ++ dktX13_isFair_2
def dkwX13_isFair_0 : List UInt8 := [4, 61, 3, 62, 29, 42, 180, 0, 25, 190, 162, 0, 69, 42, 180, 0, 25, 29, 46, 2, 159, 0, 53, 28]
abbrev dktX13_isFair_0 : List UInt8 := dkwX13_isFair_0 ++ dktX13_isFair_1
theorem dksX13_isFair_0 : cX13_isFair.data.toList.drop 0 = dktX13_isFair_0 := by decide +kernel
theorem dksX13_isFair_1 : cX13_isFair.data.toList.drop 24 = dktX13_isFair_1 := dk_seg dksX13_isFair_0 24 rfl rfl
theorem dksX13_isFair_2 : cX13_isFair.data.toList.drop 47 = dktX13_isFair_2 := dk_seg dksX13_isFair_1 23 rfl rfl
theorem dksX13_isFair_3 : cX13_isFair.data.toList.drop 71 = dktX13_isFair_3 := dk_seg dksX13_isFair_2 24 rfl rfl
theorem dX13_isFair_0 : decode cX13_isFair 0 = .ok (.iconst 1, 1) := dk_4 (dk_at dksX13_isFair_0 0 rfl rfl)
theorem dX13_isFair_1 : decode cX13_isFair 1 = .ok (.istore_n 2, 1) := dk_61 (dk_at dksX13_isFair_0 1 rfl rfl)
theorem dX13_isFair_2 : decode cX13_isFair 2 = .ok (.iconst 0, 1) := dk_3 (dk_at dksX13_isFair_0 2 rfl rfl)
theorem dX13_isFair_3 : decode cX13_isFair 3 = .ok (.istore_n 3, 1) := dk_62 (dk_at dksX13_isFair_0 3 rfl rfl)
theorem dX13_isFair_4 : decode cX13_isFair 4 = .ok (.iload_n 3, 1) := dk_29 (dk_at dksX13_isFair_0 4 rfl rfl)
theorem dX13_isFair_5 : decode cX13_isFair 5 = .ok (.aload_n 0, 1) := dk_42 (dk_at dksX13_isFair_0 5 rfl rfl)
theorem dX13_isFair_6 : decode cX13_isFair 6 = .ok (.getfield 25, 3) := dk_180 0 25 (dk_at dksX13_isFair_0 6 rfl rfl)
theorem dX13_isFair_9 : decode cX13_isFair 9 = .ok (.arraylength, 1) := dk_190 (dk_at dksX13_isFair_0 9 rfl rfl)
theorem dX13_isFair_10 : decode cX13_isFair 10 = .ok (.if_icmp .ge 69, 3) := dk_162 0 69 (dk_at dksX13_isFair_0 10 rfl rfl)
theorem dX13_isFair_13 : decode cX13_isFair 13 = .ok (.aload_n 0, 1) := dk_42 (dk_at dksX13_isFair_0 13 rfl rfl)
theorem dX13_isFair_14 : decode cX13_isFair 14 = .ok (.getfield 25, 3) := dk_180 0 25 (dk_at dksX13_isFair_0 14 rfl rfl)
theorem dX13_isFair_17 : decode cX13_isFair 17 = .ok (.iload_n 3, 1) := dk_29 (dk_at dksX13_isFair_0 17 rfl rfl)
theorem dX13_isFair_18 : decode cX13_isFair 18 = .ok (.iaload, 1) := dk_46 (dk_at dksX13_isFair_0 18 rfl rfl)
theorem dX13_isFair_19 : decode cX13_isFair 19 = .ok (.iconst (-1), 1) := dk_2 (dk_at dksX13_isFair_0 19 rfl rfl)
theorem dX13_isFair_20 : decode cX13_isFair 20 = .ok (.if_icmp .eq 53, 3) := dk_159 0 53 (dk_at dksX13_isFair_0 20 rfl rfl)
theorem dX13_isFair_23 : decode cX13_isFair 23 = .ok (.iload_n 2, 1) := dk_28 (dk_at dksX13_isFair_0 23 rfl rfl)
theorem dX13_isFair_24 : decode cX13_isFair 24 = .ok (.ifCond .eq 47, 3) := dk_153 0 47 (dk_at dksX13_isFair_1 0 rfl rfl)
theorem dX13_isFair_27 : decode cX13_isFair 27 = .ok (.aload_n 0, 1) := dk_42 (dk_at dksX13_isFair_1 3 rfl rfl)
theorem dX13_isFair_28 : decode cX13_isFair 28 = .ok (.getfield 3, 3) := dk_180 0 3 (dk_at dksX13_isFair_1 4 rfl rfl)
theorem dX13_isFair_31 : decode cX13_isFair 31 = .ok (.aload_n 0, 1) := dk_42 (dk_at dksX13_isFair_1 7 rfl rfl)
theorem dX13_isFair_32 : decode cX13_isFair 32 = .ok (.getfield 21, 3) := dk_180 0 21 (dk_at dksX13_isFair_1 8 rfl rfl)
theorem dX13_isFair_35 : decode cX13_isFair 35 = .ok (.iload_n 3, 1) := dk_29 (dk_at dksX13_isFair_1 11 rfl rfl)
theorem dX13_isFair_36 : decode cX13_isFair 36 = .ok (.aaload, 1) := dk_50 (dk_at dksX13_isFair_1 12 rfl rfl)
theorem dX13_isFair_37 : decode cX13_isFair 37 = .ok (.iload_n 1, 1) := dk_27 (dk_at dksX13_isFair_1 13 rfl rfl)
theorem dX13_isFair_38 : decode cX13_isFair 38 = .ok (.invokevirtual 119, 3) := dk_182 0 119 (dk_at dksX13_isFair_1 14 rfl rfl)
theorem dX13_isFair_41 : decode cX13_isFair 41 = .ok (.aload_n 0, 1) := dk_42 (dk_at dksX13_isFair_1 17 rfl rfl)
theorem dX13_isFair_42 : decode cX13_isFair 42 = .ok (.getfield 25, 3) := dk_180 0 25 (dk_at dksX13_isFair_1 18 rfl rfl)
theorem dX13_isFair_45 : decode cX13_isFair 45 = .ok (.iload_n 3, 1) := dk_29 (dk_at dksX13_isFair_1 21 rfl rfl)
theorem dX13_isFair_46 : decode cX13_isFair 46 = .ok (.iaload, 1) := dk_46 (dk_at dksX13_isFair_1 22 rfl rfl)
theorem dX13_isFair_47 : decode cX13_isFair 47 = .ok (.if_icmp .gt 24, 3) := dk_163 0 24 (dk_at dksX13_isFair_2 0 rfl rfl)
theorem dX13_isFair_50 : decode cX13_isFair 50 = .ok (.aload_n 0, 1) := dk_42 (dk_at dksX13_isFair_2 3 rfl rfl)
theorem dX13_isFair_51 : decode cX13_isFair 51 = .ok (.getfield 3, 3) := dk_180 0 3 (dk_at dksX13_isFair_2 4 rfl rfl)
theorem dX13_isFair_54 : decode cX13_isFair 54 = .ok (.aload_n 0, 1) := dk_42 (dk_at dksX13_isFair_2 7 rfl rfl)
theorem dX13_isFair_55 : decode cX13_isFair 55 = .ok (.getfield 21, 3) := dk_180 0 21 (dk_at dksX13_isFair_2 8 rfl rfl)
theorem dX13_isFair_58 : decode cX13_isFair 58 = .ok (.iload_n 3, 1) := dk_29 (dk_at dksX13_isFair_2 11 rfl rfl)
theorem dX13_isFair_59 : decode cX13_isFair 59 = .ok (.aaload, 1) := dk_50 (dk_at dksX13_isFair_2 12 rfl rfl)
theorem dX13_isFair_60 : decode cX13_isFair 60 = .ok (.iload_n 1, 1) := dk_27 (dk_at dksX13_isFair_2 13 rfl rfl)
theorem dX13_isFair_61 : decode cX13_isFair 61 = .ok (.invokevirtual 122, 3) := dk_182 0 122 (dk_at dksX13_isFair_2 14 rfl rfl)
theorem dX13_isFair_64 : decode cX13_isFair 64 = .ok (.ifCond .eq 7, 3) := dk_153 0 7 (dk_at dksX13_isFair_2 17 rfl rfl)
theorem dX13_isFair_67 : decode cX13_isFair 67 = .ok (.iconst 1, 1) := dk_4 (dk_at dksX13_isFair_2 20 rfl rfl)
theorem dX13_isFair_68 : decode cX13_isFair 68 = .ok (.goto 4, 3) := dk_167 0 4 (dk_at dksX13_isFair_2 21 rfl rfl)
theorem dX13_isFair_71 : decode cX13_isFair 71 = .ok (.iconst 0, 1) := dk_3 (dk_at dksX13_isFair_3 0 rfl rfl)
theorem dX13_isFair_72 : decode cX13_isFair 72 = .ok (.istore_n 2, 1) := dk_61 (dk_at dksX13_isFair_3 1 rfl rfl)
theorem dX13_isFair_73 : decode cX13_isFair 73 = .ok (.iinc 3 1, 3) := dk_132 3 1 (dk_at dksX13_isFair_3 2 rfl rfl)
theorem dX13_isFair_76 : decode cX13_isFair 76 = .ok (.goto (-72), 3) := dk_167 255 184 (dk_at dksX13_isFair_3 5 rfl rfl)
theorem dX13_isFair_79 : decode cX13_isFair 79 = .ok (.iload_n 2, 1) := dk_28 (dk_at dksX13_isFair_3 8 rfl rfl)
theorem dX13_isFair_80 : decode cX13_isFair 80 = .ok (.ireturn, 1) := dk_172 (dk_at dksX13_isFair_3 9 rfl rfl)
theorem q159 : (Jvm.Cond.initialized "Slidingtray$All") ∈ lw_all := lw_g (lw_at lw_m1 58 rfl) rfl
theorem q288 : (Jvm.Cond.selects "Slidingtray$All" ({ cls := "java/lang/Object", name := "getClass", desc := "()Ljava/lang/Class;" } : Jvm.MethodName) ({ cls := "java/lang/Object", name := "getClass", desc := "()Ljava/lang/Class;" } : Jvm.MethodName)) ∈ lw_all := lw_g (lw_at lw_m1 187 rfl) rfl
theorem q743 : (Jvm.Cond.selects "Slidingtray$All" ({ cls := "java/lang/Object", name := "equals", desc := "(Ljava/lang/Object;)Z" } : Jvm.MethodName) ({ cls := "java/lang/Object", name := "equals", desc := "(Ljava/lang/Object;)Z" } : Jvm.MethodName)) ∈ lw_all := lw_g (lw_at lw_m3 162 rfl) rfl
theorem q1084 : (Jvm.Cond.fieldLinkNest "Slidingtray$All" (106 : Nat) "Slidingtray$Aim" "weights" "[I" "Slidingtray") ∈ lw_tbl := lw_at lw_m5 23 rfl
theorem q1133 : (Jvm.Cond.fieldLinkNest "Slidingtray$All" (41 : Nat) "Slidingtray" "shape" "LSlidingtray$Shape;" "Slidingtray") ∈ lw_tbl := lw_at lw_m5 72 rfl
theorem q1136 : (Jvm.Cond.fieldLinkNest "Slidingtray$All" (49 : Nat) "Slidingtray" "aim" "LSlidingtray$Aim;" "Slidingtray") ∈ lw_tbl := lw_at lw_m5 75 rfl
theorem q1423 : (Jvm.Cond.instantiable "Slidingtray$All" (4 : Nat)) ∈ lw_all := lw_g (lw_at lw_m6 122 rfl) rfl
theorem q1425 : (Jvm.Cond.instanceMethod ({ cls := "Slidingtray$All", name := "<init>", desc := "(LSlidingtray;)V" } : Jvm.MethodName)) ∈ lw_all := lw_g (lw_at lw_m6 124 rfl) rfl
theorem q1426 : (Jvm.Cond.code ({ cls := "Slidingtray$All", name := "<init>", desc := "(LSlidingtray;)V" } : Jvm.MethodName) prog_3_method_1_code (5 : Nat) (Option.none : Option Jvm.ClassFile.FieldType)) ∈ lw_all := lw_g (lw_at lw_m6 125 rfl) rfl
theorem q1427 : (Jvm.Cond.methodLink "Slidingtray$All" (9 : Nat) ({ cls := "java/lang/Object", name := "<init>", desc := "()V" } : Jvm.MethodName)) ∈ lw_all := lw_g (lw_at lw_m6 126 rfl) rfl
theorem q1428 : (Jvm.Cond.methodLinkNest "Slidingtray$All" (15 : Nat) ({ cls := "Slidingtray", name := "arrangements", desc := "()J" } : Jvm.MethodName) "Slidingtray") ∈ lw_tbl := lw_at lw_m6 127 rfl
theorem q1432 : (Jvm.Cond.classLink "Slidingtray$All" (19 : Nat) "Slidingtray$Lie") ∈ lw_all := lw_g (lw_at lw_m6 131 rfl) rfl
theorem q1434 : (Jvm.Cond.classLink "Slidingtray$All" (32 : Nat) "java/util/PriorityQueue") ∈ lw_all := lw_g (lw_at lw_m6 133 rfl) rfl
theorem q1436 : (Jvm.Cond.methodLink "Slidingtray$All" (34 : Nat) ({ cls := "java/util/PriorityQueue", name := "<init>", desc := "()V" } : Jvm.MethodName)) ∈ lw_all := lw_g (lw_at lw_m6 135 rfl) rfl
theorem q1468 : (Jvm.Cond.methodLink "Slidingtray$All" (35 : Nat) ({ cls := "java/util/Arrays", name := "fill", desc := "([II)V" } : Jvm.MethodName)) ∈ lw_all := lw_g (lw_at lw_m6 167 rfl) rfl
theorem q1469 : (Jvm.Cond.methodLink "Slidingtray$All" (45 : Nat) ({ cls := "Slidingtray$Lie", name := "of", desc := "(LSlidingtray$Shape;J)LSlidingtray$Lie;" } : Jvm.MethodName)) ∈ lw_all := lw_g (lw_at lw_m6 168 rfl) rfl
theorem q1470 : (Jvm.Cond.methodLink "Slidingtray$All" (53 : Nat) ({ cls := "Slidingtray$Aim", name := "isGoal", desc := "(LSlidingtray$Lie;)Z" } : Jvm.MethodName)) ∈ lw_all := lw_g (lw_at lw_m6 169 rfl) rfl
theorem q1474 : (Jvm.Cond.classLink "Slidingtray$All" (59 : Nat) "Slidingtray$State") ∈ lw_all := lw_g (lw_at lw_m6 173 rfl) rfl
theorem q1476 : (Jvm.Cond.methodLink "Slidingtray$All" (61 : Nat) ({ cls := "Slidingtray$State", name := "<init>", desc := "(LSlidingtray$Lie;IILSlidingtray$State;I)V" } : Jvm.MethodName)) ∈ lw_all := lw_g (lw_at lw_m6 175 rfl) rfl
theorem q1482 : (Jvm.Cond.fieldLinkNest "Slidingtray$All" (92 : Nat) "Slidingtray$State" "lie" "LSlidingtray$Lie;" "Slidingtray") ∈ lw_tbl := lw_at lw_m6 181 rfl
theorem q1487 : (Jvm.Cond.fieldLinkNest "Slidingtray$All" (76 : Nat) "Slidingtray$State" "rank" "J" "Slidingtray") ∈ lw_tbl := lw_at lw_m6 186 rfl
theorem q1490 : (Jvm.Cond.fieldLinkNest "Slidingtray$All" (80 : Nat) "Slidingtray$State" "cost" "I" "Slidingtray") ∈ lw_tbl := lw_at lw_m6 189 rfl
theorem q1509 : (Jvm.Cond.methodLink "Slidingtray$All" (64 : Nat) ({ cls := "java/util/PriorityQueue", name := "offer", desc := "(Ljava/lang/Object;)Z" } : Jvm.MethodName)) ∈ lw_all := lw_g (lw_at lw_m6 208 rfl) rfl
theorem q1670 : (Jvm.Cond.methodLink "Slidingtray$All" (68 : Nat) ({ cls := "java/util/PriorityQueue", name := "isEmpty", desc := "()Z" } : Jvm.MethodName)) ∈ lw_all := lw_g (lw_at lw_m7 129 rfl) rfl
theorem q1705 : (Jvm.Cond.methodLink "Slidingtray$All" (72 : Nat) ({ cls := "java/util/PriorityQueue", name := "poll", desc := "()Ljava/lang/Object;" } : Jvm.MethodName)) ∈ lw_all := lw_g (lw_at lw_m7 164 rfl) rfl
theorem q1715 : (Jvm.Cond.methodLink "Slidingtray$All" (84 : Nat) ({ cls := "Slidingtray$All", name := "spread", desc := "(LSlidingtray$State;Ljava/util/PriorityQueue;)V" } : Jvm.MethodName)) ∈ lw_all := lw_g (lw_at lw_m7 174 rfl) rfl
theorem q1716 : (Jvm.Cond.privateMethod ({ cls := "Slidingtray$All", name := "spread", desc := "(LSlidingtray$State;Ljava/util/PriorityQueue;)V" } : Jvm.MethodName)) ∈ lw_tbl := lw_at lw_m7 175 rfl
theorem q1717 : (Jvm.Cond.instanceMethod ({ cls := "Slidingtray$All", name := "spread", desc := "(LSlidingtray$State;Ljava/util/PriorityQueue;)V" } : Jvm.MethodName)) ∈ lw_all := lw_g (lw_at lw_m7 176 rfl) rfl
theorem q1718 : (Jvm.Cond.code ({ cls := "Slidingtray$All", name := "spread", desc := "(LSlidingtray$State;Ljava/util/PriorityQueue;)V" } : Jvm.MethodName) prog_3_method_2_code (6 : Nat) (Option.none : Option Jvm.ClassFile.FieldType)) ∈ lw_all := lw_g (lw_at lw_m7 177 rfl) rfl
theorem q1719 : (Jvm.Cond.methodLink "Slidingtray$All" (96 : Nat) ({ cls := "Slidingtray$Lie", name := "moves", desc := "(I)I" } : Jvm.MethodName)) ∈ lw_all := lw_g (lw_at lw_m7 178 rfl) rfl
theorem q1720 : (Jvm.Cond.methodLink "Slidingtray$All" (100 : Nat) ({ cls := "Slidingtray$Lie", name := "moved", desc := "(I)LSlidingtray$Lie;" } : Jvm.MethodName)) ∈ lw_all := lw_g (lw_at lw_m7 179 rfl) rfl
theorem q1721 : (Jvm.Cond.methodLink "Slidingtray$All" (104 : Nat) ({ cls := "Slidingtray$Lie", name := "rank", desc := "()J" } : Jvm.MethodName)) ∈ lw_all := lw_g (lw_at lw_m7 180 rfl) rfl
theorem q1722 : (Jvm.Cond.methodLink "Slidingtray$All" (88 : Nat) ({ cls := "Slidingtray$All", name := "waysFrom", desc := "(LSlidingtray$Lie;I)I" } : Jvm.MethodName)) ∈ lw_all := lw_g (lw_at lw_m7 181 rfl) rfl
theorem q1723 : (Jvm.Cond.privateMethod ({ cls := "Slidingtray$All", name := "waysFrom", desc := "(LSlidingtray$Lie;I)I" } : Jvm.MethodName)) ∈ lw_tbl := lw_at lw_m7 182 rfl
theorem q1724 : (Jvm.Cond.instanceMethod ({ cls := "Slidingtray$All", name := "waysFrom", desc := "(LSlidingtray$Lie;I)I" } : Jvm.MethodName)) ∈ lw_all := lw_g (lw_at lw_m7 183 rfl) rfl
theorem q1725 : (Jvm.Cond.code ({ cls := "Slidingtray$All", name := "waysFrom", desc := "(LSlidingtray$Lie;I)I" } : Jvm.MethodName) prog_3_method_3_code (7 : Nat) (Option.some Jvm.ClassFile.FieldType.int)) ∈ lw_all := lw_g (lw_at lw_m7 184 rfl) rfl
theorem q1726 : (Jvm.Cond.constant "Slidingtray$All" (109 : Nat) (1000000 : Int32)) ∈ lw_all := lw_g (lw_at lw_m7 185 rfl) rfl
theorem q1727 : (Jvm.Cond.methodLink "Slidingtray$All" (110 : Nat) ({ cls := "java/lang/Math", name := "min", desc := "(II)I" } : Jvm.MethodName)) ∈ lw_all := lw_g (lw_at lw_m7 186 rfl) rfl
theorem q1728 : (Jvm.Cond.fieldLink "Slidingtray$All" (21 : Nat) "Slidingtray$All" "lies" "[LSlidingtray$Lie;") ∈ lw_all := lw_g (lw_at lw_m7 187 rfl) rfl
theorem q1729 : (Jvm.Cond.fieldLink "Slidingtray$All" (25 : Nat) "Slidingtray$All" "costs" "[I") ∈ lw_all := lw_g (lw_at lw_m7 188 rfl) rfl
theorem q1731 : (Jvm.Cond.fieldLink "Slidingtray$All" (29 : Nat) "Slidingtray$All" "ways" "[I") ∈ lw_all := lw_g (lw_at lw_m7 190 rfl) rfl
theorem q1733 : (Jvm.Cond.fieldLink "Slidingtray$All" (3 : Nat) "Slidingtray$All" "this$0" "LSlidingtray;") ∈ lw_all := lw_g (lw_at lw_m7 192 rfl) rfl
theorem q1734 : (Jvm.Cond.laysFinal "Slidingtray$All" "Slidingtray$All" "lies" "[LSlidingtray$Lie;") ∈ lw_all := lw_g (lw_at lw_m7 193 rfl) rfl
theorem q1735 : (Jvm.Cond.soleField "Slidingtray$All" "lies") ∈ lw_all := lw_g (lw_at lw_m7 194 rfl) rfl
theorem q1736 : (Jvm.Cond.laysFinal "Slidingtray$All" "Slidingtray$All" "costs" "[I") ∈ lw_all := lw_g (lw_at lw_m7 195 rfl) rfl
theorem q1737 : (Jvm.Cond.soleField "Slidingtray$All" "costs") ∈ lw_all := lw_g (lw_at lw_m7 196 rfl) rfl
theorem q1738 : (Jvm.Cond.laysFinal "Slidingtray$All" "Slidingtray$All" "ways" "[I") ∈ lw_all := lw_g (lw_at lw_m7 197 rfl) rfl
theorem q1739 : (Jvm.Cond.soleField "Slidingtray$All" "ways") ∈ lw_all := lw_g (lw_at lw_m7 198 rfl) rfl
theorem q1740 : (Jvm.Cond.laysFinal "Slidingtray$All" "Slidingtray$All" "this$0" "LSlidingtray;") ∈ lw_all := lw_g (lw_at lw_m7 199 rfl) rfl
theorem q1741 : (Jvm.Cond.soleField "Slidingtray$All" "this$0") ∈ lw_all := lw_g (lw_at lw_m7 200 rfl) rfl
theorem q1742 : (Jvm.Cond.superclass "Slidingtray$All" "java/lang/Object") ∈ lw_all := lw_g (lw_at lw_m7 201 rfl) rfl
theorem q2623 : (Jvm.Cond.instanceMethod ({ cls := "Slidingtray$All", name := "count", desc := "(II)I" } : Jvm.MethodName)) ∈ lw_all := lw_g (lw_at lw_m11 122 rfl) rfl
theorem q2624 : (Jvm.Cond.selects "Slidingtray$All" ({ cls := "Slidingtray$All", name := "count", desc := "(II)I" } : Jvm.MethodName) ({ cls := "Slidingtray$All", name := "count", desc := "(II)I" } : Jvm.MethodName)) ∈ lw_all := lw_g (lw_at lw_m11 123 rfl) rfl
theorem q2625 : (Jvm.Cond.code ({ cls := "Slidingtray$All", name := "count", desc := "(II)I" } : Jvm.MethodName) prog_3_method_5_code (8 : Nat) (Option.some Jvm.ClassFile.FieldType.int)) ∈ lw_all := lw_g (lw_at lw_m11 124 rfl) rfl
theorem q2627 : (Jvm.Cond.instanceMethod ({ cls := "Slidingtray$All", name := "greatest", desc := "()I" } : Jvm.MethodName)) ∈ lw_all := lw_g (lw_at lw_m11 126 rfl) rfl
theorem q2628 : (Jvm.Cond.selects "Slidingtray$All" ({ cls := "Slidingtray$All", name := "greatest", desc := "()I" } : Jvm.MethodName) ({ cls := "Slidingtray$All", name := "greatest", desc := "()I" } : Jvm.MethodName)) ∈ lw_all := lw_g (lw_at lw_m11 127 rfl) rfl
theorem q2629 : (Jvm.Cond.code ({ cls := "Slidingtray$All", name := "greatest", desc := "()I" } : Jvm.MethodName) prog_3_method_4_code (6 : Nat) (Option.some Jvm.ClassFile.FieldType.int)) ∈ lw_all := lw_g (lw_at lw_m11 128 rfl) rfl
theorem q2630 : (Jvm.Cond.methodLink "Slidingtray$All" (116 : Nat) ({ cls := "java/lang/Math", name := "max", desc := "(II)I" } : Jvm.MethodName)) ∈ lw_all := lw_g (lw_at lw_m11 129 rfl) rfl
theorem q2632 : (Jvm.Cond.instanceMethod ({ cls := "Slidingtray$All", name := "first", desc := "(IZ)I" } : Jvm.MethodName)) ∈ lw_all := lw_g (lw_at lw_m11 131 rfl) rfl
theorem q2633 : (Jvm.Cond.selects "Slidingtray$All" ({ cls := "Slidingtray$All", name := "first", desc := "(IZ)I" } : Jvm.MethodName) ({ cls := "Slidingtray$All", name := "first", desc := "(IZ)I" } : Jvm.MethodName)) ∈ lw_all := lw_g (lw_at lw_m11 132 rfl) rfl
theorem q2634 : (Jvm.Cond.code ({ cls := "Slidingtray$All", name := "first", desc := "(IZ)I" } : Jvm.MethodName) prog_3_method_6_code (4 : Nat) (Option.some Jvm.ClassFile.FieldType.int)) ∈ lw_all := lw_g (lw_at lw_m11 133 rfl) rfl
theorem q2650 : (Jvm.Cond.instanceMethod ({ cls := "Slidingtray$All", name := "isFair", desc := "(I)Z" } : Jvm.MethodName)) ∈ lw_all := lw_g (lw_at lw_m11 149 rfl) rfl
theorem q2651 : (Jvm.Cond.selects "Slidingtray$All" ({ cls := "Slidingtray$All", name := "isFair", desc := "(I)Z" } : Jvm.MethodName) ({ cls := "Slidingtray$All", name := "isFair", desc := "(I)Z" } : Jvm.MethodName)) ∈ lw_all := lw_g (lw_at lw_m11 150 rfl) rfl
theorem q2652 : (Jvm.Cond.code ({ cls := "Slidingtray$All", name := "isFair", desc := "(I)Z" } : Jvm.MethodName) prog_3_method_7_code (4 : Nat) (Option.some Jvm.ClassFile.FieldType.boolean)) ∈ lw_all := lw_g (lw_at lw_m11 151 rfl) rfl
theorem q2653 : (Jvm.Cond.methodLinkNest "Slidingtray$All" (119 : Nat) ({ cls := "Slidingtray", name := "estimateOf", desc := "(LSlidingtray$Lie;I)I" } : Jvm.MethodName) "Slidingtray") ∈ lw_tbl := lw_at lw_m11 152 rfl
theorem q2654 : (Jvm.Cond.methodLinkNest "Slidingtray$All" (122 : Nat) ({ cls := "Slidingtray", name := "fallsFair", desc := "(LSlidingtray$Lie;I)Z" } : Jvm.MethodName) "Slidingtray") ∈ lw_tbl := lw_at lw_m11 153 rfl
theorem q3323 : (Jvm.Cond.castable "Slidingtray$All" "java/lang/Object") ∈ lw_tbl := lw_at lw_m14 102 rfl
theorem in_X13 : ∀ w ∈ wsX130, w ∈ lw_all := lw_in wsX130 [1734, 1736, 1738, 1740] (by decide +kernel) (by decide +kernel)
/-! Slidingtray$Part$Place -/
set_option maxRecDepth 100000
def RX14 : String := "Slidingtray$Part$Place"
def TX14 : u_T := fun k => match k with
  | 0 => ("Slidingtray$Part$Place", "number", "I", true)
  | _ => ("Slidingtray$Part$Place", "cost", "I", true)
def tyX14 : Nat → FieldType := fun k => match k with
  | 0 => .int
  | _ => .int
abbrev wsX140 : List Cond := u_ws RX14 TX14 2
theorem nmX14 : ∀ a, a < 2 → ∀ b, b < 2 → a ≠ b → (TX14 a).2.1 ≠ (TX14 b).2.1 := by decide +kernel
theorem tyX14_ok : ∀ k, k < 2 → parseFieldDescriptor (TX14 k).2.2.1 = some (tyX14 k) := by decide +kernel
abbrev cX14_compareTo : ByteArray := prog_10_method_3_code
def yX14_compareTo : MethodName := ⟨RX14, "compareTo", "(Ljava/lang/Object;)I"⟩
def dkwX14_compareTo_0 : List UInt8 := [42, 43, 192, 0, 8, 182, 0, 22, 172]
abbrev dktX14_compareTo_0 : List UInt8 := dkwX14_compareTo_0 ++ []
theorem dksX14_compareTo_0 : cX14_compareTo.data.toList.drop 0 = dktX14_compareTo_0 := by decide +kernel
theorem dX14_compareTo_0 : decode cX14_compareTo 0 = .ok (.aload_n 0, 1) := dk_42 (dk_at dksX14_compareTo_0 0 rfl rfl)
theorem dX14_compareTo_1 : decode cX14_compareTo 1 = .ok (.aload_n 1, 1) := dk_43 (dk_at dksX14_compareTo_0 1 rfl rfl)
theorem dX14_compareTo_2 : decode cX14_compareTo 2 = .ok (.checkcast 8, 3) := dk_192 0 8 (dk_at dksX14_compareTo_0 2 rfl rfl)
theorem dX14_compareTo_5 : decode cX14_compareTo 5 = .ok (.invokevirtual 22, 3) := dk_182 0 22 (dk_at dksX14_compareTo_0 5 rfl rfl)
theorem dX14_compareTo_8 : decode cX14_compareTo 8 = .ok (.ireturn, 1) := dk_172 (dk_at dksX14_compareTo_0 8 rfl rfl)
abbrev cX14_compareTo_2 : ByteArray := prog_10_method_2_code
def yX14_compareTo_2 : MethodName := ⟨RX14, "compareTo", "(LSlidingtray$Part$Place;)I"⟩
def dkwX14_compareTo_2_1 : List UInt8 := [167, 0, 14, 42, 180, 0, 7, 43, 180, 0, 7, 184, 0, 16, 172]
abbrev dktX14_compareTo_2_1 : List UInt8 := dkwX14_compareTo_2_1 ++ []
def dkwX14_compareTo_2_0 : List UInt8 := [42, 180, 0, 13, 43, 180, 0, 13, 159, 0, 17, 42, 180, 0, 13, 43, 180, 0, 13, 184, 0, 16]
abbrev dktX14_compareTo_2_0 : List UInt8 := dkwX14_compareTo_2_0 ++ dktX14_compareTo_2_1
theorem dksX14_compareTo_2_0 : cX14_compareTo_2.data.toList.drop 0 = dktX14_compareTo_2_0 := by decide +kernel
theorem dksX14_compareTo_2_1 : cX14_compareTo_2.data.toList.drop 22 = dktX14_compareTo_2_1 := dk_seg dksX14_compareTo_2_0 22 rfl rfl
theorem dX14_compareTo_2_0 : decode cX14_compareTo_2 0 = .ok (.aload_n 0, 1) := dk_42 (dk_at dksX14_compareTo_2_0 0 rfl rfl)
theorem dX14_compareTo_2_1 : decode cX14_compareTo_2 1 = .ok (.getfield 13, 3) := dk_180 0 13 (dk_at dksX14_compareTo_2_0 1 rfl rfl)
theorem dX14_compareTo_2_4 : decode cX14_compareTo_2 4 = .ok (.aload_n 1, 1) := dk_43 (dk_at dksX14_compareTo_2_0 4 rfl rfl)
theorem dX14_compareTo_2_5 : decode cX14_compareTo_2 5 = .ok (.getfield 13, 3) := dk_180 0 13 (dk_at dksX14_compareTo_2_0 5 rfl rfl)
theorem dX14_compareTo_2_8 : decode cX14_compareTo_2 8 = .ok (.if_icmp .eq 17, 3) := dk_159 0 17 (dk_at dksX14_compareTo_2_0 8 rfl rfl)
theorem dX14_compareTo_2_11 : decode cX14_compareTo_2 11 = .ok (.aload_n 0, 1) := dk_42 (dk_at dksX14_compareTo_2_0 11 rfl rfl)
theorem dX14_compareTo_2_12 : decode cX14_compareTo_2 12 = .ok (.getfield 13, 3) := dk_180 0 13 (dk_at dksX14_compareTo_2_0 12 rfl rfl)
theorem dX14_compareTo_2_15 : decode cX14_compareTo_2 15 = .ok (.aload_n 1, 1) := dk_43 (dk_at dksX14_compareTo_2_0 15 rfl rfl)
theorem dX14_compareTo_2_16 : decode cX14_compareTo_2 16 = .ok (.getfield 13, 3) := dk_180 0 13 (dk_at dksX14_compareTo_2_0 16 rfl rfl)
theorem dX14_compareTo_2_19 : decode cX14_compareTo_2 19 = .ok (.invokestatic 16, 3) := dk_184 0 16 (dk_at dksX14_compareTo_2_0 19 rfl rfl)
theorem dX14_compareTo_2_22 : decode cX14_compareTo_2 22 = .ok (.goto 14, 3) := dk_167 0 14 (dk_at dksX14_compareTo_2_1 0 rfl rfl)
theorem dX14_compareTo_2_25 : decode cX14_compareTo_2 25 = .ok (.aload_n 0, 1) := dk_42 (dk_at dksX14_compareTo_2_1 3 rfl rfl)
theorem dX14_compareTo_2_26 : decode cX14_compareTo_2 26 = .ok (.getfield 7, 3) := dk_180 0 7 (dk_at dksX14_compareTo_2_1 4 rfl rfl)
theorem dX14_compareTo_2_29 : decode cX14_compareTo_2 29 = .ok (.aload_n 1, 1) := dk_43 (dk_at dksX14_compareTo_2_1 7 rfl rfl)
theorem dX14_compareTo_2_30 : decode cX14_compareTo_2 30 = .ok (.getfield 7, 3) := dk_180 0 7 (dk_at dksX14_compareTo_2_1 8 rfl rfl)
theorem dX14_compareTo_2_33 : decode cX14_compareTo_2 33 = .ok (.invokestatic 16, 3) := dk_184 0 16 (dk_at dksX14_compareTo_2_1 11 rfl rfl)
theorem dX14_compareTo_2_36 : decode cX14_compareTo_2 36 = .ok (.ireturn, 1) := dk_172 (dk_at dksX14_compareTo_2_1 14 rfl rfl)
abbrev cX14_init : ByteArray := prog_10_method_1_code
def yX14_init : MethodName := ⟨RX14, "<init>", "(II)V"⟩
def dkwX14_init_0 : List UInt8 := [42, 183, 0, 1, 42, 27, 181, 0, 7, 42, 28, 181, 0, 13, 177]
abbrev dktX14_init_0 : List UInt8 := dkwX14_init_0 ++ []
theorem dksX14_init_0 : cX14_init.data.toList.drop 0 = dktX14_init_0 := by decide +kernel
theorem dX14_init_0 : decode cX14_init 0 = .ok (.aload_n 0, 1) := dk_42 (dk_at dksX14_init_0 0 rfl rfl)
theorem dX14_init_1 : decode cX14_init 1 = .ok (.invokespecial 1, 3) := dk_183 0 1 (dk_at dksX14_init_0 1 rfl rfl)
theorem dX14_init_4 : decode cX14_init 4 = .ok (.aload_n 0, 1) := dk_42 (dk_at dksX14_init_0 4 rfl rfl)
theorem dX14_init_5 : decode cX14_init 5 = .ok (.iload_n 1, 1) := dk_27 (dk_at dksX14_init_0 5 rfl rfl)
theorem dX14_init_6 : decode cX14_init 6 = .ok (.putfield 7, 3) := dk_181 0 7 (dk_at dksX14_init_0 6 rfl rfl)
theorem dX14_init_9 : decode cX14_init 9 = .ok (.aload_n 0, 1) := dk_42 (dk_at dksX14_init_0 9 rfl rfl)
theorem dX14_init_10 : decode cX14_init 10 = .ok (.iload_n 2, 1) := dk_28 (dk_at dksX14_init_0 10 rfl rfl)
theorem dX14_init_11 : decode cX14_init 11 = .ok (.putfield 13, 3) := dk_181 0 13 (dk_at dksX14_init_0 11 rfl rfl)
theorem dX14_init_14 : decode cX14_init 14 = .ok (.return_, 1) := dk_177 (dk_at dksX14_init_0 14 rfl rfl)
theorem q160 : (Jvm.Cond.initialized "Slidingtray$Part$Place") ∈ lw_all := lw_g (lw_at lw_m1 59 rfl) rfl
theorem q295 : (Jvm.Cond.selects "Slidingtray$Part$Place" ({ cls := "java/lang/Object", name := "getClass", desc := "()Ljava/lang/Class;" } : Jvm.MethodName) ({ cls := "java/lang/Object", name := "getClass", desc := "()Ljava/lang/Class;" } : Jvm.MethodName)) ∈ lw_all := lw_g (lw_at lw_m1 194 rfl) rfl
theorem q858 : (Jvm.Cond.selects "Slidingtray$Part$Place" ({ cls := "java/lang/Object", name := "equals", desc := "(Ljava/lang/Object;)Z" } : Jvm.MethodName) ({ cls := "java/lang/Object", name := "equals", desc := "(Ljava/lang/Object;)Z" } : Jvm.MethodName)) ∈ lw_all := lw_g (lw_at lw_m4 37 rfl) rfl
theorem q1538 : (Jvm.Cond.castable "Slidingtray$Part$Place" "java/lang/Comparable") ∈ lw_tbl := lw_at lw_m6 237 rfl
theorem q1539 : (Jvm.Cond.selects "Slidingtray$Part$Place" ({ cls := "java/lang/Comparable", name := "compareTo", desc := "(Ljava/lang/Object;)I" } : Jvm.MethodName) ({ cls := "Slidingtray$Part$Place", name := "compareTo", desc := "(Ljava/lang/Object;)I" } : Jvm.MethodName)) ∈ lw_all := lw_g (lw_at lw_m6 238 rfl) rfl
theorem q1540 : (Jvm.Cond.unhidden "Slidingtray$Part$Place" "compareTo" "(Ljava/lang/Object;)I") ∈ lw_tbl := lw_at lw_m6 239 rfl
theorem q1541 : (Jvm.Cond.instanceMethod ({ cls := "Slidingtray$Part$Place", name := "compareTo", desc := "(Ljava/lang/Object;)I" } : Jvm.MethodName)) ∈ lw_all := lw_g (lw_at lw_m7 0 rfl) rfl
theorem q1542 : (Jvm.Cond.publicMethod ({ cls := "Slidingtray$Part$Place", name := "compareTo", desc := "(Ljava/lang/Object;)I" } : Jvm.MethodName)) ∈ lw_tbl := lw_at lw_m7 1 rfl
theorem q1543 : (Jvm.Cond.code ({ cls := "Slidingtray$Part$Place", name := "compareTo", desc := "(Ljava/lang/Object;)I" } : Jvm.MethodName) prog_10_method_3_code (2 : Nat) (Option.some Jvm.ClassFile.FieldType.int)) ∈ lw_all := lw_g (lw_at lw_m7 2 rfl) rfl
theorem q1544 : (Jvm.Cond.classLink "Slidingtray$Part$Place" (8 : Nat) "Slidingtray$Part$Place") ∈ lw_all := lw_g (lw_at lw_m7 3 rfl) rfl
theorem q1545 : (Jvm.Cond.methodLink "Slidingtray$Part$Place" (22 : Nat) ({ cls := "Slidingtray$Part$Place", name := "compareTo", desc := "(LSlidingtray$Part$Place;)I" } : Jvm.MethodName)) ∈ lw_all := lw_g (lw_at lw_m7 4 rfl) rfl
theorem q1546 : (Jvm.Cond.instanceMethod ({ cls := "Slidingtray$Part$Place", name := "compareTo", desc := "(LSlidingtray$Part$Place;)I" } : Jvm.MethodName)) ∈ lw_all := lw_g (lw_at lw_m7 5 rfl) rfl
theorem q1547 : (Jvm.Cond.selects "Slidingtray$Part$Place" ({ cls := "Slidingtray$Part$Place", name := "compareTo", desc := "(LSlidingtray$Part$Place;)I" } : Jvm.MethodName) ({ cls := "Slidingtray$Part$Place", name := "compareTo", desc := "(LSlidingtray$Part$Place;)I" } : Jvm.MethodName)) ∈ lw_all := lw_g (lw_at lw_m7 6 rfl) rfl
theorem q1548 : (Jvm.Cond.code ({ cls := "Slidingtray$Part$Place", name := "compareTo", desc := "(LSlidingtray$Part$Place;)I" } : Jvm.MethodName) prog_10_method_2_code (2 : Nat) (Option.some Jvm.ClassFile.FieldType.int)) ∈ lw_all := lw_g (lw_at lw_m7 7 rfl) rfl
theorem q1549 : (Jvm.Cond.methodLink "Slidingtray$Part$Place" (16 : Nat) ({ cls := "java/lang/Integer", name := "compare", desc := "(II)I" } : Jvm.MethodName)) ∈ lw_all := lw_g (lw_at lw_m7 8 rfl) rfl
theorem q2687 : (Jvm.Cond.instantiable "Slidingtray$Part$Place" (2 : Nat)) ∈ lw_all := lw_g (lw_at lw_m11 186 rfl) rfl
theorem q2689 : (Jvm.Cond.instanceMethod ({ cls := "Slidingtray$Part$Place", name := "<init>", desc := "(II)V" } : Jvm.MethodName)) ∈ lw_all := lw_g (lw_at lw_m11 188 rfl) rfl
theorem q2690 : (Jvm.Cond.code ({ cls := "Slidingtray$Part$Place", name := "<init>", desc := "(II)V" } : Jvm.MethodName) prog_10_method_1_code (3 : Nat) (Option.none : Option Jvm.ClassFile.FieldType)) ∈ lw_all := lw_g (lw_at lw_m11 189 rfl) rfl
theorem q2691 : (Jvm.Cond.methodLink "Slidingtray$Part$Place" (1 : Nat) ({ cls := "java/lang/Object", name := "<init>", desc := "()V" } : Jvm.MethodName)) ∈ lw_all := lw_g (lw_at lw_m11 190 rfl) rfl
theorem q2692 : (Jvm.Cond.fieldLink "Slidingtray$Part$Place" (7 : Nat) "Slidingtray$Part$Place" "number" "I") ∈ lw_all := lw_g (lw_at lw_m11 191 rfl) rfl
theorem q2694 : (Jvm.Cond.fieldLink "Slidingtray$Part$Place" (13 : Nat) "Slidingtray$Part$Place" "cost" "I") ∈ lw_all := lw_g (lw_at lw_m11 193 rfl) rfl
theorem q2696 : (Jvm.Cond.laysFinal "Slidingtray$Part$Place" "Slidingtray$Part$Place" "number" "I") ∈ lw_all := lw_g (lw_at lw_m11 195 rfl) rfl
theorem q2697 : (Jvm.Cond.soleField "Slidingtray$Part$Place" "number") ∈ lw_all := lw_g (lw_at lw_m11 196 rfl) rfl
theorem q2698 : (Jvm.Cond.laysFinal "Slidingtray$Part$Place" "Slidingtray$Part$Place" "cost" "I") ∈ lw_all := lw_g (lw_at lw_m11 197 rfl) rfl
theorem q2699 : (Jvm.Cond.soleField "Slidingtray$Part$Place" "cost") ∈ lw_all := lw_g (lw_at lw_m11 198 rfl) rfl
theorem q2700 : (Jvm.Cond.superclass "Slidingtray$Part$Place" "java/lang/Object") ∈ lw_all := lw_g (lw_at lw_m11 199 rfl) rfl
theorem q3325 : (Jvm.Cond.castable "Slidingtray$Part$Place" "java/lang/Object") ∈ lw_tbl := lw_at lw_m14 104 rfl
theorem in_X14 : ∀ w ∈ wsX140, w ∈ lw_all := lw_in wsX140 [2696, 2698] (by decide +kernel) (by decide +kernel)
/-! Slidingtray$Shape -/
set_option maxRecDepth 100000
def RX2 : String := "Slidingtray$Shape"
def TX2 : u_T := fun k => match k with
  | 0 => ("Slidingtray$Shape", "rows", "I", true)
  | 1 => ("Slidingtray$Shape", "columns", "I", true)
  | 2 => ("Slidingtray$Shape", "cells", "Ljava/util/List;", true)
  | 3 => ("Slidingtray$Shape", "beside", "[[I", true)
  | 4 => ("Slidingtray$Shape", "apart", "[[I", true)
  | 5 => ("Slidingtray$Shape", "walledRows", "Ljava/util/BitSet;", true)
  | _ => ("Slidingtray$Shape", "walledColumns", "Ljava/util/BitSet;", true)
def tyX2 : Nat → FieldType := fun k => match k with
  | 0 => .int
  | 1 => .int
  | 2 => .object "java/util/List"
  | 3 => .array (.array .int)
  | 4 => .array (.array .int)
  | 5 => .object "java/util/BitSet"
  | _ => .object "java/util/BitSet"
abbrev wsX20 : List Cond := u_ws RX2 TX2 7
theorem nmX2 : ∀ a, a < 7 → ∀ b, b < 7 → a ≠ b → (TX2 a).2.1 ≠ (TX2 b).2.1 := by decide +kernel
theorem tyX2_ok : ∀ k, k < 7 → parseFieldDescriptor (TX2 k).2.2.1 = some (tyX2 k) := by decide +kernel
abbrev cX2_init : ByteArray := prog_12_method_1_code
def yX2_init : MethodName := ⟨RX2, "<init>", "(III)V"⟩
def dkwX2_init_13 : List UInt8 := [167, 255, 233, 177]
abbrev dktX2_init_13 : List UInt8 := dkwX2_init_13 ++ []
def dkwX2_init_12 : List UInt8 := [21, 4, 42, 180, 0, 12, 185, 0, 51, 1, 0, 162, 0, 15, 42, 21, 4, 182, 0, 74, 132, 4, 1]
abbrev dktX2_init_12 : List UInt8 := dkwX2_init_12 ++ dktX2_init_13
def dkwX2_init_11 : List UInt8 := [185, 0, 51, 1, 0, 42, 180, 0, 12, 185, 0, 51, 1, 0, 197, 0, 55, 2, 181, 0, 71, 3, 54, 4]
abbrev dktX2_init_11 : List UInt8 := dkwX2_init_11 ++ dktX2_init_12
def dkwX2_init_10 : List UInt8 := [21, 5, 4, 96, 21, 6, 182, 0, 67, 79, 132, 4, 1, 167, 255, 147, 42, 42, 180, 0, 12]
abbrev dktX2_init_10 : List UInt8 := dkwX2_init_10 ++ dktX2_init_11
def dkwX2_init_9 : List UInt8 := [21, 4, 50, 5, 42, 21, 5, 21, 6, 4, 96, 182, 0, 67, 79, 42, 180, 0, 57, 21, 4, 50, 6, 42]
abbrev dktX2_init_9 : List UInt8 := dkwX2_init_9 ++ dktX2_init_10
def dkwX2_init_8 : List UInt8 := [42, 180, 0, 57, 21, 4, 50, 4, 42, 21, 5, 21, 6, 4, 100, 182, 0, 67, 79, 42, 180, 0, 57]
abbrev dktX2_init_8 : List UInt8 := dkwX2_init_8 ++ dktX2_init_9
def dkwX2_init_7 : List UInt8 := [182, 0, 64, 54, 6, 42, 180, 0, 57, 21, 4, 50, 3, 42, 21, 5, 4, 100, 21, 6, 182, 0, 67, 79]
abbrev dktX2_init_7 : List UInt8 := dkwX2_init_7 ++ dktX2_init_8
def dkwX2_init_6 : List UInt8 := [180, 0, 12, 185, 0, 51, 1, 0, 162, 0, 101, 42, 21, 4, 182, 0, 60, 54, 5, 42, 21, 4]
abbrev dktX2_init_6 : List UInt8 := dkwX2_init_6 ++ dktX2_init_7
def dkwX2_init_5 : List UInt8 := [180, 0, 12, 185, 0, 51, 1, 0, 7, 197, 0, 55, 2, 181, 0, 57, 3, 54, 4, 21, 4, 42]
abbrev dktX2_init_5 : List UInt8 := dkwX2_init_5 ++ dktX2_init_6
def dkwX2_init_4 : List UInt8 := [182, 0, 47, 42, 180, 0, 25, 21, 4, 28, 112, 182, 0, 47, 132, 4, 1, 167, 255, 196, 42, 42]
abbrev dktX2_init_4 : List UInt8 := dkwX2_init_4 ++ dktX2_init_5
def dkwX2_init_3 : List UInt8 := [21, 4, 184, 0, 35, 185, 0, 41, 2, 0, 87, 167, 0, 25, 42, 180, 0, 21, 21, 4, 28, 108]
abbrev dktX2_init_3 : List UInt8 := dkwX2_init_3 ++ dktX2_init_4
def dkwX2_init_2 : List UInt8 := [3, 54, 4, 21, 4, 27, 28, 104, 162, 0, 58, 29, 21, 4, 122, 4, 126, 154, 0, 21, 42, 180, 0, 12]
abbrev dktX2_init_2 : List UInt8 := dkwX2_init_2 ++ dktX2_init_3
def dkwX2_init_1 : List UInt8 := [181, 0, 21, 42, 187, 0, 18, 89, 183, 0, 20, 181, 0, 25, 42, 27, 181, 0, 28, 42, 28, 181, 0, 32]
abbrev dktX2_init_1 : List UInt8 := dkwX2_init_1 ++ dktX2_init_2
def dkwX2_init_0 : List UInt8 := [42, 183, 0, 3, 42, 187, 0, 9, 89, 183, 0, 11, 181, 0, 12, 42, 187, 0, 18, 89, 183, 0, 20]
abbrev dktX2_init_0 : List UInt8 := dkwX2_init_0 ++ dktX2_init_1
theorem dksX2_init_0 : cX2_init.data.toList.drop 0 = dktX2_init_0 := by decide +kernel
theorem dksX2_init_1 : cX2_init.data.toList.drop 23 = dktX2_init_1 := dk_seg dksX2_init_0 23 rfl rfl
theorem dksX2_init_2 : cX2_init.data.toList.drop 47 = dktX2_init_2 := dk_seg dksX2_init_1 24 rfl rfl
theorem dksX2_init_3 : cX2_init.data.toList.drop 71 = dktX2_init_3 := dk_seg dksX2_init_2 24 rfl rfl
theorem dksX2_init_4 : cX2_init.data.toList.drop 93 = dktX2_init_4 := dk_seg dksX2_init_3 22 rfl rfl
theorem dksX2_init_5 : cX2_init.data.toList.drop 115 = dktX2_init_5 := dk_seg dksX2_init_4 22 rfl rfl
theorem dksX2_init_6 : cX2_init.data.toList.drop 137 = dktX2_init_6 := dk_seg dksX2_init_5 22 rfl rfl
theorem dksX2_init_7 : cX2_init.data.toList.drop 159 = dktX2_init_7 := dk_seg dksX2_init_6 22 rfl rfl
theorem dksX2_init_8 : cX2_init.data.toList.drop 183 = dktX2_init_8 := dk_seg dksX2_init_7 24 rfl rfl
theorem dksX2_init_9 : cX2_init.data.toList.drop 206 = dktX2_init_9 := dk_seg dksX2_init_8 23 rfl rfl
theorem dksX2_init_10 : cX2_init.data.toList.drop 230 = dktX2_init_10 := dk_seg dksX2_init_9 24 rfl rfl
theorem dksX2_init_11 : cX2_init.data.toList.drop 251 = dktX2_init_11 := dk_seg dksX2_init_10 21 rfl rfl
theorem dksX2_init_12 : cX2_init.data.toList.drop 275 = dktX2_init_12 := dk_seg dksX2_init_11 24 rfl rfl
theorem dksX2_init_13 : cX2_init.data.toList.drop 298 = dktX2_init_13 := dk_seg dksX2_init_12 23 rfl rfl
theorem dX2_init_0 : decode cX2_init 0 = .ok (.aload_n 0, 1) := dk_42 (dk_at dksX2_init_0 0 rfl rfl)
theorem dX2_init_1 : decode cX2_init 1 = .ok (.invokespecial 3, 3) := dk_183 0 3 (dk_at dksX2_init_0 1 rfl rfl)
theorem dX2_init_4 : decode cX2_init 4 = .ok (.aload_n 0, 1) := dk_42 (dk_at dksX2_init_0 4 rfl rfl)
theorem dX2_init_5 : decode cX2_init 5 = .ok (.new 9, 3) := dk_187 0 9 (dk_at dksX2_init_0 5 rfl rfl)
theorem dX2_init_8 : decode cX2_init 8 = .ok (.dup, 1) := dk_89 (dk_at dksX2_init_0 8 rfl rfl)
theorem dX2_init_9 : decode cX2_init 9 = .ok (.invokespecial 11, 3) := dk_183 0 11 (dk_at dksX2_init_0 9 rfl rfl)
theorem dX2_init_12 : decode cX2_init 12 = .ok (.putfield 12, 3) := dk_181 0 12 (dk_at dksX2_init_0 12 rfl rfl)
theorem dX2_init_15 : decode cX2_init 15 = .ok (.aload_n 0, 1) := dk_42 (dk_at dksX2_init_0 15 rfl rfl)
theorem dX2_init_16 : decode cX2_init 16 = .ok (.new 18, 3) := dk_187 0 18 (dk_at dksX2_init_0 16 rfl rfl)
theorem dX2_init_19 : decode cX2_init 19 = .ok (.dup, 1) := dk_89 (dk_at dksX2_init_0 19 rfl rfl)
theorem dX2_init_20 : decode cX2_init 20 = .ok (.invokespecial 20, 3) := dk_183 0 20 (dk_at dksX2_init_0 20 rfl rfl)
theorem dX2_init_23 : decode cX2_init 23 = .ok (.putfield 21, 3) := dk_181 0 21 (dk_at dksX2_init_1 0 rfl rfl)
theorem dX2_init_26 : decode cX2_init 26 = .ok (.aload_n 0, 1) := dk_42 (dk_at dksX2_init_1 3 rfl rfl)
theorem dX2_init_27 : decode cX2_init 27 = .ok (.new 18, 3) := dk_187 0 18 (dk_at dksX2_init_1 4 rfl rfl)
theorem dX2_init_30 : decode cX2_init 30 = .ok (.dup, 1) := dk_89 (dk_at dksX2_init_1 7 rfl rfl)
theorem dX2_init_31 : decode cX2_init 31 = .ok (.invokespecial 20, 3) := dk_183 0 20 (dk_at dksX2_init_1 8 rfl rfl)
theorem dX2_init_34 : decode cX2_init 34 = .ok (.putfield 25, 3) := dk_181 0 25 (dk_at dksX2_init_1 11 rfl rfl)
theorem dX2_init_37 : decode cX2_init 37 = .ok (.aload_n 0, 1) := dk_42 (dk_at dksX2_init_1 14 rfl rfl)
theorem dX2_init_38 : decode cX2_init 38 = .ok (.iload_n 1, 1) := dk_27 (dk_at dksX2_init_1 15 rfl rfl)
theorem dX2_init_39 : decode cX2_init 39 = .ok (.putfield 28, 3) := dk_181 0 28 (dk_at dksX2_init_1 16 rfl rfl)
theorem dX2_init_42 : decode cX2_init 42 = .ok (.aload_n 0, 1) := dk_42 (dk_at dksX2_init_1 19 rfl rfl)
theorem dX2_init_43 : decode cX2_init 43 = .ok (.iload_n 2, 1) := dk_28 (dk_at dksX2_init_1 20 rfl rfl)
theorem dX2_init_44 : decode cX2_init 44 = .ok (.putfield 32, 3) := dk_181 0 32 (dk_at dksX2_init_1 21 rfl rfl)
theorem dX2_init_47 : decode cX2_init 47 = .ok (.iconst 0, 1) := dk_3 (dk_at dksX2_init_2 0 rfl rfl)
theorem dX2_init_48 : decode cX2_init 48 = .ok (.istore 4, 2) := dk_54 4 (dk_at dksX2_init_2 1 rfl rfl)
theorem dX2_init_50 : decode cX2_init 50 = .ok (.iload 4, 2) := dk_21 4 (dk_at dksX2_init_2 3 rfl rfl)
theorem dX2_init_52 : decode cX2_init 52 = .ok (.iload_n 1, 1) := dk_27 (dk_at dksX2_init_2 5 rfl rfl)
theorem dX2_init_53 : decode cX2_init 53 = .ok (.iload_n 2, 1) := dk_28 (dk_at dksX2_init_2 6 rfl rfl)
theorem dX2_init_54 : decode cX2_init 54 = .ok (.imul, 1) := dk_104 (dk_at dksX2_init_2 7 rfl rfl)
theorem dX2_init_55 : decode cX2_init 55 = .ok (.if_icmp .ge 58, 3) := dk_162 0 58 (dk_at dksX2_init_2 8 rfl rfl)
theorem dX2_init_58 : decode cX2_init 58 = .ok (.iload_n 3, 1) := dk_29 (dk_at dksX2_init_2 11 rfl rfl)
theorem dX2_init_59 : decode cX2_init 59 = .ok (.iload 4, 2) := dk_21 4 (dk_at dksX2_init_2 12 rfl rfl)
theorem dX2_init_61 : decode cX2_init 61 = .ok (.ishr, 1) := dk_122 (dk_at dksX2_init_2 14 rfl rfl)
theorem dX2_init_62 : decode cX2_init 62 = .ok (.iconst 1, 1) := dk_4 (dk_at dksX2_init_2 15 rfl rfl)
theorem dX2_init_63 : decode cX2_init 63 = .ok (.iand, 1) := dk_126 (dk_at dksX2_init_2 16 rfl rfl)
theorem dX2_init_64 : decode cX2_init 64 = .ok (.ifCond .ne 21, 3) := dk_154 0 21 (dk_at dksX2_init_2 17 rfl rfl)
theorem dX2_init_67 : decode cX2_init 67 = .ok (.aload_n 0, 1) := dk_42 (dk_at dksX2_init_2 20 rfl rfl)
theorem dX2_init_68 : decode cX2_init 68 = .ok (.getfield 12, 3) := dk_180 0 12 (dk_at dksX2_init_2 21 rfl rfl)
theorem dX2_init_71 : decode cX2_init 71 = .ok (.iload 4, 2) := dk_21 4 (dk_at dksX2_init_3 0 rfl rfl)
theorem dX2_init_73 : decode cX2_init 73 = .ok (.invokestatic 35, 3) := dk_184 0 35 (dk_at dksX2_init_3 2 rfl rfl)
theorem dX2_init_76 : decode cX2_init 76 = .ok (.invokeinterface 41 2, 5) := by decide +kernel
theorem dX2_init_81 : decode cX2_init 81 = .ok (.pop, 1) := dk_87 (dk_at dksX2_init_3 10 rfl rfl)
theorem dX2_init_82 : decode cX2_init 82 = .ok (.goto 25, 3) := dk_167 0 25 (dk_at dksX2_init_3 11 rfl rfl)
theorem dX2_init_85 : decode cX2_init 85 = .ok (.aload_n 0, 1) := dk_42 (dk_at dksX2_init_3 14 rfl rfl)
theorem dX2_init_86 : decode cX2_init 86 = .ok (.getfield 21, 3) := dk_180 0 21 (dk_at dksX2_init_3 15 rfl rfl)
theorem dX2_init_89 : decode cX2_init 89 = .ok (.iload 4, 2) := dk_21 4 (dk_at dksX2_init_3 18 rfl rfl)
theorem dX2_init_91 : decode cX2_init 91 = .ok (.iload_n 2, 1) := dk_28 (dk_at dksX2_init_3 20 rfl rfl)
theorem dX2_init_92 : decode cX2_init 92 = .ok (.idiv, 1) := dk_108 (dk_at dksX2_init_3 21 rfl rfl)
theorem dX2_init_93 : decode cX2_init 93 = .ok (.invokevirtual 47, 3) := dk_182 0 47 (dk_at dksX2_init_4 0 rfl rfl)
theorem dX2_init_96 : decode cX2_init 96 = .ok (.aload_n 0, 1) := dk_42 (dk_at dksX2_init_4 3 rfl rfl)
theorem dX2_init_97 : decode cX2_init 97 = .ok (.getfield 25, 3) := dk_180 0 25 (dk_at dksX2_init_4 4 rfl rfl)
theorem dX2_init_100 : decode cX2_init 100 = .ok (.iload 4, 2) := dk_21 4 (dk_at dksX2_init_4 7 rfl rfl)
theorem dX2_init_102 : decode cX2_init 102 = .ok (.iload_n 2, 1) := dk_28 (dk_at dksX2_init_4 9 rfl rfl)
theorem dX2_init_103 : decode cX2_init 103 = .ok (.irem, 1) := dk_112 (dk_at dksX2_init_4 10 rfl rfl)
theorem dX2_init_104 : decode cX2_init 104 = .ok (.invokevirtual 47, 3) := dk_182 0 47 (dk_at dksX2_init_4 11 rfl rfl)
theorem dX2_init_107 : decode cX2_init 107 = .ok (.iinc 4 1, 3) := dk_132 4 1 (dk_at dksX2_init_4 14 rfl rfl)
theorem dX2_init_110 : decode cX2_init 110 = .ok (.goto (-60), 3) := dk_167 255 196 (dk_at dksX2_init_4 17 rfl rfl)
theorem dX2_init_113 : decode cX2_init 113 = .ok (.aload_n 0, 1) := dk_42 (dk_at dksX2_init_4 20 rfl rfl)
theorem dX2_init_114 : decode cX2_init 114 = .ok (.aload_n 0, 1) := dk_42 (dk_at dksX2_init_4 21 rfl rfl)
theorem dX2_init_115 : decode cX2_init 115 = .ok (.getfield 12, 3) := dk_180 0 12 (dk_at dksX2_init_5 0 rfl rfl)
theorem dX2_init_118 : decode cX2_init 118 = .ok (.invokeinterface 51 1, 5) := by decide +kernel
theorem dX2_init_123 : decode cX2_init 123 = .ok (.iconst 4, 1) := dk_7 (dk_at dksX2_init_5 8 rfl rfl)
theorem dX2_init_124 : decode cX2_init 124 = .ok (.multianewarray 55 2, 4) := by decide +kernel
theorem dX2_init_128 : decode cX2_init 128 = .ok (.putfield 57, 3) := dk_181 0 57 (dk_at dksX2_init_5 13 rfl rfl)
theorem dX2_init_131 : decode cX2_init 131 = .ok (.iconst 0, 1) := dk_3 (dk_at dksX2_init_5 16 rfl rfl)
theorem dX2_init_132 : decode cX2_init 132 = .ok (.istore 4, 2) := dk_54 4 (dk_at dksX2_init_5 17 rfl rfl)
theorem dX2_init_134 : decode cX2_init 134 = .ok (.iload 4, 2) := dk_21 4 (dk_at dksX2_init_5 19 rfl rfl)
theorem dX2_init_136 : decode cX2_init 136 = .ok (.aload_n 0, 1) := dk_42 (dk_at dksX2_init_5 21 rfl rfl)
theorem dX2_init_137 : decode cX2_init 137 = .ok (.getfield 12, 3) := dk_180 0 12 (dk_at dksX2_init_6 0 rfl rfl)
theorem dX2_init_140 : decode cX2_init 140 = .ok (.invokeinterface 51 1, 5) := by decide +kernel
theorem dX2_init_145 : decode cX2_init 145 = .ok (.if_icmp .ge 101, 3) := dk_162 0 101 (dk_at dksX2_init_6 8 rfl rfl)
theorem dX2_init_148 : decode cX2_init 148 = .ok (.aload_n 0, 1) := dk_42 (dk_at dksX2_init_6 11 rfl rfl)
theorem dX2_init_149 : decode cX2_init 149 = .ok (.iload 4, 2) := dk_21 4 (dk_at dksX2_init_6 12 rfl rfl)
theorem dX2_init_151 : decode cX2_init 151 = .ok (.invokevirtual 60, 3) := dk_182 0 60 (dk_at dksX2_init_6 14 rfl rfl)
theorem dX2_init_154 : decode cX2_init 154 = .ok (.istore 5, 2) := dk_54 5 (dk_at dksX2_init_6 17 rfl rfl)
theorem dX2_init_156 : decode cX2_init 156 = .ok (.aload_n 0, 1) := dk_42 (dk_at dksX2_init_6 19 rfl rfl)
theorem dX2_init_157 : decode cX2_init 157 = .ok (.iload 4, 2) := dk_21 4 (dk_at dksX2_init_6 20 rfl rfl)
theorem dX2_init_159 : decode cX2_init 159 = .ok (.invokevirtual 64, 3) := dk_182 0 64 (dk_at dksX2_init_7 0 rfl rfl)
theorem dX2_init_162 : decode cX2_init 162 = .ok (.istore 6, 2) := dk_54 6 (dk_at dksX2_init_7 3 rfl rfl)
theorem dX2_init_164 : decode cX2_init 164 = .ok (.aload_n 0, 1) := dk_42 (dk_at dksX2_init_7 5 rfl rfl)
theorem dX2_init_165 : decode cX2_init 165 = .ok (.getfield 57, 3) := dk_180 0 57 (dk_at dksX2_init_7 6 rfl rfl)
theorem dX2_init_168 : decode cX2_init 168 = .ok (.iload 4, 2) := dk_21 4 (dk_at dksX2_init_7 9 rfl rfl)
theorem dX2_init_170 : decode cX2_init 170 = .ok (.aaload, 1) := dk_50 (dk_at dksX2_init_7 11 rfl rfl)
theorem dX2_init_171 : decode cX2_init 171 = .ok (.iconst 0, 1) := dk_3 (dk_at dksX2_init_7 12 rfl rfl)
theorem dX2_init_172 : decode cX2_init 172 = .ok (.aload_n 0, 1) := dk_42 (dk_at dksX2_init_7 13 rfl rfl)
theorem dX2_init_173 : decode cX2_init 173 = .ok (.iload 5, 2) := dk_21 5 (dk_at dksX2_init_7 14 rfl rfl)
theorem dX2_init_175 : decode cX2_init 175 = .ok (.iconst 1, 1) := dk_4 (dk_at dksX2_init_7 16 rfl rfl)
theorem dX2_init_176 : decode cX2_init 176 = .ok (.isub, 1) := dk_100 (dk_at dksX2_init_7 17 rfl rfl)
theorem dX2_init_177 : decode cX2_init 177 = .ok (.iload 6, 2) := dk_21 6 (dk_at dksX2_init_7 18 rfl rfl)
theorem dX2_init_179 : decode cX2_init 179 = .ok (.invokevirtual 67, 3) := dk_182 0 67 (dk_at dksX2_init_7 20 rfl rfl)
theorem dX2_init_182 : decode cX2_init 182 = .ok (.iastore, 1) := dk_79 (dk_at dksX2_init_7 23 rfl rfl)
theorem dX2_init_183 : decode cX2_init 183 = .ok (.aload_n 0, 1) := dk_42 (dk_at dksX2_init_8 0 rfl rfl)
theorem dX2_init_184 : decode cX2_init 184 = .ok (.getfield 57, 3) := dk_180 0 57 (dk_at dksX2_init_8 1 rfl rfl)
theorem dX2_init_187 : decode cX2_init 187 = .ok (.iload 4, 2) := dk_21 4 (dk_at dksX2_init_8 4 rfl rfl)
theorem dX2_init_189 : decode cX2_init 189 = .ok (.aaload, 1) := dk_50 (dk_at dksX2_init_8 6 rfl rfl)
theorem dX2_init_190 : decode cX2_init 190 = .ok (.iconst 1, 1) := dk_4 (dk_at dksX2_init_8 7 rfl rfl)
theorem dX2_init_191 : decode cX2_init 191 = .ok (.aload_n 0, 1) := dk_42 (dk_at dksX2_init_8 8 rfl rfl)
theorem dX2_init_192 : decode cX2_init 192 = .ok (.iload 5, 2) := dk_21 5 (dk_at dksX2_init_8 9 rfl rfl)
theorem dX2_init_194 : decode cX2_init 194 = .ok (.iload 6, 2) := dk_21 6 (dk_at dksX2_init_8 11 rfl rfl)
theorem dX2_init_196 : decode cX2_init 196 = .ok (.iconst 1, 1) := dk_4 (dk_at dksX2_init_8 13 rfl rfl)
theorem dX2_init_197 : decode cX2_init 197 = .ok (.isub, 1) := dk_100 (dk_at dksX2_init_8 14 rfl rfl)
theorem dX2_init_198 : decode cX2_init 198 = .ok (.invokevirtual 67, 3) := dk_182 0 67 (dk_at dksX2_init_8 15 rfl rfl)
theorem dX2_init_201 : decode cX2_init 201 = .ok (.iastore, 1) := dk_79 (dk_at dksX2_init_8 18 rfl rfl)
theorem dX2_init_202 : decode cX2_init 202 = .ok (.aload_n 0, 1) := dk_42 (dk_at dksX2_init_8 19 rfl rfl)
theorem dX2_init_203 : decode cX2_init 203 = .ok (.getfield 57, 3) := dk_180 0 57 (dk_at dksX2_init_8 20 rfl rfl)
theorem dX2_init_206 : decode cX2_init 206 = .ok (.iload 4, 2) := dk_21 4 (dk_at dksX2_init_9 0 rfl rfl)
theorem dX2_init_208 : decode cX2_init 208 = .ok (.aaload, 1) := dk_50 (dk_at dksX2_init_9 2 rfl rfl)
theorem dX2_init_209 : decode cX2_init 209 = .ok (.iconst 2, 1) := dk_5 (dk_at dksX2_init_9 3 rfl rfl)
theorem dX2_init_210 : decode cX2_init 210 = .ok (.aload_n 0, 1) := dk_42 (dk_at dksX2_init_9 4 rfl rfl)
theorem dX2_init_211 : decode cX2_init 211 = .ok (.iload 5, 2) := dk_21 5 (dk_at dksX2_init_9 5 rfl rfl)
theorem dX2_init_213 : decode cX2_init 213 = .ok (.iload 6, 2) := dk_21 6 (dk_at dksX2_init_9 7 rfl rfl)
theorem dX2_init_215 : decode cX2_init 215 = .ok (.iconst 1, 1) := dk_4 (dk_at dksX2_init_9 9 rfl rfl)
theorem dX2_init_216 : decode cX2_init 216 = .ok (.iadd, 1) := dk_96 (dk_at dksX2_init_9 10 rfl rfl)
theorem dX2_init_217 : decode cX2_init 217 = .ok (.invokevirtual 67, 3) := dk_182 0 67 (dk_at dksX2_init_9 11 rfl rfl)
theorem dX2_init_220 : decode cX2_init 220 = .ok (.iastore, 1) := dk_79 (dk_at dksX2_init_9 14 rfl rfl)
theorem dX2_init_221 : decode cX2_init 221 = .ok (.aload_n 0, 1) := dk_42 (dk_at dksX2_init_9 15 rfl rfl)
theorem dX2_init_222 : decode cX2_init 222 = .ok (.getfield 57, 3) := dk_180 0 57 (dk_at dksX2_init_9 16 rfl rfl)
theorem dX2_init_225 : decode cX2_init 225 = .ok (.iload 4, 2) := dk_21 4 (dk_at dksX2_init_9 19 rfl rfl)
theorem dX2_init_227 : decode cX2_init 227 = .ok (.aaload, 1) := dk_50 (dk_at dksX2_init_9 21 rfl rfl)
theorem dX2_init_228 : decode cX2_init 228 = .ok (.iconst 3, 1) := dk_6 (dk_at dksX2_init_9 22 rfl rfl)
theorem dX2_init_229 : decode cX2_init 229 = .ok (.aload_n 0, 1) := dk_42 (dk_at dksX2_init_9 23 rfl rfl)
theorem dX2_init_230 : decode cX2_init 230 = .ok (.iload 5, 2) := dk_21 5 (dk_at dksX2_init_10 0 rfl rfl)
theorem dX2_init_232 : decode cX2_init 232 = .ok (.iconst 1, 1) := dk_4 (dk_at dksX2_init_10 2 rfl rfl)
theorem dX2_init_233 : decode cX2_init 233 = .ok (.iadd, 1) := dk_96 (dk_at dksX2_init_10 3 rfl rfl)
theorem dX2_init_234 : decode cX2_init 234 = .ok (.iload 6, 2) := dk_21 6 (dk_at dksX2_init_10 4 rfl rfl)
theorem dX2_init_236 : decode cX2_init 236 = .ok (.invokevirtual 67, 3) := dk_182 0 67 (dk_at dksX2_init_10 6 rfl rfl)
theorem dX2_init_239 : decode cX2_init 239 = .ok (.iastore, 1) := dk_79 (dk_at dksX2_init_10 9 rfl rfl)
theorem dX2_init_240 : decode cX2_init 240 = .ok (.iinc 4 1, 3) := dk_132 4 1 (dk_at dksX2_init_10 10 rfl rfl)
theorem dX2_init_243 : decode cX2_init 243 = .ok (.goto (-109), 3) := dk_167 255 147 (dk_at dksX2_init_10 13 rfl rfl)
theorem dX2_init_246 : decode cX2_init 246 = .ok (.aload_n 0, 1) := dk_42 (dk_at dksX2_init_10 16 rfl rfl)
theorem dX2_init_247 : decode cX2_init 247 = .ok (.aload_n 0, 1) := dk_42 (dk_at dksX2_init_10 17 rfl rfl)
theorem dX2_init_248 : decode cX2_init 248 = .ok (.getfield 12, 3) := dk_180 0 12 (dk_at dksX2_init_10 18 rfl rfl)
theorem dX2_init_251 : decode cX2_init 251 = .ok (.invokeinterface 51 1, 5) := by decide +kernel
theorem dX2_init_256 : decode cX2_init 256 = .ok (.aload_n 0, 1) := dk_42 (dk_at dksX2_init_11 5 rfl rfl)
theorem dX2_init_257 : decode cX2_init 257 = .ok (.getfield 12, 3) := dk_180 0 12 (dk_at dksX2_init_11 6 rfl rfl)
theorem dX2_init_260 : decode cX2_init 260 = .ok (.invokeinterface 51 1, 5) := by decide +kernel
theorem dX2_init_265 : decode cX2_init 265 = .ok (.multianewarray 55 2, 4) := by decide +kernel
theorem dX2_init_269 : decode cX2_init 269 = .ok (.putfield 71, 3) := dk_181 0 71 (dk_at dksX2_init_11 18 rfl rfl)
theorem dX2_init_272 : decode cX2_init 272 = .ok (.iconst 0, 1) := dk_3 (dk_at dksX2_init_11 21 rfl rfl)
theorem dX2_init_273 : decode cX2_init 273 = .ok (.istore 4, 2) := dk_54 4 (dk_at dksX2_init_11 22 rfl rfl)
theorem dX2_init_275 : decode cX2_init 275 = .ok (.iload 4, 2) := dk_21 4 (dk_at dksX2_init_12 0 rfl rfl)
theorem dX2_init_277 : decode cX2_init 277 = .ok (.aload_n 0, 1) := dk_42 (dk_at dksX2_init_12 2 rfl rfl)
theorem dX2_init_278 : decode cX2_init 278 = .ok (.getfield 12, 3) := dk_180 0 12 (dk_at dksX2_init_12 3 rfl rfl)
theorem dX2_init_281 : decode cX2_init 281 = .ok (.invokeinterface 51 1, 5) := by decide +kernel
theorem dX2_init_286 : decode cX2_init 286 = .ok (.if_icmp .ge 15, 3) := dk_162 0 15 (dk_at dksX2_init_12 11 rfl rfl)
theorem dX2_init_289 : decode cX2_init 289 = .ok (.aload_n 0, 1) := dk_42 (dk_at dksX2_init_12 14 rfl rfl)
theorem dX2_init_290 : decode cX2_init 290 = .ok (.iload 4, 2) := dk_21 4 (dk_at dksX2_init_12 15 rfl rfl)
theorem dX2_init_292 : decode cX2_init 292 = .ok (.invokevirtual 74, 3) := dk_182 0 74 (dk_at dksX2_init_12 17 rfl rfl)
theorem dX2_init_295 : decode cX2_init 295 = .ok (.iinc 4 1, 3) := dk_132 4 1 (dk_at dksX2_init_12 20 rfl rfl)
theorem dX2_init_298 : decode cX2_init 298 = .ok (.goto (-23), 3) := dk_167 255 233 (dk_at dksX2_init_13 0 rfl rfl)
theorem dX2_init_301 : decode cX2_init 301 = .ok (.return_, 1) := dk_177 (dk_at dksX2_init_13 3 rfl rfl)
abbrev cX2_rowOf : ByteArray := prog_12_method_3_code
def yX2_rowOf : MethodName := ⟨RX2, "rowOf", "(I)I"⟩
def dkwX2_rowOf_0 : List UInt8 := [42, 180, 0, 12, 27, 185, 0, 77, 2, 0, 192, 0, 36, 182, 0, 81, 42, 180, 0, 32, 108, 172]
abbrev dktX2_rowOf_0 : List UInt8 := dkwX2_rowOf_0 ++ []
theorem dksX2_rowOf_0 : cX2_rowOf.data.toList.drop 0 = dktX2_rowOf_0 := by decide +kernel
theorem dX2_rowOf_0 : decode cX2_rowOf 0 = .ok (.aload_n 0, 1) := dk_42 (dk_at dksX2_rowOf_0 0 rfl rfl)
theorem dX2_rowOf_1 : decode cX2_rowOf 1 = .ok (.getfield 12, 3) := dk_180 0 12 (dk_at dksX2_rowOf_0 1 rfl rfl)
theorem dX2_rowOf_4 : decode cX2_rowOf 4 = .ok (.iload_n 1, 1) := dk_27 (dk_at dksX2_rowOf_0 4 rfl rfl)
theorem dX2_rowOf_5 : decode cX2_rowOf 5 = .ok (.invokeinterface 77 2, 5) := by decide +kernel
theorem dX2_rowOf_10 : decode cX2_rowOf 10 = .ok (.checkcast 36, 3) := dk_192 0 36 (dk_at dksX2_rowOf_0 10 rfl rfl)
theorem dX2_rowOf_13 : decode cX2_rowOf 13 = .ok (.invokevirtual 81, 3) := dk_182 0 81 (dk_at dksX2_rowOf_0 13 rfl rfl)
theorem dX2_rowOf_16 : decode cX2_rowOf 16 = .ok (.aload_n 0, 1) := dk_42 (dk_at dksX2_rowOf_0 16 rfl rfl)
theorem dX2_rowOf_17 : decode cX2_rowOf 17 = .ok (.getfield 32, 3) := dk_180 0 32 (dk_at dksX2_rowOf_0 17 rfl rfl)
theorem dX2_rowOf_20 : decode cX2_rowOf 20 = .ok (.idiv, 1) := dk_108 (dk_at dksX2_rowOf_0 20 rfl rfl)
theorem dX2_rowOf_21 : decode cX2_rowOf 21 = .ok (.ireturn, 1) := dk_172 (dk_at dksX2_rowOf_0 21 rfl rfl)
abbrev cX2_columnOf : ByteArray := prog_12_method_4_code
def yX2_columnOf : MethodName := ⟨RX2, "columnOf", "(I)I"⟩
def dkwX2_columnOf_0 : List UInt8 := [42, 180, 0, 12, 27, 185, 0, 77, 2, 0, 192, 0, 36, 182, 0, 81, 42, 180, 0, 32, 112, 172]
abbrev dktX2_columnOf_0 : List UInt8 := dkwX2_columnOf_0 ++ []
theorem dksX2_columnOf_0 : cX2_columnOf.data.toList.drop 0 = dktX2_columnOf_0 := by decide +kernel
theorem dX2_columnOf_0 : decode cX2_columnOf 0 = .ok (.aload_n 0, 1) := dk_42 (dk_at dksX2_columnOf_0 0 rfl rfl)
theorem dX2_columnOf_1 : decode cX2_columnOf 1 = .ok (.getfield 12, 3) := dk_180 0 12 (dk_at dksX2_columnOf_0 1 rfl rfl)
theorem dX2_columnOf_4 : decode cX2_columnOf 4 = .ok (.iload_n 1, 1) := dk_27 (dk_at dksX2_columnOf_0 4 rfl rfl)
theorem dX2_columnOf_5 : decode cX2_columnOf 5 = .ok (.invokeinterface 77 2, 5) := by decide +kernel
theorem dX2_columnOf_10 : decode cX2_columnOf 10 = .ok (.checkcast 36, 3) := dk_192 0 36 (dk_at dksX2_columnOf_0 10 rfl rfl)
theorem dX2_columnOf_13 : decode cX2_columnOf 13 = .ok (.invokevirtual 81, 3) := dk_182 0 81 (dk_at dksX2_columnOf_0 13 rfl rfl)
theorem dX2_columnOf_16 : decode cX2_columnOf 16 = .ok (.aload_n 0, 1) := dk_42 (dk_at dksX2_columnOf_0 16 rfl rfl)
theorem dX2_columnOf_17 : decode cX2_columnOf 17 = .ok (.getfield 32, 3) := dk_180 0 32 (dk_at dksX2_columnOf_0 17 rfl rfl)
theorem dX2_columnOf_20 : decode cX2_columnOf 20 = .ok (.irem, 1) := dk_112 (dk_at dksX2_columnOf_0 20 rfl rfl)
theorem dX2_columnOf_21 : decode cX2_columnOf 21 = .ok (.ireturn, 1) := dk_172 (dk_at dksX2_columnOf_0 21 rfl rfl)
abbrev cX2_openAt : ByteArray := prog_12_method_5_code
def yX2_openAt : MethodName := ⟨RX2, "openAt", "(II)I"⟩
def dkwX2_openAt_2 : List UInt8 := [184, 0, 35, 185, 0, 84, 2, 0, 167, 0, 4, 2, 172]
abbrev dktX2_openAt_2 : List UInt8 := dkwX2_openAt_2 ++ []
def dkwX2_openAt_1 : List UInt8 := [4, 167, 0, 4, 3, 62, 29, 153, 0, 26, 42, 180, 0, 12, 27, 42, 180, 0, 32, 104, 28, 96]
abbrev dktX2_openAt_1 : List UInt8 := dkwX2_openAt_1 ++ dktX2_openAt_2
def dkwX2_openAt_0 : List UInt8 := [27, 155, 0, 27, 27, 42, 180, 0, 28, 162, 0, 19, 28, 155, 0, 15, 28, 42, 180, 0, 32, 162, 0, 7]
abbrev dktX2_openAt_0 : List UInt8 := dkwX2_openAt_0 ++ dktX2_openAt_1
theorem dksX2_openAt_0 : cX2_openAt.data.toList.drop 0 = dktX2_openAt_0 := by decide +kernel
theorem dksX2_openAt_1 : cX2_openAt.data.toList.drop 24 = dktX2_openAt_1 := dk_seg dksX2_openAt_0 24 rfl rfl
theorem dksX2_openAt_2 : cX2_openAt.data.toList.drop 46 = dktX2_openAt_2 := dk_seg dksX2_openAt_1 22 rfl rfl
theorem dX2_openAt_0 : decode cX2_openAt 0 = .ok (.iload_n 1, 1) := dk_27 (dk_at dksX2_openAt_0 0 rfl rfl)
theorem dX2_openAt_1 : decode cX2_openAt 1 = .ok (.ifCond .lt 27, 3) := dk_155 0 27 (dk_at dksX2_openAt_0 1 rfl rfl)
theorem dX2_openAt_4 : decode cX2_openAt 4 = .ok (.iload_n 1, 1) := dk_27 (dk_at dksX2_openAt_0 4 rfl rfl)
theorem dX2_openAt_5 : decode cX2_openAt 5 = .ok (.aload_n 0, 1) := dk_42 (dk_at dksX2_openAt_0 5 rfl rfl)
theorem dX2_openAt_6 : decode cX2_openAt 6 = .ok (.getfield 28, 3) := dk_180 0 28 (dk_at dksX2_openAt_0 6 rfl rfl)
theorem dX2_openAt_9 : decode cX2_openAt 9 = .ok (.if_icmp .ge 19, 3) := dk_162 0 19 (dk_at dksX2_openAt_0 9 rfl rfl)
theorem dX2_openAt_12 : decode cX2_openAt 12 = .ok (.iload_n 2, 1) := dk_28 (dk_at dksX2_openAt_0 12 rfl rfl)
theorem dX2_openAt_13 : decode cX2_openAt 13 = .ok (.ifCond .lt 15, 3) := dk_155 0 15 (dk_at dksX2_openAt_0 13 rfl rfl)
theorem dX2_openAt_16 : decode cX2_openAt 16 = .ok (.iload_n 2, 1) := dk_28 (dk_at dksX2_openAt_0 16 rfl rfl)
theorem dX2_openAt_17 : decode cX2_openAt 17 = .ok (.aload_n 0, 1) := dk_42 (dk_at dksX2_openAt_0 17 rfl rfl)
theorem dX2_openAt_18 : decode cX2_openAt 18 = .ok (.getfield 32, 3) := dk_180 0 32 (dk_at dksX2_openAt_0 18 rfl rfl)
theorem dX2_openAt_21 : decode cX2_openAt 21 = .ok (.if_icmp .ge 7, 3) := dk_162 0 7 (dk_at dksX2_openAt_0 21 rfl rfl)
theorem dX2_openAt_24 : decode cX2_openAt 24 = .ok (.iconst 1, 1) := dk_4 (dk_at dksX2_openAt_1 0 rfl rfl)
theorem dX2_openAt_25 : decode cX2_openAt 25 = .ok (.goto 4, 3) := dk_167 0 4 (dk_at dksX2_openAt_1 1 rfl rfl)
theorem dX2_openAt_28 : decode cX2_openAt 28 = .ok (.iconst 0, 1) := dk_3 (dk_at dksX2_openAt_1 4 rfl rfl)
theorem dX2_openAt_29 : decode cX2_openAt 29 = .ok (.istore_n 3, 1) := dk_62 (dk_at dksX2_openAt_1 5 rfl rfl)
theorem dX2_openAt_30 : decode cX2_openAt 30 = .ok (.iload_n 3, 1) := dk_29 (dk_at dksX2_openAt_1 6 rfl rfl)
theorem dX2_openAt_31 : decode cX2_openAt 31 = .ok (.ifCond .eq 26, 3) := dk_153 0 26 (dk_at dksX2_openAt_1 7 rfl rfl)
theorem dX2_openAt_34 : decode cX2_openAt 34 = .ok (.aload_n 0, 1) := dk_42 (dk_at dksX2_openAt_1 10 rfl rfl)
theorem dX2_openAt_35 : decode cX2_openAt 35 = .ok (.getfield 12, 3) := dk_180 0 12 (dk_at dksX2_openAt_1 11 rfl rfl)
theorem dX2_openAt_38 : decode cX2_openAt 38 = .ok (.iload_n 1, 1) := dk_27 (dk_at dksX2_openAt_1 14 rfl rfl)
theorem dX2_openAt_39 : decode cX2_openAt 39 = .ok (.aload_n 0, 1) := dk_42 (dk_at dksX2_openAt_1 15 rfl rfl)
theorem dX2_openAt_40 : decode cX2_openAt 40 = .ok (.getfield 32, 3) := dk_180 0 32 (dk_at dksX2_openAt_1 16 rfl rfl)
theorem dX2_openAt_43 : decode cX2_openAt 43 = .ok (.imul, 1) := dk_104 (dk_at dksX2_openAt_1 19 rfl rfl)
theorem dX2_openAt_44 : decode cX2_openAt 44 = .ok (.iload_n 2, 1) := dk_28 (dk_at dksX2_openAt_1 20 rfl rfl)
theorem dX2_openAt_45 : decode cX2_openAt 45 = .ok (.iadd, 1) := dk_96 (dk_at dksX2_openAt_1 21 rfl rfl)
theorem dX2_openAt_46 : decode cX2_openAt 46 = .ok (.invokestatic 35, 3) := dk_184 0 35 (dk_at dksX2_openAt_2 0 rfl rfl)
theorem dX2_openAt_49 : decode cX2_openAt 49 = .ok (.invokeinterface 84 2, 5) := by decide +kernel
theorem dX2_openAt_54 : decode cX2_openAt 54 = .ok (.goto 4, 3) := dk_167 0 4 (dk_at dksX2_openAt_2 8 rfl rfl)
theorem dX2_openAt_57 : decode cX2_openAt 57 = .ok (.iconst (-1), 1) := dk_2 (dk_at dksX2_openAt_2 11 rfl rfl)
theorem dX2_openAt_58 : decode cX2_openAt 58 = .ok (.ireturn, 1) := dk_172 (dk_at dksX2_openAt_2 12 rfl rfl)
abbrev cX2_measure : ByteArray := prog_12_method_6_code
def yX2_measure : MethodName := ⟨RX2, "measure", "(I)V"⟩
def dkwX2_measure_5 : List UInt8 := [46, 4, 96, 79, 44, 21, 7, 184, 0, 35, 182, 0, 97, 132, 6, 1, 167, 255, 192, 167, 255, 155, 177]
abbrev dktX2_measure_5 : List UInt8 := dkwX2_measure_5 ++ []
def dkwX2_measure_4 : List UInt8 := [27, 50, 21, 7, 46, 2, 160, 0, 31, 42, 180, 0, 71, 27, 50, 21, 7, 42, 180, 0, 71, 27, 50, 29]
abbrev dktX2_measure_4 : List UInt8 := dkwX2_measure_4 ++ dktX2_measure_5
def dkwX2_measure_3 : List UInt8 := [21, 6, 21, 5, 162, 0, 63, 25, 4, 21, 6, 46, 54, 7, 21, 7, 2, 159, 0, 44, 42, 180, 0, 71]
abbrev dktX2_measure_3 : List UInt8 := dkwX2_measure_3 ++ dktX2_measure_4
def dkwX2_measure_2 : List UInt8 := [192, 0, 36, 182, 0, 81, 62, 42, 180, 0, 57, 29, 50, 58, 4, 25, 4, 190, 54, 5, 3, 54, 6]
abbrev dktX2_measure_2 : List UInt8 := dkwX2_measure_2 ++ dktX2_measure_3
def dkwX2_measure_1 : List UInt8 := [183, 0, 96, 77, 44, 27, 184, 0, 35, 182, 0, 97, 44, 182, 0, 101, 154, 0, 100, 44, 182, 0, 105]
abbrev dktX2_measure_1 : List UInt8 := dkwX2_measure_1 ++ dktX2_measure_2
def dkwX2_measure_0 : List UInt8 := [42, 180, 0, 71, 27, 50, 2, 184, 0, 88, 42, 180, 0, 71, 27, 50, 27, 3, 79, 187, 0, 94, 89]
abbrev dktX2_measure_0 : List UInt8 := dkwX2_measure_0 ++ dktX2_measure_1
theorem dksX2_measure_0 : cX2_measure.data.toList.drop 0 = dktX2_measure_0 := by decide +kernel
theorem dksX2_measure_1 : cX2_measure.data.toList.drop 23 = dktX2_measure_1 := dk_seg dksX2_measure_0 23 rfl rfl
theorem dksX2_measure_2 : cX2_measure.data.toList.drop 46 = dktX2_measure_2 := dk_seg dksX2_measure_1 23 rfl rfl
theorem dksX2_measure_3 : cX2_measure.data.toList.drop 69 = dktX2_measure_3 := dk_seg dksX2_measure_2 23 rfl rfl
theorem dksX2_measure_4 : cX2_measure.data.toList.drop 93 = dktX2_measure_4 := dk_seg dksX2_measure_3 24 rfl rfl
theorem dksX2_measure_5 : cX2_measure.data.toList.drop 117 = dktX2_measure_5 := dk_seg dksX2_measure_4 24 rfl rfl
theorem dX2_measure_0 : decode cX2_measure 0 = .ok (.aload_n 0, 1) := dk_42 (dk_at dksX2_measure_0 0 rfl rfl)
theorem dX2_measure_1 : decode cX2_measure 1 = .ok (.getfield 71, 3) := dk_180 0 71 (dk_at dksX2_measure_0 1 rfl rfl)
theorem dX2_measure_4 : decode cX2_measure 4 = .ok (.iload_n 1, 1) := dk_27 (dk_at dksX2_measure_0 4 rfl rfl)
theorem dX2_measure_5 : decode cX2_measure 5 = .ok (.aaload, 1) := dk_50 (dk_at dksX2_measure_0 5 rfl rfl)
theorem dX2_measure_6 : decode cX2_measure 6 = .ok (.iconst (-1), 1) := dk_2 (dk_at dksX2_measure_0 6 rfl rfl)
theorem dX2_measure_7 : decode cX2_measure 7 = .ok (.invokestatic 88, 3) := dk_184 0 88 (dk_at dksX2_measure_0 7 rfl rfl)
theorem dX2_measure_10 : decode cX2_measure 10 = .ok (.aload_n 0, 1) := dk_42 (dk_at dksX2_measure_0 10 rfl rfl)
theorem dX2_measure_11 : decode cX2_measure 11 = .ok (.getfield 71, 3) := dk_180 0 71 (dk_at dksX2_measure_0 11 rfl rfl)
theorem dX2_measure_14 : decode cX2_measure 14 = .ok (.iload_n 1, 1) := dk_27 (dk_at dksX2_measure_0 14 rfl rfl)
theorem dX2_measure_15 : decode cX2_measure 15 = .ok (.aaload, 1) := dk_50 (dk_at dksX2_measure_0 15 rfl rfl)
theorem dX2_measure_16 : decode cX2_measure 16 = .ok (.iload_n 1, 1) := dk_27 (dk_at dksX2_measure_0 16 rfl rfl)
theorem dX2_measure_17 : decode cX2_measure 17 = .ok (.iconst 0, 1) := dk_3 (dk_at dksX2_measure_0 17 rfl rfl)
theorem dX2_measure_18 : decode cX2_measure 18 = .ok (.iastore, 1) := dk_79 (dk_at dksX2_measure_0 18 rfl rfl)
theorem dX2_measure_19 : decode cX2_measure 19 = .ok (.new 94, 3) := dk_187 0 94 (dk_at dksX2_measure_0 19 rfl rfl)
theorem dX2_measure_22 : decode cX2_measure 22 = .ok (.dup, 1) := dk_89 (dk_at dksX2_measure_0 22 rfl rfl)
theorem dX2_measure_23 : decode cX2_measure 23 = .ok (.invokespecial 96, 3) := dk_183 0 96 (dk_at dksX2_measure_1 0 rfl rfl)
theorem dX2_measure_26 : decode cX2_measure 26 = .ok (.astore_n 2, 1) := dk_77 (dk_at dksX2_measure_1 3 rfl rfl)
theorem dX2_measure_27 : decode cX2_measure 27 = .ok (.aload_n 2, 1) := dk_44 (dk_at dksX2_measure_1 4 rfl rfl)
theorem dX2_measure_28 : decode cX2_measure 28 = .ok (.iload_n 1, 1) := dk_27 (dk_at dksX2_measure_1 5 rfl rfl)
theorem dX2_measure_29 : decode cX2_measure 29 = .ok (.invokestatic 35, 3) := dk_184 0 35 (dk_at dksX2_measure_1 6 rfl rfl)
theorem dX2_measure_32 : decode cX2_measure 32 = .ok (.invokevirtual 97, 3) := dk_182 0 97 (dk_at dksX2_measure_1 9 rfl rfl)
theorem dX2_measure_35 : decode cX2_measure 35 = .ok (.aload_n 2, 1) := dk_44 (dk_at dksX2_measure_1 12 rfl rfl)
theorem dX2_measure_36 : decode cX2_measure 36 = .ok (.invokevirtual 101, 3) := dk_182 0 101 (dk_at dksX2_measure_1 13 rfl rfl)
theorem dX2_measure_39 : decode cX2_measure 39 = .ok (.ifCond .ne 100, 3) := dk_154 0 100 (dk_at dksX2_measure_1 16 rfl rfl)
theorem dX2_measure_42 : decode cX2_measure 42 = .ok (.aload_n 2, 1) := dk_44 (dk_at dksX2_measure_1 19 rfl rfl)
theorem dX2_measure_43 : decode cX2_measure 43 = .ok (.invokevirtual 105, 3) := dk_182 0 105 (dk_at dksX2_measure_1 20 rfl rfl)
theorem dX2_measure_46 : decode cX2_measure 46 = .ok (.checkcast 36, 3) := dk_192 0 36 (dk_at dksX2_measure_2 0 rfl rfl)
theorem dX2_measure_49 : decode cX2_measure 49 = .ok (.invokevirtual 81, 3) := dk_182 0 81 (dk_at dksX2_measure_2 3 rfl rfl)
theorem dX2_measure_52 : decode cX2_measure 52 = .ok (.istore_n 3, 1) := dk_62 (dk_at dksX2_measure_2 6 rfl rfl)
theorem dX2_measure_53 : decode cX2_measure 53 = .ok (.aload_n 0, 1) := dk_42 (dk_at dksX2_measure_2 7 rfl rfl)
theorem dX2_measure_54 : decode cX2_measure 54 = .ok (.getfield 57, 3) := dk_180 0 57 (dk_at dksX2_measure_2 8 rfl rfl)
theorem dX2_measure_57 : decode cX2_measure 57 = .ok (.iload_n 3, 1) := dk_29 (dk_at dksX2_measure_2 11 rfl rfl)
theorem dX2_measure_58 : decode cX2_measure 58 = .ok (.aaload, 1) := dk_50 (dk_at dksX2_measure_2 12 rfl rfl)
theorem dX2_measure_59 : decode cX2_measure 59 = .ok (.astore 4, 2) := dk_58 4 (dk_at dksX2_measure_2 13 rfl rfl)
theorem dX2_measure_61 : decode cX2_measure 61 = .ok (.aload 4, 2) := dk_25 4 (dk_at dksX2_measure_2 15 rfl rfl)
theorem dX2_measure_63 : decode cX2_measure 63 = .ok (.arraylength, 1) := dk_190 (dk_at dksX2_measure_2 17 rfl rfl)
theorem dX2_measure_64 : decode cX2_measure 64 = .ok (.istore 5, 2) := dk_54 5 (dk_at dksX2_measure_2 18 rfl rfl)
theorem dX2_measure_66 : decode cX2_measure 66 = .ok (.iconst 0, 1) := dk_3 (dk_at dksX2_measure_2 20 rfl rfl)
theorem dX2_measure_67 : decode cX2_measure 67 = .ok (.istore 6, 2) := dk_54 6 (dk_at dksX2_measure_2 21 rfl rfl)
theorem dX2_measure_69 : decode cX2_measure 69 = .ok (.iload 6, 2) := dk_21 6 (dk_at dksX2_measure_3 0 rfl rfl)
theorem dX2_measure_71 : decode cX2_measure 71 = .ok (.iload 5, 2) := dk_21 5 (dk_at dksX2_measure_3 2 rfl rfl)
theorem dX2_measure_73 : decode cX2_measure 73 = .ok (.if_icmp .ge 63, 3) := dk_162 0 63 (dk_at dksX2_measure_3 4 rfl rfl)
theorem dX2_measure_76 : decode cX2_measure 76 = .ok (.aload 4, 2) := dk_25 4 (dk_at dksX2_measure_3 7 rfl rfl)
theorem dX2_measure_78 : decode cX2_measure 78 = .ok (.iload 6, 2) := dk_21 6 (dk_at dksX2_measure_3 9 rfl rfl)
theorem dX2_measure_80 : decode cX2_measure 80 = .ok (.iaload, 1) := dk_46 (dk_at dksX2_measure_3 11 rfl rfl)
theorem dX2_measure_81 : decode cX2_measure 81 = .ok (.istore 7, 2) := dk_54 7 (dk_at dksX2_measure_3 12 rfl rfl)
theorem dX2_measure_83 : decode cX2_measure 83 = .ok (.iload 7, 2) := dk_21 7 (dk_at dksX2_measure_3 14 rfl rfl)
theorem dX2_measure_85 : decode cX2_measure 85 = .ok (.iconst (-1), 1) := dk_2 (dk_at dksX2_measure_3 16 rfl rfl)
theorem dX2_measure_86 : decode cX2_measure 86 = .ok (.if_icmp .eq 44, 3) := dk_159 0 44 (dk_at dksX2_measure_3 17 rfl rfl)
theorem dX2_measure_89 : decode cX2_measure 89 = .ok (.aload_n 0, 1) := dk_42 (dk_at dksX2_measure_3 20 rfl rfl)
theorem dX2_measure_90 : decode cX2_measure 90 = .ok (.getfield 71, 3) := dk_180 0 71 (dk_at dksX2_measure_3 21 rfl rfl)
theorem dX2_measure_93 : decode cX2_measure 93 = .ok (.iload_n 1, 1) := dk_27 (dk_at dksX2_measure_4 0 rfl rfl)
theorem dX2_measure_94 : decode cX2_measure 94 = .ok (.aaload, 1) := dk_50 (dk_at dksX2_measure_4 1 rfl rfl)
theorem dX2_measure_95 : decode cX2_measure 95 = .ok (.iload 7, 2) := dk_21 7 (dk_at dksX2_measure_4 2 rfl rfl)
theorem dX2_measure_97 : decode cX2_measure 97 = .ok (.iaload, 1) := dk_46 (dk_at dksX2_measure_4 4 rfl rfl)
theorem dX2_measure_98 : decode cX2_measure 98 = .ok (.iconst (-1), 1) := dk_2 (dk_at dksX2_measure_4 5 rfl rfl)
theorem dX2_measure_99 : decode cX2_measure 99 = .ok (.if_icmp .ne 31, 3) := dk_160 0 31 (dk_at dksX2_measure_4 6 rfl rfl)
theorem dX2_measure_102 : decode cX2_measure 102 = .ok (.aload_n 0, 1) := dk_42 (dk_at dksX2_measure_4 9 rfl rfl)
theorem dX2_measure_103 : decode cX2_measure 103 = .ok (.getfield 71, 3) := dk_180 0 71 (dk_at dksX2_measure_4 10 rfl rfl)
theorem dX2_measure_106 : decode cX2_measure 106 = .ok (.iload_n 1, 1) := dk_27 (dk_at dksX2_measure_4 13 rfl rfl)
theorem dX2_measure_107 : decode cX2_measure 107 = .ok (.aaload, 1) := dk_50 (dk_at dksX2_measure_4 14 rfl rfl)
theorem dX2_measure_108 : decode cX2_measure 108 = .ok (.iload 7, 2) := dk_21 7 (dk_at dksX2_measure_4 15 rfl rfl)
theorem dX2_measure_110 : decode cX2_measure 110 = .ok (.aload_n 0, 1) := dk_42 (dk_at dksX2_measure_4 17 rfl rfl)
theorem dX2_measure_111 : decode cX2_measure 111 = .ok (.getfield 71, 3) := dk_180 0 71 (dk_at dksX2_measure_4 18 rfl rfl)
theorem dX2_measure_114 : decode cX2_measure 114 = .ok (.iload_n 1, 1) := dk_27 (dk_at dksX2_measure_4 21 rfl rfl)
theorem dX2_measure_115 : decode cX2_measure 115 = .ok (.aaload, 1) := dk_50 (dk_at dksX2_measure_4 22 rfl rfl)
theorem dX2_measure_116 : decode cX2_measure 116 = .ok (.iload_n 3, 1) := dk_29 (dk_at dksX2_measure_4 23 rfl rfl)
theorem dX2_measure_117 : decode cX2_measure 117 = .ok (.iaload, 1) := dk_46 (dk_at dksX2_measure_5 0 rfl rfl)
theorem dX2_measure_118 : decode cX2_measure 118 = .ok (.iconst 1, 1) := dk_4 (dk_at dksX2_measure_5 1 rfl rfl)
theorem dX2_measure_119 : decode cX2_measure 119 = .ok (.iadd, 1) := dk_96 (dk_at dksX2_measure_5 2 rfl rfl)
theorem dX2_measure_120 : decode cX2_measure 120 = .ok (.iastore, 1) := dk_79 (dk_at dksX2_measure_5 3 rfl rfl)
theorem dX2_measure_121 : decode cX2_measure 121 = .ok (.aload_n 2, 1) := dk_44 (dk_at dksX2_measure_5 4 rfl rfl)
theorem dX2_measure_122 : decode cX2_measure 122 = .ok (.iload 7, 2) := dk_21 7 (dk_at dksX2_measure_5 5 rfl rfl)
theorem dX2_measure_124 : decode cX2_measure 124 = .ok (.invokestatic 35, 3) := dk_184 0 35 (dk_at dksX2_measure_5 7 rfl rfl)
theorem dX2_measure_127 : decode cX2_measure 127 = .ok (.invokevirtual 97, 3) := dk_182 0 97 (dk_at dksX2_measure_5 10 rfl rfl)
theorem dX2_measure_130 : decode cX2_measure 130 = .ok (.iinc 6 1, 3) := dk_132 6 1 (dk_at dksX2_measure_5 13 rfl rfl)
theorem dX2_measure_133 : decode cX2_measure 133 = .ok (.goto (-64), 3) := dk_167 255 192 (dk_at dksX2_measure_5 16 rfl rfl)
theorem dX2_measure_136 : decode cX2_measure 136 = .ok (.goto (-101), 3) := dk_167 255 155 (dk_at dksX2_measure_5 19 rfl rfl)
theorem dX2_measure_139 : decode cX2_measure 139 = .ok (.return_, 1) := dk_177 (dk_at dksX2_measure_5 22 rfl rfl)
abbrev cX2_size : ByteArray := prog_12_method_2_code
def yX2_size : MethodName := ⟨RX2, "size", "()I"⟩
def dkwX2_size_0 : List UInt8 := [42, 180, 0, 12, 185, 0, 51, 1, 0, 172]
abbrev dktX2_size_0 : List UInt8 := dkwX2_size_0 ++ []
theorem dksX2_size_0 : cX2_size.data.toList.drop 0 = dktX2_size_0 := by decide +kernel
theorem dX2_size_0 : decode cX2_size 0 = .ok (.aload_n 0, 1) := dk_42 (dk_at dksX2_size_0 0 rfl rfl)
theorem dX2_size_1 : decode cX2_size 1 = .ok (.getfield 12, 3) := dk_180 0 12 (dk_at dksX2_size_0 1 rfl rfl)
theorem dX2_size_4 : decode cX2_size 4 = .ok (.invokeinterface 51 1, 5) := by decide +kernel
theorem dX2_size_9 : decode cX2_size 9 = .ok (.ireturn, 1) := dk_172 (dk_at dksX2_size_0 9 rfl rfl)
abbrev cX2_isConnected : ByteArray := prog_12_method_7_code
def yX2_isConnected : MethodName := ⟨RX2, "isConnected", "()Z"⟩
def dkwX2_isConnected_1 : List UInt8 := [2, 159, 0, 7, 4, 167, 0, 4, 3, 60, 132, 2, 1, 167, 255, 223, 27, 172]
abbrev dktX2_isConnected_1 : List UInt8 := dkwX2_isConnected_1 ++ []
def dkwX2_isConnected_0 : List UInt8 := [4, 60, 3, 61, 28, 42, 182, 0, 109, 162, 0, 31, 27, 153, 0, 19, 42, 180, 0, 71, 3, 50, 28, 46]
abbrev dktX2_isConnected_0 : List UInt8 := dkwX2_isConnected_0 ++ dktX2_isConnected_1
theorem dksX2_isConnected_0 : cX2_isConnected.data.toList.drop 0 = dktX2_isConnected_0 := by decide +kernel
theorem dksX2_isConnected_1 : cX2_isConnected.data.toList.drop 24 = dktX2_isConnected_1 := dk_seg dksX2_isConnected_0 24 rfl rfl
theorem dX2_isConnected_0 : decode cX2_isConnected 0 = .ok (.iconst 1, 1) := dk_4 (dk_at dksX2_isConnected_0 0 rfl rfl)
theorem dX2_isConnected_1 : decode cX2_isConnected 1 = .ok (.istore_n 1, 1) := dk_60 (dk_at dksX2_isConnected_0 1 rfl rfl)
theorem dX2_isConnected_2 : decode cX2_isConnected 2 = .ok (.iconst 0, 1) := dk_3 (dk_at dksX2_isConnected_0 2 rfl rfl)
theorem dX2_isConnected_3 : decode cX2_isConnected 3 = .ok (.istore_n 2, 1) := dk_61 (dk_at dksX2_isConnected_0 3 rfl rfl)
theorem dX2_isConnected_4 : decode cX2_isConnected 4 = .ok (.iload_n 2, 1) := dk_28 (dk_at dksX2_isConnected_0 4 rfl rfl)
theorem dX2_isConnected_5 : decode cX2_isConnected 5 = .ok (.aload_n 0, 1) := dk_42 (dk_at dksX2_isConnected_0 5 rfl rfl)
theorem dX2_isConnected_6 : decode cX2_isConnected 6 = .ok (.invokevirtual 109, 3) := dk_182 0 109 (dk_at dksX2_isConnected_0 6 rfl rfl)
theorem dX2_isConnected_9 : decode cX2_isConnected 9 = .ok (.if_icmp .ge 31, 3) := dk_162 0 31 (dk_at dksX2_isConnected_0 9 rfl rfl)
theorem dX2_isConnected_12 : decode cX2_isConnected 12 = .ok (.iload_n 1, 1) := dk_27 (dk_at dksX2_isConnected_0 12 rfl rfl)
theorem dX2_isConnected_13 : decode cX2_isConnected 13 = .ok (.ifCond .eq 19, 3) := dk_153 0 19 (dk_at dksX2_isConnected_0 13 rfl rfl)
theorem dX2_isConnected_16 : decode cX2_isConnected 16 = .ok (.aload_n 0, 1) := dk_42 (dk_at dksX2_isConnected_0 16 rfl rfl)
theorem dX2_isConnected_17 : decode cX2_isConnected 17 = .ok (.getfield 71, 3) := dk_180 0 71 (dk_at dksX2_isConnected_0 17 rfl rfl)
theorem dX2_isConnected_20 : decode cX2_isConnected 20 = .ok (.iconst 0, 1) := dk_3 (dk_at dksX2_isConnected_0 20 rfl rfl)
theorem dX2_isConnected_21 : decode cX2_isConnected 21 = .ok (.aaload, 1) := dk_50 (dk_at dksX2_isConnected_0 21 rfl rfl)
theorem dX2_isConnected_22 : decode cX2_isConnected 22 = .ok (.iload_n 2, 1) := dk_28 (dk_at dksX2_isConnected_0 22 rfl rfl)
theorem dX2_isConnected_23 : decode cX2_isConnected 23 = .ok (.iaload, 1) := dk_46 (dk_at dksX2_isConnected_0 23 rfl rfl)
theorem dX2_isConnected_24 : decode cX2_isConnected 24 = .ok (.iconst (-1), 1) := dk_2 (dk_at dksX2_isConnected_1 0 rfl rfl)
theorem dX2_isConnected_25 : decode cX2_isConnected 25 = .ok (.if_icmp .eq 7, 3) := dk_159 0 7 (dk_at dksX2_isConnected_1 1 rfl rfl)
theorem dX2_isConnected_28 : decode cX2_isConnected 28 = .ok (.iconst 1, 1) := dk_4 (dk_at dksX2_isConnected_1 4 rfl rfl)
theorem dX2_isConnected_29 : decode cX2_isConnected 29 = .ok (.goto 4, 3) := dk_167 0 4 (dk_at dksX2_isConnected_1 5 rfl rfl)
theorem dX2_isConnected_32 : decode cX2_isConnected 32 = .ok (.iconst 0, 1) := dk_3 (dk_at dksX2_isConnected_1 8 rfl rfl)
theorem dX2_isConnected_33 : decode cX2_isConnected 33 = .ok (.istore_n 1, 1) := dk_60 (dk_at dksX2_isConnected_1 9 rfl rfl)
theorem dX2_isConnected_34 : decode cX2_isConnected 34 = .ok (.iinc 2 1, 3) := dk_132 2 1 (dk_at dksX2_isConnected_1 10 rfl rfl)
theorem dX2_isConnected_37 : decode cX2_isConnected 37 = .ok (.goto (-33), 3) := dk_167 255 223 (dk_at dksX2_isConnected_1 13 rfl rfl)
theorem dX2_isConnected_40 : decode cX2_isConnected 40 = .ok (.iload_n 1, 1) := dk_27 (dk_at dksX2_isConnected_1 16 rfl rfl)
theorem dX2_isConnected_41 : decode cX2_isConnected 41 = .ok (.ireturn, 1) := dk_172 (dk_at dksX2_isConnected_1 17 rfl rfl)
theorem q103 : (Jvm.Cond.initialized "Slidingtray$Shape") ∈ lw_all := lw_g (lw_at lw_m1 2 rfl) rfl
theorem q170 : (Jvm.Cond.instantiable "Slidingtray$Shape" (7 : Nat)) ∈ lw_all := lw_g (lw_at lw_m1 69 rfl) rfl
theorem q172 : (Jvm.Cond.instanceMethod ({ cls := "Slidingtray$Shape", name := "<init>", desc := "(III)V" } : Jvm.MethodName)) ∈ lw_all := lw_g (lw_at lw_m1 71 rfl) rfl
theorem q173 : (Jvm.Cond.code ({ cls := "Slidingtray$Shape", name := "<init>", desc := "(III)V" } : Jvm.MethodName) prog_12_method_1_code (7 : Nat) (Option.none : Option Jvm.ClassFile.FieldType)) ∈ lw_all := lw_g (lw_at lw_m1 72 rfl) rfl
theorem q174 : (Jvm.Cond.methodLink "Slidingtray$Shape" (3 : Nat) ({ cls := "java/lang/Object", name := "<init>", desc := "()V" } : Jvm.MethodName)) ∈ lw_all := lw_g (lw_at lw_m1 73 rfl) rfl
theorem q175 : (Jvm.Cond.classLink "Slidingtray$Shape" (9 : Nat) "java/util/ArrayList") ∈ lw_all := lw_g (lw_at lw_m1 74 rfl) rfl
theorem q177 : (Jvm.Cond.methodLink "Slidingtray$Shape" (11 : Nat) ({ cls := "java/util/ArrayList", name := "<init>", desc := "()V" } : Jvm.MethodName)) ∈ lw_all := lw_g (lw_at lw_m1 76 rfl) rfl
theorem q204 : (Jvm.Cond.classLink "Slidingtray$Shape" (18 : Nat) "java/util/BitSet") ∈ lw_all := lw_g (lw_at lw_m1 103 rfl) rfl
theorem q206 : (Jvm.Cond.methodLink "Slidingtray$Shape" (20 : Nat) ({ cls := "java/util/BitSet", name := "<init>", desc := "()V" } : Jvm.MethodName)) ∈ lw_all := lw_g (lw_at lw_m1 105 rfl) rfl
theorem q228 : (Jvm.Cond.methodLink "Slidingtray$Shape" (35 : Nat) ({ cls := "java/lang/Integer", name := "valueOf", desc := "(I)Ljava/lang/Integer;" } : Jvm.MethodName)) ∈ lw_all := lw_g (lw_at lw_m1 127 rfl) rfl
theorem q248 : (Jvm.Cond.interfaceEntry "Slidingtray$Shape" (41 : Nat)) ∈ lw_tbl := lw_at lw_m1 147 rfl
theorem q249 : (Jvm.Cond.methodLink "Slidingtray$Shape" (41 : Nat) ({ cls := "java/util/List", name := "add", desc := "(Ljava/lang/Object;)Z" } : Jvm.MethodName)) ∈ lw_all := lw_g (lw_at lw_m1 148 rfl) rfl
theorem q297 : (Jvm.Cond.selects "Slidingtray$Shape" ({ cls := "java/lang/Object", name := "getClass", desc := "()Ljava/lang/Class;" } : Jvm.MethodName) ({ cls := "java/lang/Object", name := "getClass", desc := "()Ljava/lang/Class;" } : Jvm.MethodName)) ∈ lw_all := lw_g (lw_at lw_m1 196 rfl) rfl
theorem q337 : (Jvm.Cond.methodLink "Slidingtray$Shape" (47 : Nat) ({ cls := "java/util/BitSet", name := "set", desc := "(I)V" } : Jvm.MethodName)) ∈ lw_all := lw_g (lw_at lw_m1 236 rfl) rfl
theorem q677 : (Jvm.Cond.interfaceEntry "Slidingtray$Shape" (51 : Nat)) ∈ lw_tbl := lw_at lw_m3 96 rfl
theorem q678 : (Jvm.Cond.methodLink "Slidingtray$Shape" (51 : Nat) ({ cls := "java/util/List", name := "size", desc := "()I" } : Jvm.MethodName)) ∈ lw_all := lw_g (lw_at lw_m3 97 rfl) rfl
theorem q686 : (Jvm.Cond.classLink "Slidingtray$Shape" (55 : Nat) "[[I") ∈ lw_all := lw_g (lw_at lw_m3 105 rfl) rfl
theorem q688 : (Jvm.Cond.methodLink "Slidingtray$Shape" (60 : Nat) ({ cls := "Slidingtray$Shape", name := "rowOf", desc := "(I)I" } : Jvm.MethodName)) ∈ lw_all := lw_g (lw_at lw_m3 107 rfl) rfl
theorem q689 : (Jvm.Cond.instanceMethod ({ cls := "Slidingtray$Shape", name := "rowOf", desc := "(I)I" } : Jvm.MethodName)) ∈ lw_all := lw_g (lw_at lw_m3 108 rfl) rfl
theorem q690 : (Jvm.Cond.selects "Slidingtray$Shape" ({ cls := "Slidingtray$Shape", name := "rowOf", desc := "(I)I" } : Jvm.MethodName) ({ cls := "Slidingtray$Shape", name := "rowOf", desc := "(I)I" } : Jvm.MethodName)) ∈ lw_all := lw_g (lw_at lw_m3 109 rfl) rfl
theorem q691 : (Jvm.Cond.code ({ cls := "Slidingtray$Shape", name := "rowOf", desc := "(I)I" } : Jvm.MethodName) prog_12_method_3_code (2 : Nat) (Option.some Jvm.ClassFile.FieldType.int)) ∈ lw_all := lw_g (lw_at lw_m3 110 rfl) rfl
theorem q692 : (Jvm.Cond.interfaceEntry "Slidingtray$Shape" (77 : Nat)) ∈ lw_tbl := lw_at lw_m3 111 rfl
theorem q693 : (Jvm.Cond.methodLink "Slidingtray$Shape" (77 : Nat) ({ cls := "java/util/List", name := "get", desc := "(I)Ljava/lang/Object;" } : Jvm.MethodName)) ∈ lw_all := lw_g (lw_at lw_m3 112 rfl) rfl
theorem q711 : (Jvm.Cond.classLink "Slidingtray$Shape" (36 : Nat) "java/lang/Integer") ∈ lw_all := lw_g (lw_at lw_m3 130 rfl) rfl
theorem q712 : (Jvm.Cond.methodLink "Slidingtray$Shape" (81 : Nat) ({ cls := "java/lang/Integer", name := "intValue", desc := "()I" } : Jvm.MethodName)) ∈ lw_all := lw_g (lw_at lw_m3 131 rfl) rfl
theorem q716 : (Jvm.Cond.methodLink "Slidingtray$Shape" (64 : Nat) ({ cls := "Slidingtray$Shape", name := "columnOf", desc := "(I)I" } : Jvm.MethodName)) ∈ lw_all := lw_g (lw_at lw_m3 135 rfl) rfl
theorem q717 : (Jvm.Cond.instanceMethod ({ cls := "Slidingtray$Shape", name := "columnOf", desc := "(I)I" } : Jvm.MethodName)) ∈ lw_all := lw_g (lw_at lw_m3 136 rfl) rfl
theorem q718 : (Jvm.Cond.selects "Slidingtray$Shape" ({ cls := "Slidingtray$Shape", name := "columnOf", desc := "(I)I" } : Jvm.MethodName) ({ cls := "Slidingtray$Shape", name := "columnOf", desc := "(I)I" } : Jvm.MethodName)) ∈ lw_all := lw_g (lw_at lw_m3 137 rfl) rfl
theorem q719 : (Jvm.Cond.code ({ cls := "Slidingtray$Shape", name := "columnOf", desc := "(I)I" } : Jvm.MethodName) prog_12_method_4_code (2 : Nat) (Option.some Jvm.ClassFile.FieldType.int)) ∈ lw_all := lw_g (lw_at lw_m3 138 rfl) rfl
theorem q720 : (Jvm.Cond.methodLink "Slidingtray$Shape" (67 : Nat) ({ cls := "Slidingtray$Shape", name := "openAt", desc := "(II)I" } : Jvm.MethodName)) ∈ lw_all := lw_g (lw_at lw_m3 139 rfl) rfl
theorem q721 : (Jvm.Cond.instanceMethod ({ cls := "Slidingtray$Shape", name := "openAt", desc := "(II)I" } : Jvm.MethodName)) ∈ lw_all := lw_g (lw_at lw_m3 140 rfl) rfl
theorem q722 : (Jvm.Cond.selects "Slidingtray$Shape" ({ cls := "Slidingtray$Shape", name := "openAt", desc := "(II)I" } : Jvm.MethodName) ({ cls := "Slidingtray$Shape", name := "openAt", desc := "(II)I" } : Jvm.MethodName)) ∈ lw_all := lw_g (lw_at lw_m3 141 rfl) rfl
theorem q723 : (Jvm.Cond.code ({ cls := "Slidingtray$Shape", name := "openAt", desc := "(II)I" } : Jvm.MethodName) prog_12_method_5_code (4 : Nat) (Option.some Jvm.ClassFile.FieldType.int)) ∈ lw_all := lw_g (lw_at lw_m3 142 rfl) rfl
theorem q724 : (Jvm.Cond.interfaceEntry "Slidingtray$Shape" (84 : Nat)) ∈ lw_tbl := lw_at lw_m3 143 rfl
theorem q725 : (Jvm.Cond.methodLink "Slidingtray$Shape" (84 : Nat) ({ cls := "java/util/List", name := "indexOf", desc := "(Ljava/lang/Object;)I" } : Jvm.MethodName)) ∈ lw_all := lw_g (lw_at lw_m3 144 rfl) rfl
theorem q860 : (Jvm.Cond.selects "Slidingtray$Shape" ({ cls := "java/lang/Object", name := "equals", desc := "(Ljava/lang/Object;)Z" } : Jvm.MethodName) ({ cls := "java/lang/Object", name := "equals", desc := "(Ljava/lang/Object;)Z" } : Jvm.MethodName)) ∈ lw_all := lw_g (lw_at lw_m4 39 rfl) rfl
theorem q889 : (Jvm.Cond.methodLink "Slidingtray$Shape" (74 : Nat) ({ cls := "Slidingtray$Shape", name := "measure", desc := "(I)V" } : Jvm.MethodName)) ∈ lw_all := lw_g (lw_at lw_m4 68 rfl) rfl
theorem q890 : (Jvm.Cond.privateMethod ({ cls := "Slidingtray$Shape", name := "measure", desc := "(I)V" } : Jvm.MethodName)) ∈ lw_tbl := lw_at lw_m4 69 rfl
theorem q891 : (Jvm.Cond.instanceMethod ({ cls := "Slidingtray$Shape", name := "measure", desc := "(I)V" } : Jvm.MethodName)) ∈ lw_all := lw_g (lw_at lw_m4 70 rfl) rfl
theorem q892 : (Jvm.Cond.code ({ cls := "Slidingtray$Shape", name := "measure", desc := "(I)V" } : Jvm.MethodName) prog_12_method_6_code (8 : Nat) (Option.none : Option Jvm.ClassFile.FieldType)) ∈ lw_all := lw_g (lw_at lw_m4 71 rfl) rfl
theorem q893 : (Jvm.Cond.methodLink "Slidingtray$Shape" (88 : Nat) ({ cls := "java/util/Arrays", name := "fill", desc := "([II)V" } : Jvm.MethodName)) ∈ lw_all := lw_g (lw_at lw_m4 72 rfl) rfl
theorem q896 : (Jvm.Cond.classLink "Slidingtray$Shape" (94 : Nat) "java/util/ArrayDeque") ∈ lw_all := lw_g (lw_at lw_m4 75 rfl) rfl
theorem q898 : (Jvm.Cond.methodLink "Slidingtray$Shape" (96 : Nat) ({ cls := "java/util/ArrayDeque", name := "<init>", desc := "()V" } : Jvm.MethodName)) ∈ lw_all := lw_g (lw_at lw_m4 77 rfl) rfl
theorem q916 : (Jvm.Cond.methodLink "Slidingtray$Shape" (97 : Nat) ({ cls := "java/util/ArrayDeque", name := "addLast", desc := "(Ljava/lang/Object;)V" } : Jvm.MethodName)) ∈ lw_all := lw_g (lw_at lw_m4 95 rfl) rfl
theorem q951 : (Jvm.Cond.methodLink "Slidingtray$Shape" (101 : Nat) ({ cls := "java/util/ArrayDeque", name := "isEmpty", desc := "()Z" } : Jvm.MethodName)) ∈ lw_all := lw_g (lw_at lw_m4 130 rfl) rfl
theorem q955 : (Jvm.Cond.methodLink "Slidingtray$Shape" (105 : Nat) ({ cls := "java/util/ArrayDeque", name := "removeFirst", desc := "()Ljava/lang/Object;" } : Jvm.MethodName)) ∈ lw_all := lw_g (lw_at lw_m4 134 rfl) rfl
theorem q987 : (Jvm.Cond.fieldLink "Slidingtray$Shape" (28 : Nat) "Slidingtray$Shape" "rows" "I") ∈ lw_all := lw_g (lw_at lw_m4 166 rfl) rfl
theorem q989 : (Jvm.Cond.fieldLink "Slidingtray$Shape" (32 : Nat) "Slidingtray$Shape" "columns" "I") ∈ lw_all := lw_g (lw_at lw_m4 168 rfl) rfl
theorem q991 : (Jvm.Cond.fieldLink "Slidingtray$Shape" (12 : Nat) "Slidingtray$Shape" "cells" "Ljava/util/List;") ∈ lw_all := lw_g (lw_at lw_m4 170 rfl) rfl
theorem q993 : (Jvm.Cond.fieldLink "Slidingtray$Shape" (57 : Nat) "Slidingtray$Shape" "beside" "[[I") ∈ lw_all := lw_g (lw_at lw_m4 172 rfl) rfl
theorem q996 : (Jvm.Cond.fieldLink "Slidingtray$Shape" (71 : Nat) "Slidingtray$Shape" "apart" "[[I") ∈ lw_all := lw_g (lw_at lw_m4 175 rfl) rfl
theorem q998 : (Jvm.Cond.fieldLink "Slidingtray$Shape" (21 : Nat) "Slidingtray$Shape" "walledRows" "Ljava/util/BitSet;") ∈ lw_all := lw_g (lw_at lw_m4 177 rfl) rfl
theorem q1000 : (Jvm.Cond.fieldLink "Slidingtray$Shape" (25 : Nat) "Slidingtray$Shape" "walledColumns" "Ljava/util/BitSet;") ∈ lw_all := lw_g (lw_at lw_m4 179 rfl) rfl
theorem q1002 : (Jvm.Cond.laysFinal "Slidingtray$Shape" "Slidingtray$Shape" "rows" "I") ∈ lw_all := lw_g (lw_at lw_m4 181 rfl) rfl
theorem q1003 : (Jvm.Cond.soleField "Slidingtray$Shape" "rows") ∈ lw_all := lw_g (lw_at lw_m4 182 rfl) rfl
theorem q1004 : (Jvm.Cond.laysFinal "Slidingtray$Shape" "Slidingtray$Shape" "columns" "I") ∈ lw_all := lw_g (lw_at lw_m4 183 rfl) rfl
theorem q1005 : (Jvm.Cond.soleField "Slidingtray$Shape" "columns") ∈ lw_all := lw_g (lw_at lw_m4 184 rfl) rfl
theorem q1006 : (Jvm.Cond.laysFinal "Slidingtray$Shape" "Slidingtray$Shape" "cells" "Ljava/util/List;") ∈ lw_all := lw_g (lw_at lw_m4 185 rfl) rfl
theorem q1007 : (Jvm.Cond.soleField "Slidingtray$Shape" "cells") ∈ lw_all := lw_g (lw_at lw_m4 186 rfl) rfl
theorem q1008 : (Jvm.Cond.laysFinal "Slidingtray$Shape" "Slidingtray$Shape" "beside" "[[I") ∈ lw_all := lw_g (lw_at lw_m4 187 rfl) rfl
theorem q1009 : (Jvm.Cond.soleField "Slidingtray$Shape" "beside") ∈ lw_all := lw_g (lw_at lw_m4 188 rfl) rfl
theorem q1010 : (Jvm.Cond.laysFinal "Slidingtray$Shape" "Slidingtray$Shape" "apart" "[[I") ∈ lw_all := lw_g (lw_at lw_m4 189 rfl) rfl
theorem q1011 : (Jvm.Cond.soleField "Slidingtray$Shape" "apart") ∈ lw_all := lw_g (lw_at lw_m4 190 rfl) rfl
theorem q1012 : (Jvm.Cond.laysFinal "Slidingtray$Shape" "Slidingtray$Shape" "walledRows" "Ljava/util/BitSet;") ∈ lw_all := lw_g (lw_at lw_m4 191 rfl) rfl
theorem q1013 : (Jvm.Cond.soleField "Slidingtray$Shape" "walledRows") ∈ lw_all := lw_g (lw_at lw_m4 192 rfl) rfl
theorem q1014 : (Jvm.Cond.laysFinal "Slidingtray$Shape" "Slidingtray$Shape" "walledColumns" "Ljava/util/BitSet;") ∈ lw_all := lw_g (lw_at lw_m4 193 rfl) rfl
theorem q1015 : (Jvm.Cond.soleField "Slidingtray$Shape" "walledColumns") ∈ lw_all := lw_g (lw_at lw_m4 194 rfl) rfl
theorem q1016 : (Jvm.Cond.superclass "Slidingtray$Shape" "java/lang/Object") ∈ lw_all := lw_g (lw_at lw_m4 195 rfl) rfl
theorem q1023 : (Jvm.Cond.instanceMethod ({ cls := "Slidingtray$Shape", name := "size", desc := "()I" } : Jvm.MethodName)) ∈ lw_all := lw_g (lw_at lw_m4 202 rfl) rfl
theorem q1024 : (Jvm.Cond.selects "Slidingtray$Shape" ({ cls := "Slidingtray$Shape", name := "size", desc := "()I" } : Jvm.MethodName) ({ cls := "Slidingtray$Shape", name := "size", desc := "()I" } : Jvm.MethodName)) ∈ lw_all := lw_g (lw_at lw_m4 203 rfl) rfl
theorem q1025 : (Jvm.Cond.code ({ cls := "Slidingtray$Shape", name := "size", desc := "()I" } : Jvm.MethodName) prog_12_method_2_code (1 : Nat) (Option.some Jvm.ClassFile.FieldType.int)) ∈ lw_all := lw_g (lw_at lw_m4 204 rfl) rfl
theorem q2022 : (Jvm.Cond.instanceMethod ({ cls := "Slidingtray$Shape", name := "isConnected", desc := "()Z" } : Jvm.MethodName)) ∈ lw_all := lw_g (lw_at lw_m9 1 rfl) rfl
theorem q2023 : (Jvm.Cond.selects "Slidingtray$Shape" ({ cls := "Slidingtray$Shape", name := "isConnected", desc := "()Z" } : Jvm.MethodName) ({ cls := "Slidingtray$Shape", name := "isConnected", desc := "()Z" } : Jvm.MethodName)) ∈ lw_all := lw_g (lw_at lw_m9 2 rfl) rfl
theorem q2024 : (Jvm.Cond.code ({ cls := "Slidingtray$Shape", name := "isConnected", desc := "()Z" } : Jvm.MethodName) prog_12_method_7_code (3 : Nat) (Option.some Jvm.ClassFile.FieldType.boolean)) ∈ lw_all := lw_g (lw_at lw_m9 3 rfl) rfl
theorem q2025 : (Jvm.Cond.methodLink "Slidingtray$Shape" (109 : Nat) ({ cls := "Slidingtray$Shape", name := "size", desc := "()I" } : Jvm.MethodName)) ∈ lw_all := lw_g (lw_at lw_m9 4 rfl) rfl
theorem q3297 : (Jvm.Cond.castable "Slidingtray$Shape" "java/lang/Object") ∈ lw_tbl := lw_at lw_m14 76 rfl
theorem in_X2 : ∀ w ∈ wsX20, w ∈ lw_all := lw_in wsX20 [1002, 1004, 1006, 1008, 1010, 1012, 1014] (by decide +kernel) (by decide +kernel)
/-! Slidingtray$Lie -/
set_option maxRecDepth 100000
def RX3 : String := "Slidingtray$Lie"
def TX3 : u_T := fun k => match k with
  | 0 => ("Slidingtray$Lie", "shape", "LSlidingtray$Shape;", true)
  | 1 => ("Slidingtray$Lie", "tiles", "[I", true)
  | _ => ("Slidingtray$Lie", "gap", "I", true)
def tyX3 : Nat → FieldType := fun k => match k with
  | 0 => .object "Slidingtray$Shape"
  | 1 => .array .int
  | _ => .int
abbrev wsX30 : List Cond := u_ws RX3 TX3 3
theorem nmX3 : ∀ a, a < 3 → ∀ b, b < 3 → a ≠ b → (TX3 a).2.1 ≠ (TX3 b).2.1 := by decide +kernel
theorem tyX3_ok : ∀ k, k < 3 → parseFieldDescriptor (TX3 k).2.2.1 = some (tyX3 k) := by decide +kernel
abbrev cX3_equals : ByteArray := prog_8_method_10_code
def yX3_equals : MethodName := ⟨RX3, "equals", "(Ljava/lang/Object;)Z"⟩
def dkwX3_equals_1 : List UInt8 := [153, 0, 7, 4, 167, 0, 4, 3, 172]
abbrev dktX3_equals_1 : List UInt8 := dkwX3_equals_1 ++ []
def dkwX3_equals_0 : List UInt8 := [43, 193, 0, 10, 153, 0, 26, 43, 192, 0, 10, 77, 42, 180, 0, 15, 44, 180, 0, 15, 184, 0, 71]
abbrev dktX3_equals_0 : List UInt8 := dkwX3_equals_0 ++ dktX3_equals_1
theorem dksX3_equals_0 : cX3_equals.data.toList.drop 0 = dktX3_equals_0 := by decide +kernel
theorem dksX3_equals_1 : cX3_equals.data.toList.drop 23 = dktX3_equals_1 := dk_seg dksX3_equals_0 23 rfl rfl
theorem dX3_equals_0 : decode cX3_equals 0 = .ok (.aload_n 1, 1) := dk_43 (dk_at dksX3_equals_0 0 rfl rfl)
theorem dX3_equals_1 : decode cX3_equals 1 = .ok (.instanceof 10, 3) := dk_193 0 10 (dk_at dksX3_equals_0 1 rfl rfl)
theorem dX3_equals_4 : decode cX3_equals 4 = .ok (.ifCond .eq 26, 3) := dk_153 0 26 (dk_at dksX3_equals_0 4 rfl rfl)
theorem dX3_equals_7 : decode cX3_equals 7 = .ok (.aload_n 1, 1) := dk_43 (dk_at dksX3_equals_0 7 rfl rfl)
theorem dX3_equals_8 : decode cX3_equals 8 = .ok (.checkcast 10, 3) := dk_192 0 10 (dk_at dksX3_equals_0 8 rfl rfl)
theorem dX3_equals_11 : decode cX3_equals 11 = .ok (.astore_n 2, 1) := dk_77 (dk_at dksX3_equals_0 11 rfl rfl)
theorem dX3_equals_12 : decode cX3_equals 12 = .ok (.aload_n 0, 1) := dk_42 (dk_at dksX3_equals_0 12 rfl rfl)
theorem dX3_equals_13 : decode cX3_equals 13 = .ok (.getfield 15, 3) := dk_180 0 15 (dk_at dksX3_equals_0 13 rfl rfl)
theorem dX3_equals_16 : decode cX3_equals 16 = .ok (.aload_n 2, 1) := dk_44 (dk_at dksX3_equals_0 16 rfl rfl)
theorem dX3_equals_17 : decode cX3_equals 17 = .ok (.getfield 15, 3) := dk_180 0 15 (dk_at dksX3_equals_0 17 rfl rfl)
theorem dX3_equals_20 : decode cX3_equals 20 = .ok (.invokestatic 71, 3) := dk_184 0 71 (dk_at dksX3_equals_0 20 rfl rfl)
theorem dX3_equals_23 : decode cX3_equals 23 = .ok (.ifCond .eq 7, 3) := dk_153 0 7 (dk_at dksX3_equals_1 0 rfl rfl)
theorem dX3_equals_26 : decode cX3_equals 26 = .ok (.iconst 1, 1) := dk_4 (dk_at dksX3_equals_1 3 rfl rfl)
theorem dX3_equals_27 : decode cX3_equals 27 = .ok (.goto 4, 3) := dk_167 0 4 (dk_at dksX3_equals_1 4 rfl rfl)
theorem dX3_equals_30 : decode cX3_equals 30 = .ok (.iconst 0, 1) := dk_3 (dk_at dksX3_equals_1 7 rfl rfl)
theorem dX3_equals_31 : decode cX3_equals 31 = .ok (.ireturn, 1) := dk_172 (dk_at dksX3_equals_1 8 rfl rfl)
abbrev cX3_of : ByteArray := prog_8_method_2_code
def yX3_of : MethodName := ⟨RX3, "of", "(LSlidingtray$Shape;J)LSlidingtray$Lie;"⟩
def dkwX3_of_7 : List UInt8 := [25, 6, 21, 7, 183, 0, 57, 176]
abbrev dktX3_of_7 : List UInt8 := dkwX3_of_7 ++ []
def dkwX3_of_6 : List UInt8 := [154, 0, 8, 21, 10, 167, 0, 5, 21, 7, 54, 7, 132, 10, 1, 167, 255, 180, 187, 0, 10, 89, 42]
abbrev dktX3_of_6 : List UInt8 := dkwX3_of_6 ++ dktX3_of_7
def dkwX3_of_5 : List UInt8 := [22, 4, 4, 25, 6, 190, 4, 100, 21, 10, 100, 184, 0, 51, 133, 109, 55, 4, 25, 6, 21, 10, 46]
abbrev dktX3_of_5 : List UInt8 := dkwX3_of_5 ++ dktX3_of_6
def dkwX3_of_4 : List UInt8 := [22, 4, 109, 136, 185, 0, 44, 2, 0, 192, 0, 33, 182, 0, 48, 79, 22, 8, 22, 4, 113, 55, 8]
abbrev dktX3_of_4 : List UInt8 := dkwX3_of_4 ++ dktX3_of_5
def dkwX3_of_3 : List UInt8 := [54, 7, 31, 55, 8, 3, 54, 10, 21, 10, 25, 6, 190, 162, 0, 74, 25, 6, 21, 10, 45, 22, 8]
abbrev dktX3_of_3 : List UInt8 := dkwX3_of_3 ++ dktX3_of_4
def dkwX3_of_2 : List UInt8 := [167, 255, 224, 45, 3, 184, 0, 32, 185, 0, 38, 2, 0, 87, 42, 182, 0, 26, 188, 10, 58, 6, 3]
abbrev dktX3_of_2 : List UInt8 := dkwX3_of_2 ++ dktX3_of_3
def dkwX3_of_1 : List UInt8 := [21, 6, 184, 0, 32, 185, 0, 38, 2, 0, 87, 22, 4, 21, 6, 133, 105, 55, 4, 132, 6, 1]
abbrev dktX3_of_1 : List UInt8 := dkwX3_of_1 ++ dktX3_of_2
def dkwX3_of_0 : List UInt8 := [187, 0, 23, 89, 183, 0, 25, 78, 10, 55, 4, 4, 54, 6, 21, 6, 42, 182, 0, 26, 162, 0, 29, 45]
abbrev dktX3_of_0 : List UInt8 := dkwX3_of_0 ++ dktX3_of_1
theorem dksX3_of_0 : cX3_of.data.toList.drop 0 = dktX3_of_0 := by decide +kernel
theorem dksX3_of_1 : cX3_of.data.toList.drop 24 = dktX3_of_1 := dk_seg dksX3_of_0 24 rfl rfl
theorem dksX3_of_2 : cX3_of.data.toList.drop 46 = dktX3_of_2 := dk_seg dksX3_of_1 22 rfl rfl
theorem dksX3_of_3 : cX3_of.data.toList.drop 69 = dktX3_of_3 := dk_seg dksX3_of_2 23 rfl rfl
theorem dksX3_of_4 : cX3_of.data.toList.drop 92 = dktX3_of_4 := dk_seg dksX3_of_3 23 rfl rfl
theorem dksX3_of_5 : cX3_of.data.toList.drop 115 = dktX3_of_5 := dk_seg dksX3_of_4 23 rfl rfl
theorem dksX3_of_6 : cX3_of.data.toList.drop 138 = dktX3_of_6 := dk_seg dksX3_of_5 23 rfl rfl
theorem dksX3_of_7 : cX3_of.data.toList.drop 161 = dktX3_of_7 := dk_seg dksX3_of_6 23 rfl rfl
theorem dX3_of_0 : decode cX3_of 0 = .ok (.new 23, 3) := dk_187 0 23 (dk_at dksX3_of_0 0 rfl rfl)
theorem dX3_of_3 : decode cX3_of 3 = .ok (.dup, 1) := dk_89 (dk_at dksX3_of_0 3 rfl rfl)
theorem dX3_of_4 : decode cX3_of 4 = .ok (.invokespecial 25, 3) := dk_183 0 25 (dk_at dksX3_of_0 4 rfl rfl)
theorem dX3_of_7 : decode cX3_of 7 = .ok (.astore_n 3, 1) := dk_78 (dk_at dksX3_of_0 7 rfl rfl)
theorem dX3_of_8 : decode cX3_of 8 = .ok (.lconst 1, 1) := dk_10 (dk_at dksX3_of_0 8 rfl rfl)
theorem dX3_of_9 : decode cX3_of 9 = .ok (.lstore 4, 2) := dk_55 4 (dk_at dksX3_of_0 9 rfl rfl)
theorem dX3_of_11 : decode cX3_of 11 = .ok (.iconst 1, 1) := dk_4 (dk_at dksX3_of_0 11 rfl rfl)
theorem dX3_of_12 : decode cX3_of 12 = .ok (.istore 6, 2) := dk_54 6 (dk_at dksX3_of_0 12 rfl rfl)
theorem dX3_of_14 : decode cX3_of 14 = .ok (.iload 6, 2) := dk_21 6 (dk_at dksX3_of_0 14 rfl rfl)
theorem dX3_of_16 : decode cX3_of 16 = .ok (.aload_n 0, 1) := dk_42 (dk_at dksX3_of_0 16 rfl rfl)
theorem dX3_of_17 : decode cX3_of 17 = .ok (.invokevirtual 26, 3) := dk_182 0 26 (dk_at dksX3_of_0 17 rfl rfl)
theorem dX3_of_20 : decode cX3_of 20 = .ok (.if_icmp .ge 29, 3) := dk_162 0 29 (dk_at dksX3_of_0 20 rfl rfl)
theorem dX3_of_23 : decode cX3_of 23 = .ok (.aload_n 3, 1) := dk_45 (dk_at dksX3_of_0 23 rfl rfl)
theorem dX3_of_24 : decode cX3_of 24 = .ok (.iload 6, 2) := dk_21 6 (dk_at dksX3_of_1 0 rfl rfl)
theorem dX3_of_26 : decode cX3_of 26 = .ok (.invokestatic 32, 3) := dk_184 0 32 (dk_at dksX3_of_1 2 rfl rfl)
theorem dX3_of_29 : decode cX3_of 29 = .ok (.invokeinterface 38 2, 5) := by decide +kernel
theorem dX3_of_34 : decode cX3_of 34 = .ok (.pop, 1) := dk_87 (dk_at dksX3_of_1 10 rfl rfl)
theorem dX3_of_35 : decode cX3_of 35 = .ok (.lload 4, 2) := dk_22 4 (dk_at dksX3_of_1 11 rfl rfl)
theorem dX3_of_37 : decode cX3_of 37 = .ok (.iload 6, 2) := dk_21 6 (dk_at dksX3_of_1 13 rfl rfl)
theorem dX3_of_39 : decode cX3_of 39 = .ok (.i2l, 1) := dk_133 (dk_at dksX3_of_1 15 rfl rfl)
theorem dX3_of_40 : decode cX3_of 40 = .ok (.lmul, 1) := dk_105 (dk_at dksX3_of_1 16 rfl rfl)
theorem dX3_of_41 : decode cX3_of 41 = .ok (.lstore 4, 2) := dk_55 4 (dk_at dksX3_of_1 17 rfl rfl)
theorem dX3_of_43 : decode cX3_of 43 = .ok (.iinc 6 1, 3) := dk_132 6 1 (dk_at dksX3_of_1 19 rfl rfl)
theorem dX3_of_46 : decode cX3_of 46 = .ok (.goto (-32), 3) := dk_167 255 224 (dk_at dksX3_of_2 0 rfl rfl)
theorem dX3_of_49 : decode cX3_of 49 = .ok (.aload_n 3, 1) := dk_45 (dk_at dksX3_of_2 3 rfl rfl)
theorem dX3_of_50 : decode cX3_of 50 = .ok (.iconst 0, 1) := dk_3 (dk_at dksX3_of_2 4 rfl rfl)
theorem dX3_of_51 : decode cX3_of 51 = .ok (.invokestatic 32, 3) := dk_184 0 32 (dk_at dksX3_of_2 5 rfl rfl)
theorem dX3_of_54 : decode cX3_of 54 = .ok (.invokeinterface 38 2, 5) := by decide +kernel
theorem dX3_of_59 : decode cX3_of 59 = .ok (.pop, 1) := dk_87 (dk_at dksX3_of_2 13 rfl rfl)
theorem dX3_of_60 : decode cX3_of 60 = .ok (.aload_n 0, 1) := dk_42 (dk_at dksX3_of_2 14 rfl rfl)
theorem dX3_of_61 : decode cX3_of 61 = .ok (.invokevirtual 26, 3) := dk_182 0 26 (dk_at dksX3_of_2 15 rfl rfl)
theorem dX3_of_64 : decode cX3_of 64 = .ok (.newarray .int, 2) := dk_188_10 (dk_at dksX3_of_2 18 rfl rfl)
theorem dX3_of_66 : decode cX3_of 66 = .ok (.astore 6, 2) := dk_58 6 (dk_at dksX3_of_2 20 rfl rfl)
theorem dX3_of_68 : decode cX3_of 68 = .ok (.iconst 0, 1) := dk_3 (dk_at dksX3_of_2 22 rfl rfl)
theorem dX3_of_69 : decode cX3_of 69 = .ok (.istore 7, 2) := dk_54 7 (dk_at dksX3_of_3 0 rfl rfl)
theorem dX3_of_71 : decode cX3_of 71 = .ok (.lload_n 1, 1) := dk_31 (dk_at dksX3_of_3 2 rfl rfl)
theorem dX3_of_72 : decode cX3_of 72 = .ok (.lstore 8, 2) := dk_55 8 (dk_at dksX3_of_3 3 rfl rfl)
theorem dX3_of_74 : decode cX3_of 74 = .ok (.iconst 0, 1) := dk_3 (dk_at dksX3_of_3 5 rfl rfl)
theorem dX3_of_75 : decode cX3_of 75 = .ok (.istore 10, 2) := dk_54 10 (dk_at dksX3_of_3 6 rfl rfl)
theorem dX3_of_77 : decode cX3_of 77 = .ok (.iload 10, 2) := dk_21 10 (dk_at dksX3_of_3 8 rfl rfl)
theorem dX3_of_79 : decode cX3_of 79 = .ok (.aload 6, 2) := dk_25 6 (dk_at dksX3_of_3 10 rfl rfl)
theorem dX3_of_81 : decode cX3_of 81 = .ok (.arraylength, 1) := dk_190 (dk_at dksX3_of_3 12 rfl rfl)
theorem dX3_of_82 : decode cX3_of 82 = .ok (.if_icmp .ge 74, 3) := dk_162 0 74 (dk_at dksX3_of_3 13 rfl rfl)
theorem dX3_of_85 : decode cX3_of 85 = .ok (.aload 6, 2) := dk_25 6 (dk_at dksX3_of_3 16 rfl rfl)
theorem dX3_of_87 : decode cX3_of 87 = .ok (.iload 10, 2) := dk_21 10 (dk_at dksX3_of_3 18 rfl rfl)
theorem dX3_of_89 : decode cX3_of 89 = .ok (.aload_n 3, 1) := dk_45 (dk_at dksX3_of_3 20 rfl rfl)
theorem dX3_of_90 : decode cX3_of 90 = .ok (.lload 8, 2) := dk_22 8 (dk_at dksX3_of_3 21 rfl rfl)
theorem dX3_of_92 : decode cX3_of 92 = .ok (.lload 4, 2) := dk_22 4 (dk_at dksX3_of_4 0 rfl rfl)
theorem dX3_of_94 : decode cX3_of 94 = .ok (.ldiv, 1) := dk_109 (dk_at dksX3_of_4 2 rfl rfl)
theorem dX3_of_95 : decode cX3_of 95 = .ok (.l2i, 1) := dk_136 (dk_at dksX3_of_4 3 rfl rfl)
theorem dX3_of_96 : decode cX3_of 96 = .ok (.invokeinterface 44 2, 5) := by decide +kernel
theorem dX3_of_101 : decode cX3_of 101 = .ok (.checkcast 33, 3) := dk_192 0 33 (dk_at dksX3_of_4 9 rfl rfl)
theorem dX3_of_104 : decode cX3_of 104 = .ok (.invokevirtual 48, 3) := dk_182 0 48 (dk_at dksX3_of_4 12 rfl rfl)
theorem dX3_of_107 : decode cX3_of 107 = .ok (.iastore, 1) := dk_79 (dk_at dksX3_of_4 15 rfl rfl)
theorem dX3_of_108 : decode cX3_of 108 = .ok (.lload 8, 2) := dk_22 8 (dk_at dksX3_of_4 16 rfl rfl)
theorem dX3_of_110 : decode cX3_of 110 = .ok (.lload 4, 2) := dk_22 4 (dk_at dksX3_of_4 18 rfl rfl)
theorem dX3_of_112 : decode cX3_of 112 = .ok (.lrem, 1) := dk_113 (dk_at dksX3_of_4 20 rfl rfl)
theorem dX3_of_113 : decode cX3_of 113 = .ok (.lstore 8, 2) := dk_55 8 (dk_at dksX3_of_4 21 rfl rfl)
theorem dX3_of_115 : decode cX3_of 115 = .ok (.lload 4, 2) := dk_22 4 (dk_at dksX3_of_5 0 rfl rfl)
theorem dX3_of_117 : decode cX3_of 117 = .ok (.iconst 1, 1) := dk_4 (dk_at dksX3_of_5 2 rfl rfl)
theorem dX3_of_118 : decode cX3_of 118 = .ok (.aload 6, 2) := dk_25 6 (dk_at dksX3_of_5 3 rfl rfl)
theorem dX3_of_120 : decode cX3_of 120 = .ok (.arraylength, 1) := dk_190 (dk_at dksX3_of_5 5 rfl rfl)
theorem dX3_of_121 : decode cX3_of 121 = .ok (.iconst 1, 1) := dk_4 (dk_at dksX3_of_5 6 rfl rfl)
theorem dX3_of_122 : decode cX3_of 122 = .ok (.isub, 1) := dk_100 (dk_at dksX3_of_5 7 rfl rfl)
theorem dX3_of_123 : decode cX3_of 123 = .ok (.iload 10, 2) := dk_21 10 (dk_at dksX3_of_5 8 rfl rfl)
theorem dX3_of_125 : decode cX3_of 125 = .ok (.isub, 1) := dk_100 (dk_at dksX3_of_5 10 rfl rfl)
theorem dX3_of_126 : decode cX3_of 126 = .ok (.invokestatic 51, 3) := dk_184 0 51 (dk_at dksX3_of_5 11 rfl rfl)
theorem dX3_of_129 : decode cX3_of 129 = .ok (.i2l, 1) := dk_133 (dk_at dksX3_of_5 14 rfl rfl)
theorem dX3_of_130 : decode cX3_of 130 = .ok (.ldiv, 1) := dk_109 (dk_at dksX3_of_5 15 rfl rfl)
theorem dX3_of_131 : decode cX3_of 131 = .ok (.lstore 4, 2) := dk_55 4 (dk_at dksX3_of_5 16 rfl rfl)
theorem dX3_of_133 : decode cX3_of 133 = .ok (.aload 6, 2) := dk_25 6 (dk_at dksX3_of_5 18 rfl rfl)
theorem dX3_of_135 : decode cX3_of 135 = .ok (.iload 10, 2) := dk_21 10 (dk_at dksX3_of_5 20 rfl rfl)
theorem dX3_of_137 : decode cX3_of 137 = .ok (.iaload, 1) := dk_46 (dk_at dksX3_of_5 22 rfl rfl)
theorem dX3_of_138 : decode cX3_of 138 = .ok (.ifCond .ne 8, 3) := dk_154 0 8 (dk_at dksX3_of_6 0 rfl rfl)
theorem dX3_of_141 : decode cX3_of 141 = .ok (.iload 10, 2) := dk_21 10 (dk_at dksX3_of_6 3 rfl rfl)
theorem dX3_of_143 : decode cX3_of 143 = .ok (.goto 5, 3) := dk_167 0 5 (dk_at dksX3_of_6 5 rfl rfl)
theorem dX3_of_146 : decode cX3_of 146 = .ok (.iload 7, 2) := dk_21 7 (dk_at dksX3_of_6 8 rfl rfl)
theorem dX3_of_148 : decode cX3_of 148 = .ok (.istore 7, 2) := dk_54 7 (dk_at dksX3_of_6 10 rfl rfl)
theorem dX3_of_150 : decode cX3_of 150 = .ok (.iinc 10 1, 3) := dk_132 10 1 (dk_at dksX3_of_6 12 rfl rfl)
theorem dX3_of_153 : decode cX3_of 153 = .ok (.goto (-76), 3) := dk_167 255 180 (dk_at dksX3_of_6 15 rfl rfl)
theorem dX3_of_156 : decode cX3_of 156 = .ok (.new 10, 3) := dk_187 0 10 (dk_at dksX3_of_6 18 rfl rfl)
theorem dX3_of_159 : decode cX3_of 159 = .ok (.dup, 1) := dk_89 (dk_at dksX3_of_6 21 rfl rfl)
theorem dX3_of_160 : decode cX3_of 160 = .ok (.aload_n 0, 1) := dk_42 (dk_at dksX3_of_6 22 rfl rfl)
theorem dX3_of_161 : decode cX3_of 161 = .ok (.aload 6, 2) := dk_25 6 (dk_at dksX3_of_7 0 rfl rfl)
theorem dX3_of_163 : decode cX3_of 163 = .ok (.iload 7, 2) := dk_21 7 (dk_at dksX3_of_7 2 rfl rfl)
theorem dX3_of_165 : decode cX3_of 165 = .ok (.invokespecial 57, 3) := dk_183 0 57 (dk_at dksX3_of_7 4 rfl rfl)
theorem dX3_of_168 : decode cX3_of 168 = .ok (.areturn, 1) := dk_176 (dk_at dksX3_of_7 7 rfl rfl)
abbrev cX3_init : ByteArray := prog_8_method_1_code
def yX3_init : MethodName := ⟨RX3, "<init>", "(LSlidingtray$Shape;[II)V"⟩
def dkwX3_init_0 : List UInt8 := [42, 183, 0, 3, 42, 43, 181, 0, 9, 42, 44, 181, 0, 15, 42, 29, 181, 0, 19, 177]
abbrev dktX3_init_0 : List UInt8 := dkwX3_init_0 ++ []
theorem dksX3_init_0 : cX3_init.data.toList.drop 0 = dktX3_init_0 := by decide +kernel
theorem dX3_init_0 : decode cX3_init 0 = .ok (.aload_n 0, 1) := dk_42 (dk_at dksX3_init_0 0 rfl rfl)
theorem dX3_init_1 : decode cX3_init 1 = .ok (.invokespecial 3, 3) := dk_183 0 3 (dk_at dksX3_init_0 1 rfl rfl)
theorem dX3_init_4 : decode cX3_init 4 = .ok (.aload_n 0, 1) := dk_42 (dk_at dksX3_init_0 4 rfl rfl)
theorem dX3_init_5 : decode cX3_init 5 = .ok (.aload_n 1, 1) := dk_43 (dk_at dksX3_init_0 5 rfl rfl)
theorem dX3_init_6 : decode cX3_init 6 = .ok (.putfield 9, 3) := dk_181 0 9 (dk_at dksX3_init_0 6 rfl rfl)
theorem dX3_init_9 : decode cX3_init 9 = .ok (.aload_n 0, 1) := dk_42 (dk_at dksX3_init_0 9 rfl rfl)
theorem dX3_init_10 : decode cX3_init 10 = .ok (.aload_n 2, 1) := dk_44 (dk_at dksX3_init_0 10 rfl rfl)
theorem dX3_init_11 : decode cX3_init 11 = .ok (.putfield 15, 3) := dk_181 0 15 (dk_at dksX3_init_0 11 rfl rfl)
theorem dX3_init_14 : decode cX3_init 14 = .ok (.aload_n 0, 1) := dk_42 (dk_at dksX3_init_0 14 rfl rfl)
theorem dX3_init_15 : decode cX3_init 15 = .ok (.iload_n 3, 1) := dk_29 (dk_at dksX3_init_0 15 rfl rfl)
theorem dX3_init_16 : decode cX3_init 16 = .ok (.putfield 19, 3) := dk_181 0 19 (dk_at dksX3_init_0 16 rfl rfl)
theorem dX3_init_19 : decode cX3_init 19 = .ok (.return_, 1) := dk_177 (dk_at dksX3_init_0 19 rfl rfl)
abbrev cX3_rank : ByteArray := prog_8_method_5_code
def yX3_rank : MethodName := ⟨RX3, "rank", "()J"⟩
def dkwX3_rank_1 : List UInt8 := [29, 182, 0, 64, 133, 97, 64, 132, 3, 1, 167, 255, 226, 31, 173]
abbrev dktX3_rank_1 : List UInt8 := dkwX3_rank_1 ++ []
def dkwX3_rank_0 : List UInt8 := [9, 64, 3, 62, 29, 42, 180, 0, 15, 190, 162, 0, 27, 31, 42, 180, 0, 15, 190, 29, 100, 133, 105, 42]
abbrev dktX3_rank_0 : List UInt8 := dkwX3_rank_0 ++ dktX3_rank_1
theorem dksX3_rank_0 : cX3_rank.data.toList.drop 0 = dktX3_rank_0 := by decide +kernel
theorem dksX3_rank_1 : cX3_rank.data.toList.drop 24 = dktX3_rank_1 := dk_seg dksX3_rank_0 24 rfl rfl
theorem dX3_rank_0 : decode cX3_rank 0 = .ok (.lconst 0, 1) := dk_9 (dk_at dksX3_rank_0 0 rfl rfl)
theorem dX3_rank_1 : decode cX3_rank 1 = .ok (.lstore_n 1, 1) := dk_64 (dk_at dksX3_rank_0 1 rfl rfl)
theorem dX3_rank_2 : decode cX3_rank 2 = .ok (.iconst 0, 1) := dk_3 (dk_at dksX3_rank_0 2 rfl rfl)
theorem dX3_rank_3 : decode cX3_rank 3 = .ok (.istore_n 3, 1) := dk_62 (dk_at dksX3_rank_0 3 rfl rfl)
theorem dX3_rank_4 : decode cX3_rank 4 = .ok (.iload_n 3, 1) := dk_29 (dk_at dksX3_rank_0 4 rfl rfl)
theorem dX3_rank_5 : decode cX3_rank 5 = .ok (.aload_n 0, 1) := dk_42 (dk_at dksX3_rank_0 5 rfl rfl)
theorem dX3_rank_6 : decode cX3_rank 6 = .ok (.getfield 15, 3) := dk_180 0 15 (dk_at dksX3_rank_0 6 rfl rfl)
theorem dX3_rank_9 : decode cX3_rank 9 = .ok (.arraylength, 1) := dk_190 (dk_at dksX3_rank_0 9 rfl rfl)
theorem dX3_rank_10 : decode cX3_rank 10 = .ok (.if_icmp .ge 27, 3) := dk_162 0 27 (dk_at dksX3_rank_0 10 rfl rfl)
theorem dX3_rank_13 : decode cX3_rank 13 = .ok (.lload_n 1, 1) := dk_31 (dk_at dksX3_rank_0 13 rfl rfl)
theorem dX3_rank_14 : decode cX3_rank 14 = .ok (.aload_n 0, 1) := dk_42 (dk_at dksX3_rank_0 14 rfl rfl)
theorem dX3_rank_15 : decode cX3_rank 15 = .ok (.getfield 15, 3) := dk_180 0 15 (dk_at dksX3_rank_0 15 rfl rfl)
theorem dX3_rank_18 : decode cX3_rank 18 = .ok (.arraylength, 1) := dk_190 (dk_at dksX3_rank_0 18 rfl rfl)
theorem dX3_rank_19 : decode cX3_rank 19 = .ok (.iload_n 3, 1) := dk_29 (dk_at dksX3_rank_0 19 rfl rfl)
theorem dX3_rank_20 : decode cX3_rank 20 = .ok (.isub, 1) := dk_100 (dk_at dksX3_rank_0 20 rfl rfl)
theorem dX3_rank_21 : decode cX3_rank 21 = .ok (.i2l, 1) := dk_133 (dk_at dksX3_rank_0 21 rfl rfl)
theorem dX3_rank_22 : decode cX3_rank 22 = .ok (.lmul, 1) := dk_105 (dk_at dksX3_rank_0 22 rfl rfl)
theorem dX3_rank_23 : decode cX3_rank 23 = .ok (.aload_n 0, 1) := dk_42 (dk_at dksX3_rank_0 23 rfl rfl)
theorem dX3_rank_24 : decode cX3_rank 24 = .ok (.iload_n 3, 1) := dk_29 (dk_at dksX3_rank_1 0 rfl rfl)
theorem dX3_rank_25 : decode cX3_rank 25 = .ok (.invokevirtual 64, 3) := dk_182 0 64 (dk_at dksX3_rank_1 1 rfl rfl)
theorem dX3_rank_28 : decode cX3_rank 28 = .ok (.i2l, 1) := dk_133 (dk_at dksX3_rank_1 4 rfl rfl)
theorem dX3_rank_29 : decode cX3_rank 29 = .ok (.ladd, 1) := dk_97 (dk_at dksX3_rank_1 5 rfl rfl)
theorem dX3_rank_30 : decode cX3_rank 30 = .ok (.lstore_n 1, 1) := dk_64 (dk_at dksX3_rank_1 6 rfl rfl)
theorem dX3_rank_31 : decode cX3_rank 31 = .ok (.iinc 3 1, 3) := dk_132 3 1 (dk_at dksX3_rank_1 7 rfl rfl)
theorem dX3_rank_34 : decode cX3_rank 34 = .ok (.goto (-30), 3) := dk_167 255 226 (dk_at dksX3_rank_1 10 rfl rfl)
theorem dX3_rank_37 : decode cX3_rank 37 = .ok (.lload_n 1, 1) := dk_31 (dk_at dksX3_rank_1 13 rfl rfl)
theorem dX3_rank_38 : decode cX3_rank 38 = .ok (.lreturn, 1) := dk_173 (dk_at dksX3_rank_1 14 rfl rfl)
abbrev cX3_lessBehind : ByteArray := prog_8_method_4_code
def yX3_lessBehind : MethodName := ⟨RX3, "lessBehind", "(I)I"⟩
def dkwX3_lessBehind_1 : List UInt8 := [182, 0, 60, 162, 0, 7, 4, 167, 0, 4, 3, 96, 61, 132, 3, 1, 167, 255, 223, 28, 172]
abbrev dktX3_lessBehind_1 : List UInt8 := dkwX3_lessBehind_1 ++ []
def dkwX3_lessBehind_0 : List UInt8 := [3, 61, 27, 4, 96, 62, 29, 42, 180, 0, 15, 190, 162, 0, 30, 28, 42, 29, 182, 0, 60, 42, 27]
abbrev dktX3_lessBehind_0 : List UInt8 := dkwX3_lessBehind_0 ++ dktX3_lessBehind_1
theorem dksX3_lessBehind_0 : cX3_lessBehind.data.toList.drop 0 = dktX3_lessBehind_0 := by decide +kernel
theorem dksX3_lessBehind_1 : cX3_lessBehind.data.toList.drop 23 = dktX3_lessBehind_1 := dk_seg dksX3_lessBehind_0 23 rfl rfl
theorem dX3_lessBehind_0 : decode cX3_lessBehind 0 = .ok (.iconst 0, 1) := dk_3 (dk_at dksX3_lessBehind_0 0 rfl rfl)
theorem dX3_lessBehind_1 : decode cX3_lessBehind 1 = .ok (.istore_n 2, 1) := dk_61 (dk_at dksX3_lessBehind_0 1 rfl rfl)
theorem dX3_lessBehind_2 : decode cX3_lessBehind 2 = .ok (.iload_n 1, 1) := dk_27 (dk_at dksX3_lessBehind_0 2 rfl rfl)
theorem dX3_lessBehind_3 : decode cX3_lessBehind 3 = .ok (.iconst 1, 1) := dk_4 (dk_at dksX3_lessBehind_0 3 rfl rfl)
theorem dX3_lessBehind_4 : decode cX3_lessBehind 4 = .ok (.iadd, 1) := dk_96 (dk_at dksX3_lessBehind_0 4 rfl rfl)
theorem dX3_lessBehind_5 : decode cX3_lessBehind 5 = .ok (.istore_n 3, 1) := dk_62 (dk_at dksX3_lessBehind_0 5 rfl rfl)
theorem dX3_lessBehind_6 : decode cX3_lessBehind 6 = .ok (.iload_n 3, 1) := dk_29 (dk_at dksX3_lessBehind_0 6 rfl rfl)
theorem dX3_lessBehind_7 : decode cX3_lessBehind 7 = .ok (.aload_n 0, 1) := dk_42 (dk_at dksX3_lessBehind_0 7 rfl rfl)
theorem dX3_lessBehind_8 : decode cX3_lessBehind 8 = .ok (.getfield 15, 3) := dk_180 0 15 (dk_at dksX3_lessBehind_0 8 rfl rfl)
theorem dX3_lessBehind_11 : decode cX3_lessBehind 11 = .ok (.arraylength, 1) := dk_190 (dk_at dksX3_lessBehind_0 11 rfl rfl)
theorem dX3_lessBehind_12 : decode cX3_lessBehind 12 = .ok (.if_icmp .ge 30, 3) := dk_162 0 30 (dk_at dksX3_lessBehind_0 12 rfl rfl)
theorem dX3_lessBehind_15 : decode cX3_lessBehind 15 = .ok (.iload_n 2, 1) := dk_28 (dk_at dksX3_lessBehind_0 15 rfl rfl)
theorem dX3_lessBehind_16 : decode cX3_lessBehind 16 = .ok (.aload_n 0, 1) := dk_42 (dk_at dksX3_lessBehind_0 16 rfl rfl)
theorem dX3_lessBehind_17 : decode cX3_lessBehind 17 = .ok (.iload_n 3, 1) := dk_29 (dk_at dksX3_lessBehind_0 17 rfl rfl)
theorem dX3_lessBehind_18 : decode cX3_lessBehind 18 = .ok (.invokevirtual 60, 3) := dk_182 0 60 (dk_at dksX3_lessBehind_0 18 rfl rfl)
theorem dX3_lessBehind_21 : decode cX3_lessBehind 21 = .ok (.aload_n 0, 1) := dk_42 (dk_at dksX3_lessBehind_0 21 rfl rfl)
theorem dX3_lessBehind_22 : decode cX3_lessBehind 22 = .ok (.iload_n 1, 1) := dk_27 (dk_at dksX3_lessBehind_0 22 rfl rfl)
theorem dX3_lessBehind_23 : decode cX3_lessBehind 23 = .ok (.invokevirtual 60, 3) := dk_182 0 60 (dk_at dksX3_lessBehind_1 0 rfl rfl)
theorem dX3_lessBehind_26 : decode cX3_lessBehind 26 = .ok (.if_icmp .ge 7, 3) := dk_162 0 7 (dk_at dksX3_lessBehind_1 3 rfl rfl)
theorem dX3_lessBehind_29 : decode cX3_lessBehind 29 = .ok (.iconst 1, 1) := dk_4 (dk_at dksX3_lessBehind_1 6 rfl rfl)
theorem dX3_lessBehind_30 : decode cX3_lessBehind 30 = .ok (.goto 4, 3) := dk_167 0 4 (dk_at dksX3_lessBehind_1 7 rfl rfl)
theorem dX3_lessBehind_33 : decode cX3_lessBehind 33 = .ok (.iconst 0, 1) := dk_3 (dk_at dksX3_lessBehind_1 10 rfl rfl)
theorem dX3_lessBehind_34 : decode cX3_lessBehind 34 = .ok (.iadd, 1) := dk_96 (dk_at dksX3_lessBehind_1 11 rfl rfl)
theorem dX3_lessBehind_35 : decode cX3_lessBehind 35 = .ok (.istore_n 2, 1) := dk_61 (dk_at dksX3_lessBehind_1 12 rfl rfl)
theorem dX3_lessBehind_36 : decode cX3_lessBehind 36 = .ok (.iinc 3 1, 3) := dk_132 3 1 (dk_at dksX3_lessBehind_1 13 rfl rfl)
theorem dX3_lessBehind_39 : decode cX3_lessBehind 39 = .ok (.goto (-33), 3) := dk_167 255 223 (dk_at dksX3_lessBehind_1 16 rfl rfl)
theorem dX3_lessBehind_42 : decode cX3_lessBehind 42 = .ok (.iload_n 2, 1) := dk_28 (dk_at dksX3_lessBehind_1 19 rfl rfl)
theorem dX3_lessBehind_43 : decode cX3_lessBehind 43 = .ok (.ireturn, 1) := dk_172 (dk_at dksX3_lessBehind_1 20 rfl rfl)
abbrev cX3_valueAt : ByteArray := prog_8_method_3_code
def yX3_valueAt : MethodName := ⟨RX3, "valueAt", "(I)I"⟩
def dkwX3_valueAt_0 : List UInt8 := [42, 180, 0, 15, 27, 46, 154, 0, 11, 42, 180, 0, 15, 190, 167, 0, 9, 42, 180, 0, 15, 27, 46, 172]
abbrev dktX3_valueAt_0 : List UInt8 := dkwX3_valueAt_0 ++ []
theorem dksX3_valueAt_0 : cX3_valueAt.data.toList.drop 0 = dktX3_valueAt_0 := by decide +kernel
theorem dX3_valueAt_0 : decode cX3_valueAt 0 = .ok (.aload_n 0, 1) := dk_42 (dk_at dksX3_valueAt_0 0 rfl rfl)
theorem dX3_valueAt_1 : decode cX3_valueAt 1 = .ok (.getfield 15, 3) := dk_180 0 15 (dk_at dksX3_valueAt_0 1 rfl rfl)
theorem dX3_valueAt_4 : decode cX3_valueAt 4 = .ok (.iload_n 1, 1) := dk_27 (dk_at dksX3_valueAt_0 4 rfl rfl)
theorem dX3_valueAt_5 : decode cX3_valueAt 5 = .ok (.iaload, 1) := dk_46 (dk_at dksX3_valueAt_0 5 rfl rfl)
theorem dX3_valueAt_6 : decode cX3_valueAt 6 = .ok (.ifCond .ne 11, 3) := dk_154 0 11 (dk_at dksX3_valueAt_0 6 rfl rfl)
theorem dX3_valueAt_9 : decode cX3_valueAt 9 = .ok (.aload_n 0, 1) := dk_42 (dk_at dksX3_valueAt_0 9 rfl rfl)
theorem dX3_valueAt_10 : decode cX3_valueAt 10 = .ok (.getfield 15, 3) := dk_180 0 15 (dk_at dksX3_valueAt_0 10 rfl rfl)
theorem dX3_valueAt_13 : decode cX3_valueAt 13 = .ok (.arraylength, 1) := dk_190 (dk_at dksX3_valueAt_0 13 rfl rfl)
theorem dX3_valueAt_14 : decode cX3_valueAt 14 = .ok (.goto 9, 3) := dk_167 0 9 (dk_at dksX3_valueAt_0 14 rfl rfl)
theorem dX3_valueAt_17 : decode cX3_valueAt 17 = .ok (.aload_n 0, 1) := dk_42 (dk_at dksX3_valueAt_0 17 rfl rfl)
theorem dX3_valueAt_18 : decode cX3_valueAt 18 = .ok (.getfield 15, 3) := dk_180 0 15 (dk_at dksX3_valueAt_0 18 rfl rfl)
theorem dX3_valueAt_21 : decode cX3_valueAt 21 = .ok (.iload_n 1, 1) := dk_27 (dk_at dksX3_valueAt_0 21 rfl rfl)
theorem dX3_valueAt_22 : decode cX3_valueAt 22 = .ok (.iaload, 1) := dk_46 (dk_at dksX3_valueAt_0 22 rfl rfl)
theorem dX3_valueAt_23 : decode cX3_valueAt 23 = .ok (.ireturn, 1) := dk_172 (dk_at dksX3_valueAt_0 23 rfl rfl)
abbrev cX3_inversions : ByteArray := prog_8_method_6_code
def yX3_inversions : MethodName := ⟨RX3, "inversions", "()I"⟩
def dkwX3_inversions_1 : List UInt8 := [167, 255, 236, 27, 172]
abbrev dktX3_inversions_1 : List UInt8 := dkwX3_inversions_1 ++ []
def dkwX3_inversions_0 : List UInt8 := [3, 60, 3, 61, 28, 42, 180, 0, 15, 190, 162, 0, 17, 27, 42, 28, 182, 0, 64, 96, 60, 132, 2, 1]
abbrev dktX3_inversions_0 : List UInt8 := dkwX3_inversions_0 ++ dktX3_inversions_1
theorem dksX3_inversions_0 : cX3_inversions.data.toList.drop 0 = dktX3_inversions_0 := by decide +kernel
theorem dksX3_inversions_1 : cX3_inversions.data.toList.drop 24 = dktX3_inversions_1 := dk_seg dksX3_inversions_0 24 rfl rfl
theorem dX3_inversions_0 : decode cX3_inversions 0 = .ok (.iconst 0, 1) := dk_3 (dk_at dksX3_inversions_0 0 rfl rfl)
theorem dX3_inversions_1 : decode cX3_inversions 1 = .ok (.istore_n 1, 1) := dk_60 (dk_at dksX3_inversions_0 1 rfl rfl)
theorem dX3_inversions_2 : decode cX3_inversions 2 = .ok (.iconst 0, 1) := dk_3 (dk_at dksX3_inversions_0 2 rfl rfl)
theorem dX3_inversions_3 : decode cX3_inversions 3 = .ok (.istore_n 2, 1) := dk_61 (dk_at dksX3_inversions_0 3 rfl rfl)
theorem dX3_inversions_4 : decode cX3_inversions 4 = .ok (.iload_n 2, 1) := dk_28 (dk_at dksX3_inversions_0 4 rfl rfl)
theorem dX3_inversions_5 : decode cX3_inversions 5 = .ok (.aload_n 0, 1) := dk_42 (dk_at dksX3_inversions_0 5 rfl rfl)
theorem dX3_inversions_6 : decode cX3_inversions 6 = .ok (.getfield 15, 3) := dk_180 0 15 (dk_at dksX3_inversions_0 6 rfl rfl)
theorem dX3_inversions_9 : decode cX3_inversions 9 = .ok (.arraylength, 1) := dk_190 (dk_at dksX3_inversions_0 9 rfl rfl)
theorem dX3_inversions_10 : decode cX3_inversions 10 = .ok (.if_icmp .ge 17, 3) := dk_162 0 17 (dk_at dksX3_inversions_0 10 rfl rfl)
theorem dX3_inversions_13 : decode cX3_inversions 13 = .ok (.iload_n 1, 1) := dk_27 (dk_at dksX3_inversions_0 13 rfl rfl)
theorem dX3_inversions_14 : decode cX3_inversions 14 = .ok (.aload_n 0, 1) := dk_42 (dk_at dksX3_inversions_0 14 rfl rfl)
theorem dX3_inversions_15 : decode cX3_inversions 15 = .ok (.iload_n 2, 1) := dk_28 (dk_at dksX3_inversions_0 15 rfl rfl)
theorem dX3_inversions_16 : decode cX3_inversions 16 = .ok (.invokevirtual 64, 3) := dk_182 0 64 (dk_at dksX3_inversions_0 16 rfl rfl)
theorem dX3_inversions_19 : decode cX3_inversions 19 = .ok (.iadd, 1) := dk_96 (dk_at dksX3_inversions_0 19 rfl rfl)
theorem dX3_inversions_20 : decode cX3_inversions 20 = .ok (.istore_n 1, 1) := dk_60 (dk_at dksX3_inversions_0 20 rfl rfl)
theorem dX3_inversions_21 : decode cX3_inversions 21 = .ok (.iinc 2 1, 3) := dk_132 2 1 (dk_at dksX3_inversions_0 21 rfl rfl)
theorem dX3_inversions_24 : decode cX3_inversions 24 = .ok (.goto (-20), 3) := dk_167 255 236 (dk_at dksX3_inversions_1 0 rfl rfl)
theorem dX3_inversions_27 : decode cX3_inversions 27 = .ok (.iload_n 1, 1) := dk_27 (dk_at dksX3_inversions_1 3 rfl rfl)
theorem dX3_inversions_28 : decode cX3_inversions 28 = .ok (.ireturn, 1) := dk_172 (dk_at dksX3_inversions_1 4 rfl rfl)
abbrev cX3_moves : ByteArray := prog_8_method_8_code
def yX3_moves : MethodName := ⟨RX3, "moves", "(I)I"⟩
def dkwX3_moves_1 : List UInt8 := [42, 180, 0, 15, 28, 46, 172]
abbrev dktX3_moves_1 : List UInt8 := dkwX3_moves_1 ++ []
def dkwX3_moves_0 : List UInt8 := [42, 180, 0, 9, 180, 0, 67, 42, 180, 0, 19, 50, 27, 46, 61, 28, 2, 160, 0, 7, 3, 167, 0, 9]
abbrev dktX3_moves_0 : List UInt8 := dkwX3_moves_0 ++ dktX3_moves_1
theorem dksX3_moves_0 : cX3_moves.data.toList.drop 0 = dktX3_moves_0 := by decide +kernel
theorem dksX3_moves_1 : cX3_moves.data.toList.drop 24 = dktX3_moves_1 := dk_seg dksX3_moves_0 24 rfl rfl
theorem dX3_moves_0 : decode cX3_moves 0 = .ok (.aload_n 0, 1) := dk_42 (dk_at dksX3_moves_0 0 rfl rfl)
theorem dX3_moves_1 : decode cX3_moves 1 = .ok (.getfield 9, 3) := dk_180 0 9 (dk_at dksX3_moves_0 1 rfl rfl)
theorem dX3_moves_4 : decode cX3_moves 4 = .ok (.getfield 67, 3) := dk_180 0 67 (dk_at dksX3_moves_0 4 rfl rfl)
theorem dX3_moves_7 : decode cX3_moves 7 = .ok (.aload_n 0, 1) := dk_42 (dk_at dksX3_moves_0 7 rfl rfl)
theorem dX3_moves_8 : decode cX3_moves 8 = .ok (.getfield 19, 3) := dk_180 0 19 (dk_at dksX3_moves_0 8 rfl rfl)
theorem dX3_moves_11 : decode cX3_moves 11 = .ok (.aaload, 1) := dk_50 (dk_at dksX3_moves_0 11 rfl rfl)
theorem dX3_moves_12 : decode cX3_moves 12 = .ok (.iload_n 1, 1) := dk_27 (dk_at dksX3_moves_0 12 rfl rfl)
theorem dX3_moves_13 : decode cX3_moves 13 = .ok (.iaload, 1) := dk_46 (dk_at dksX3_moves_0 13 rfl rfl)
theorem dX3_moves_14 : decode cX3_moves 14 = .ok (.istore_n 2, 1) := dk_61 (dk_at dksX3_moves_0 14 rfl rfl)
theorem dX3_moves_15 : decode cX3_moves 15 = .ok (.iload_n 2, 1) := dk_28 (dk_at dksX3_moves_0 15 rfl rfl)
theorem dX3_moves_16 : decode cX3_moves 16 = .ok (.iconst (-1), 1) := dk_2 (dk_at dksX3_moves_0 16 rfl rfl)
theorem dX3_moves_17 : decode cX3_moves 17 = .ok (.if_icmp .ne 7, 3) := dk_160 0 7 (dk_at dksX3_moves_0 17 rfl rfl)
theorem dX3_moves_20 : decode cX3_moves 20 = .ok (.iconst 0, 1) := dk_3 (dk_at dksX3_moves_0 20 rfl rfl)
theorem dX3_moves_21 : decode cX3_moves 21 = .ok (.goto 9, 3) := dk_167 0 9 (dk_at dksX3_moves_0 21 rfl rfl)
theorem dX3_moves_24 : decode cX3_moves 24 = .ok (.aload_n 0, 1) := dk_42 (dk_at dksX3_moves_1 0 rfl rfl)
theorem dX3_moves_25 : decode cX3_moves 25 = .ok (.getfield 15, 3) := dk_180 0 15 (dk_at dksX3_moves_1 1 rfl rfl)
theorem dX3_moves_28 : decode cX3_moves 28 = .ok (.iload_n 2, 1) := dk_28 (dk_at dksX3_moves_1 4 rfl rfl)
theorem dX3_moves_29 : decode cX3_moves 29 = .ok (.iaload, 1) := dk_46 (dk_at dksX3_moves_1 5 rfl rfl)
theorem dX3_moves_30 : decode cX3_moves 30 = .ok (.ireturn, 1) := dk_172 (dk_at dksX3_moves_1 6 rfl rfl)
abbrev cX3_moved : ByteArray := prog_8_method_9_code
def yX3_moved : MethodName := ⟨RX3, "moved", "(I)LSlidingtray$Lie;"⟩
def dkwX3_moved_3 : List UInt8 := [132, 4, 1, 167, 255, 207, 187, 0, 10, 89, 42, 180, 0, 9, 45, 28, 183, 0, 57, 176]
abbrev dktX3_moved_3 : List UInt8 := dkwX3_moved_3 ++ []
def dkwX3_moved_2 : List UInt8 := [42, 180, 0, 19, 160, 0, 12, 42, 180, 0, 15, 28, 46, 167, 0, 10, 42, 180, 0, 15, 21, 4, 46, 79]
abbrev dktX3_moved_2 : List UInt8 := dkwX3_moved_2 ++ dktX3_moved_3
def dkwX3_moved_1 : List UInt8 := [54, 4, 21, 4, 45, 190, 162, 0, 48, 45, 21, 4, 21, 4, 28, 160, 0, 7, 3, 167, 0, 28, 21, 4]
abbrev dktX3_moved_1 : List UInt8 := dkwX3_moved_1 ++ dktX3_moved_2
def dkwX3_moved_0 : List UInt8 := [42, 180, 0, 9, 180, 0, 67, 42, 180, 0, 19, 50, 27, 46, 61, 42, 180, 0, 15, 190, 188, 10, 78, 3]
abbrev dktX3_moved_0 : List UInt8 := dkwX3_moved_0 ++ dktX3_moved_1
theorem dksX3_moved_0 : cX3_moved.data.toList.drop 0 = dktX3_moved_0 := by decide +kernel
theorem dksX3_moved_1 : cX3_moved.data.toList.drop 24 = dktX3_moved_1 := dk_seg dksX3_moved_0 24 rfl rfl
theorem dksX3_moved_2 : cX3_moved.data.toList.drop 48 = dktX3_moved_2 := dk_seg dksX3_moved_1 24 rfl rfl
theorem dksX3_moved_3 : cX3_moved.data.toList.drop 72 = dktX3_moved_3 := dk_seg dksX3_moved_2 24 rfl rfl
theorem dX3_moved_0 : decode cX3_moved 0 = .ok (.aload_n 0, 1) := dk_42 (dk_at dksX3_moved_0 0 rfl rfl)
theorem dX3_moved_1 : decode cX3_moved 1 = .ok (.getfield 9, 3) := dk_180 0 9 (dk_at dksX3_moved_0 1 rfl rfl)
theorem dX3_moved_4 : decode cX3_moved 4 = .ok (.getfield 67, 3) := dk_180 0 67 (dk_at dksX3_moved_0 4 rfl rfl)
theorem dX3_moved_7 : decode cX3_moved 7 = .ok (.aload_n 0, 1) := dk_42 (dk_at dksX3_moved_0 7 rfl rfl)
theorem dX3_moved_8 : decode cX3_moved 8 = .ok (.getfield 19, 3) := dk_180 0 19 (dk_at dksX3_moved_0 8 rfl rfl)
theorem dX3_moved_11 : decode cX3_moved 11 = .ok (.aaload, 1) := dk_50 (dk_at dksX3_moved_0 11 rfl rfl)
theorem dX3_moved_12 : decode cX3_moved 12 = .ok (.iload_n 1, 1) := dk_27 (dk_at dksX3_moved_0 12 rfl rfl)
theorem dX3_moved_13 : decode cX3_moved 13 = .ok (.iaload, 1) := dk_46 (dk_at dksX3_moved_0 13 rfl rfl)
theorem dX3_moved_14 : decode cX3_moved 14 = .ok (.istore_n 2, 1) := dk_61 (dk_at dksX3_moved_0 14 rfl rfl)
theorem dX3_moved_15 : decode cX3_moved 15 = .ok (.aload_n 0, 1) := dk_42 (dk_at dksX3_moved_0 15 rfl rfl)
theorem dX3_moved_16 : decode cX3_moved 16 = .ok (.getfield 15, 3) := dk_180 0 15 (dk_at dksX3_moved_0 16 rfl rfl)
theorem dX3_moved_19 : decode cX3_moved 19 = .ok (.arraylength, 1) := dk_190 (dk_at dksX3_moved_0 19 rfl rfl)
theorem dX3_moved_20 : decode cX3_moved 20 = .ok (.newarray .int, 2) := dk_188_10 (dk_at dksX3_moved_0 20 rfl rfl)
theorem dX3_moved_22 : decode cX3_moved 22 = .ok (.astore_n 3, 1) := dk_78 (dk_at dksX3_moved_0 22 rfl rfl)
theorem dX3_moved_23 : decode cX3_moved 23 = .ok (.iconst 0, 1) := dk_3 (dk_at dksX3_moved_0 23 rfl rfl)
theorem dX3_moved_24 : decode cX3_moved 24 = .ok (.istore 4, 2) := dk_54 4 (dk_at dksX3_moved_1 0 rfl rfl)
theorem dX3_moved_26 : decode cX3_moved 26 = .ok (.iload 4, 2) := dk_21 4 (dk_at dksX3_moved_1 2 rfl rfl)
theorem dX3_moved_28 : decode cX3_moved 28 = .ok (.aload_n 3, 1) := dk_45 (dk_at dksX3_moved_1 4 rfl rfl)
theorem dX3_moved_29 : decode cX3_moved 29 = .ok (.arraylength, 1) := dk_190 (dk_at dksX3_moved_1 5 rfl rfl)
theorem dX3_moved_30 : decode cX3_moved 30 = .ok (.if_icmp .ge 48, 3) := dk_162 0 48 (dk_at dksX3_moved_1 6 rfl rfl)
theorem dX3_moved_33 : decode cX3_moved 33 = .ok (.aload_n 3, 1) := dk_45 (dk_at dksX3_moved_1 9 rfl rfl)
theorem dX3_moved_34 : decode cX3_moved 34 = .ok (.iload 4, 2) := dk_21 4 (dk_at dksX3_moved_1 10 rfl rfl)
theorem dX3_moved_36 : decode cX3_moved 36 = .ok (.iload 4, 2) := dk_21 4 (dk_at dksX3_moved_1 12 rfl rfl)
theorem dX3_moved_38 : decode cX3_moved 38 = .ok (.iload_n 2, 1) := dk_28 (dk_at dksX3_moved_1 14 rfl rfl)
theorem dX3_moved_39 : decode cX3_moved 39 = .ok (.if_icmp .ne 7, 3) := dk_160 0 7 (dk_at dksX3_moved_1 15 rfl rfl)
theorem dX3_moved_42 : decode cX3_moved 42 = .ok (.iconst 0, 1) := dk_3 (dk_at dksX3_moved_1 18 rfl rfl)
theorem dX3_moved_43 : decode cX3_moved 43 = .ok (.goto 28, 3) := dk_167 0 28 (dk_at dksX3_moved_1 19 rfl rfl)
theorem dX3_moved_46 : decode cX3_moved 46 = .ok (.iload 4, 2) := dk_21 4 (dk_at dksX3_moved_1 22 rfl rfl)
theorem dX3_moved_48 : decode cX3_moved 48 = .ok (.aload_n 0, 1) := dk_42 (dk_at dksX3_moved_2 0 rfl rfl)
theorem dX3_moved_49 : decode cX3_moved 49 = .ok (.getfield 19, 3) := dk_180 0 19 (dk_at dksX3_moved_2 1 rfl rfl)
theorem dX3_moved_52 : decode cX3_moved 52 = .ok (.if_icmp .ne 12, 3) := dk_160 0 12 (dk_at dksX3_moved_2 4 rfl rfl)
theorem dX3_moved_55 : decode cX3_moved 55 = .ok (.aload_n 0, 1) := dk_42 (dk_at dksX3_moved_2 7 rfl rfl)
theorem dX3_moved_56 : decode cX3_moved 56 = .ok (.getfield 15, 3) := dk_180 0 15 (dk_at dksX3_moved_2 8 rfl rfl)
theorem dX3_moved_59 : decode cX3_moved 59 = .ok (.iload_n 2, 1) := dk_28 (dk_at dksX3_moved_2 11 rfl rfl)
theorem dX3_moved_60 : decode cX3_moved 60 = .ok (.iaload, 1) := dk_46 (dk_at dksX3_moved_2 12 rfl rfl)
theorem dX3_moved_61 : decode cX3_moved 61 = .ok (.goto 10, 3) := dk_167 0 10 (dk_at dksX3_moved_2 13 rfl rfl)
theorem dX3_moved_64 : decode cX3_moved 64 = .ok (.aload_n 0, 1) := dk_42 (dk_at dksX3_moved_2 16 rfl rfl)
theorem dX3_moved_65 : decode cX3_moved 65 = .ok (.getfield 15, 3) := dk_180 0 15 (dk_at dksX3_moved_2 17 rfl rfl)
theorem dX3_moved_68 : decode cX3_moved 68 = .ok (.iload 4, 2) := dk_21 4 (dk_at dksX3_moved_2 20 rfl rfl)
theorem dX3_moved_70 : decode cX3_moved 70 = .ok (.iaload, 1) := dk_46 (dk_at dksX3_moved_2 22 rfl rfl)
theorem dX3_moved_71 : decode cX3_moved 71 = .ok (.iastore, 1) := dk_79 (dk_at dksX3_moved_2 23 rfl rfl)
theorem dX3_moved_72 : decode cX3_moved 72 = .ok (.iinc 4 1, 3) := dk_132 4 1 (dk_at dksX3_moved_3 0 rfl rfl)
theorem dX3_moved_75 : decode cX3_moved 75 = .ok (.goto (-49), 3) := dk_167 255 207 (dk_at dksX3_moved_3 3 rfl rfl)
theorem dX3_moved_78 : decode cX3_moved 78 = .ok (.new 10, 3) := dk_187 0 10 (dk_at dksX3_moved_3 6 rfl rfl)
theorem dX3_moved_81 : decode cX3_moved 81 = .ok (.dup, 1) := dk_89 (dk_at dksX3_moved_3 9 rfl rfl)
theorem dX3_moved_82 : decode cX3_moved 82 = .ok (.aload_n 0, 1) := dk_42 (dk_at dksX3_moved_3 10 rfl rfl)
theorem dX3_moved_83 : decode cX3_moved 83 = .ok (.getfield 9, 3) := dk_180 0 9 (dk_at dksX3_moved_3 11 rfl rfl)
theorem dX3_moved_86 : decode cX3_moved 86 = .ok (.aload_n 3, 1) := dk_45 (dk_at dksX3_moved_3 14 rfl rfl)
theorem dX3_moved_87 : decode cX3_moved 87 = .ok (.iload_n 2, 1) := dk_28 (dk_at dksX3_moved_3 15 rfl rfl)
theorem dX3_moved_88 : decode cX3_moved 88 = .ok (.invokespecial 57, 3) := dk_183 0 57 (dk_at dksX3_moved_3 16 rfl rfl)
theorem dX3_moved_91 : decode cX3_moved 91 = .ok (.areturn, 1) := dk_176 (dk_at dksX3_moved_3 19 rfl rfl)
abbrev cX3_openOf : ByteArray := prog_8_method_7_code
def yX3_openOf : MethodName := ⟨RX3, "openOf", "(I)I"⟩
def dkwX3_openOf_0 : List UInt8 := [3, 61, 42, 180, 0, 15, 28, 46, 27, 159, 0, 9, 132, 2, 1, 167, 255, 243, 28, 172]
abbrev dktX3_openOf_0 : List UInt8 := dkwX3_openOf_0 ++ []
theorem dksX3_openOf_0 : cX3_openOf.data.toList.drop 0 = dktX3_openOf_0 := by decide +kernel
theorem dX3_openOf_0 : decode cX3_openOf 0 = .ok (.iconst 0, 1) := dk_3 (dk_at dksX3_openOf_0 0 rfl rfl)
theorem dX3_openOf_1 : decode cX3_openOf 1 = .ok (.istore_n 2, 1) := dk_61 (dk_at dksX3_openOf_0 1 rfl rfl)
theorem dX3_openOf_2 : decode cX3_openOf 2 = .ok (.aload_n 0, 1) := dk_42 (dk_at dksX3_openOf_0 2 rfl rfl)
theorem dX3_openOf_3 : decode cX3_openOf 3 = .ok (.getfield 15, 3) := dk_180 0 15 (dk_at dksX3_openOf_0 3 rfl rfl)
theorem dX3_openOf_6 : decode cX3_openOf 6 = .ok (.iload_n 2, 1) := dk_28 (dk_at dksX3_openOf_0 6 rfl rfl)
theorem dX3_openOf_7 : decode cX3_openOf 7 = .ok (.iaload, 1) := dk_46 (dk_at dksX3_openOf_0 7 rfl rfl)
theorem dX3_openOf_8 : decode cX3_openOf 8 = .ok (.iload_n 1, 1) := dk_27 (dk_at dksX3_openOf_0 8 rfl rfl)
theorem dX3_openOf_9 : decode cX3_openOf 9 = .ok (.if_icmp .eq 9, 3) := dk_159 0 9 (dk_at dksX3_openOf_0 9 rfl rfl)
theorem dX3_openOf_12 : decode cX3_openOf 12 = .ok (.iinc 2 1, 3) := dk_132 2 1 (dk_at dksX3_openOf_0 12 rfl rfl)
theorem dX3_openOf_15 : decode cX3_openOf 15 = .ok (.goto (-13), 3) := dk_167 255 243 (dk_at dksX3_openOf_0 15 rfl rfl)
theorem dX3_openOf_18 : decode cX3_openOf 18 = .ok (.iload_n 2, 1) := dk_28 (dk_at dksX3_openOf_0 18 rfl rfl)
theorem dX3_openOf_19 : decode cX3_openOf 19 = .ok (.ireturn, 1) := dk_172 (dk_at dksX3_openOf_0 19 rfl rfl)
theorem q133 : (Jvm.Cond.initialized "Slidingtray$Lie") ∈ lw_all := lw_g (lw_at lw_m1 32 rfl) rfl
theorem q293 : (Jvm.Cond.selects "Slidingtray$Lie" ({ cls := "java/lang/Object", name := "getClass", desc := "()Ljava/lang/Class;" } : Jvm.MethodName) ({ cls := "java/lang/Object", name := "getClass", desc := "()Ljava/lang/Class;" } : Jvm.MethodName)) ∈ lw_all := lw_g (lw_at lw_m1 192 rfl) rfl
theorem q748 : (Jvm.Cond.selects "Slidingtray$Lie" ({ cls := "java/lang/Object", name := "equals", desc := "(Ljava/lang/Object;)Z" } : Jvm.MethodName) ({ cls := "Slidingtray$Lie", name := "equals", desc := "(Ljava/lang/Object;)Z" } : Jvm.MethodName)) ∈ lw_all := lw_g (lw_at lw_m3 167 rfl) rfl
theorem q749 : (Jvm.Cond.instanceMethod ({ cls := "Slidingtray$Lie", name := "equals", desc := "(Ljava/lang/Object;)Z" } : Jvm.MethodName)) ∈ lw_all := lw_g (lw_at lw_m3 168 rfl) rfl
theorem q750 : (Jvm.Cond.code ({ cls := "Slidingtray$Lie", name := "equals", desc := "(Ljava/lang/Object;)Z" } : Jvm.MethodName) prog_8_method_10_code (3 : Nat) (Option.some Jvm.ClassFile.FieldType.boolean)) ∈ lw_all := lw_g (lw_at lw_m3 169 rfl) rfl
theorem q751 : (Jvm.Cond.classLink "Slidingtray$Lie" (10 : Nat) "Slidingtray$Lie") ∈ lw_all := lw_g (lw_at lw_m3 170 rfl) rfl
theorem q752 : (Jvm.Cond.methodLink "Slidingtray$Lie" (71 : Nat) ({ cls := "java/util/Arrays", name := "equals", desc := "([I[I)Z" } : Jvm.MethodName)) ∈ lw_all := lw_g (lw_at lw_m3 171 rfl) rfl
theorem q995 : (Jvm.Cond.fieldLinkNest "Slidingtray$Lie" (67 : Nat) "Slidingtray$Shape" "beside" "[[I" "Slidingtray") ∈ lw_tbl := lw_at lw_m4 174 rfl
theorem q1018 : (Jvm.Cond.static ({ cls := "Slidingtray$Lie", name := "of", desc := "(LSlidingtray$Shape;J)LSlidingtray$Lie;" } : Jvm.MethodName)) ∈ lw_all := lw_g (lw_at lw_m4 197 rfl) rfl
theorem q1019 : (Jvm.Cond.code ({ cls := "Slidingtray$Lie", name := "of", desc := "(LSlidingtray$Shape;J)LSlidingtray$Lie;" } : Jvm.MethodName) prog_8_method_2_code (11 : Nat) (Option.some (Jvm.ClassFile.FieldType.object "Slidingtray$Lie"))) ∈ lw_all := lw_g (lw_at lw_m4 198 rfl) rfl
theorem q1020 : (Jvm.Cond.classLink "Slidingtray$Lie" (23 : Nat) "java/util/ArrayList") ∈ lw_all := lw_g (lw_at lw_m4 199 rfl) rfl
theorem q1021 : (Jvm.Cond.methodLink "Slidingtray$Lie" (25 : Nat) ({ cls := "java/util/ArrayList", name := "<init>", desc := "()V" } : Jvm.MethodName)) ∈ lw_all := lw_g (lw_at lw_m4 200 rfl) rfl
theorem q1022 : (Jvm.Cond.methodLink "Slidingtray$Lie" (26 : Nat) ({ cls := "Slidingtray$Shape", name := "size", desc := "()I" } : Jvm.MethodName)) ∈ lw_all := lw_g (lw_at lw_m4 201 rfl) rfl
theorem q1026 : (Jvm.Cond.methodLink "Slidingtray$Lie" (32 : Nat) ({ cls := "java/lang/Integer", name := "valueOf", desc := "(I)Ljava/lang/Integer;" } : Jvm.MethodName)) ∈ lw_all := lw_g (lw_at lw_m4 205 rfl) rfl
theorem q1027 : (Jvm.Cond.interfaceEntry "Slidingtray$Lie" (38 : Nat)) ∈ lw_tbl := lw_at lw_m4 206 rfl
theorem q1028 : (Jvm.Cond.methodLink "Slidingtray$Lie" (38 : Nat) ({ cls := "java/util/List", name := "add", desc := "(Ljava/lang/Object;)Z" } : Jvm.MethodName)) ∈ lw_all := lw_g (lw_at lw_m4 207 rfl) rfl
theorem q1029 : (Jvm.Cond.interfaceEntry "Slidingtray$Lie" (44 : Nat)) ∈ lw_tbl := lw_at lw_m4 208 rfl
theorem q1030 : (Jvm.Cond.methodLink "Slidingtray$Lie" (44 : Nat) ({ cls := "java/util/List", name := "remove", desc := "(I)Ljava/lang/Object;" } : Jvm.MethodName)) ∈ lw_all := lw_g (lw_at lw_m4 209 rfl) rfl
theorem q1043 : (Jvm.Cond.classLink "Slidingtray$Lie" (33 : Nat) "java/lang/Integer") ∈ lw_all := lw_g (lw_at lw_m4 222 rfl) rfl
theorem q1044 : (Jvm.Cond.methodLink "Slidingtray$Lie" (48 : Nat) ({ cls := "java/lang/Integer", name := "intValue", desc := "()I" } : Jvm.MethodName)) ∈ lw_all := lw_g (lw_at lw_m4 223 rfl) rfl
theorem q1045 : (Jvm.Cond.methodLink "Slidingtray$Lie" (51 : Nat) ({ cls := "java/lang/Math", name := "max", desc := "(II)I" } : Jvm.MethodName)) ∈ lw_all := lw_g (lw_at lw_m4 224 rfl) rfl
theorem q1046 : (Jvm.Cond.instantiable "Slidingtray$Lie" (3 : Nat)) ∈ lw_all := lw_g (lw_at lw_m4 225 rfl) rfl
theorem q1047 : (Jvm.Cond.methodLink "Slidingtray$Lie" (57 : Nat) ({ cls := "Slidingtray$Lie", name := "<init>", desc := "(LSlidingtray$Shape;[II)V" } : Jvm.MethodName)) ∈ lw_all := lw_g (lw_at lw_m4 226 rfl) rfl
theorem q1048 : (Jvm.Cond.instanceMethod ({ cls := "Slidingtray$Lie", name := "<init>", desc := "(LSlidingtray$Shape;[II)V" } : Jvm.MethodName)) ∈ lw_all := lw_g (lw_at lw_m4 227 rfl) rfl
theorem q1049 : (Jvm.Cond.code ({ cls := "Slidingtray$Lie", name := "<init>", desc := "(LSlidingtray$Shape;[II)V" } : Jvm.MethodName) prog_8_method_1_code (4 : Nat) (Option.none : Option Jvm.ClassFile.FieldType)) ∈ lw_all := lw_g (lw_at lw_m4 228 rfl) rfl
theorem q1050 : (Jvm.Cond.methodLink "Slidingtray$Lie" (3 : Nat) ({ cls := "java/lang/Object", name := "<init>", desc := "()V" } : Jvm.MethodName)) ∈ lw_all := lw_g (lw_at lw_m4 229 rfl) rfl
theorem q1051 : (Jvm.Cond.fieldLink "Slidingtray$Lie" (9 : Nat) "Slidingtray$Lie" "shape" "LSlidingtray$Shape;") ∈ lw_all := lw_g (lw_at lw_m4 230 rfl) rfl
theorem q1053 : (Jvm.Cond.fieldLink "Slidingtray$Lie" (15 : Nat) "Slidingtray$Lie" "tiles" "[I") ∈ lw_all := lw_g (lw_at lw_m4 232 rfl) rfl
theorem q1057 : (Jvm.Cond.fieldLink "Slidingtray$Lie" (19 : Nat) "Slidingtray$Lie" "gap" "I") ∈ lw_all := lw_g (lw_at lw_m4 236 rfl) rfl
theorem q1060 : (Jvm.Cond.laysFinal "Slidingtray$Lie" "Slidingtray$Lie" "shape" "LSlidingtray$Shape;") ∈ lw_all := lw_g (lw_at lw_m4 239 rfl) rfl
theorem q1061 : (Jvm.Cond.soleField "Slidingtray$Lie" "shape") ∈ lw_all := lw_g (lw_at lw_m5 0 rfl) rfl
theorem q1062 : (Jvm.Cond.laysFinal "Slidingtray$Lie" "Slidingtray$Lie" "tiles" "[I") ∈ lw_all := lw_g (lw_at lw_m5 1 rfl) rfl
theorem q1063 : (Jvm.Cond.soleField "Slidingtray$Lie" "tiles") ∈ lw_all := lw_g (lw_at lw_m5 2 rfl) rfl
theorem q1064 : (Jvm.Cond.laysFinal "Slidingtray$Lie" "Slidingtray$Lie" "gap" "I") ∈ lw_all := lw_g (lw_at lw_m5 3 rfl) rfl
theorem q1065 : (Jvm.Cond.soleField "Slidingtray$Lie" "gap") ∈ lw_all := lw_g (lw_at lw_m5 4 rfl) rfl
theorem q1066 : (Jvm.Cond.superclass "Slidingtray$Lie" "java/lang/Object") ∈ lw_all := lw_g (lw_at lw_m5 5 rfl) rfl
theorem q1199 : (Jvm.Cond.instanceMethod ({ cls := "Slidingtray$Lie", name := "rank", desc := "()J" } : Jvm.MethodName)) ∈ lw_all := lw_g (lw_at lw_m5 138 rfl) rfl
theorem q1200 : (Jvm.Cond.selects "Slidingtray$Lie" ({ cls := "Slidingtray$Lie", name := "rank", desc := "()J" } : Jvm.MethodName) ({ cls := "Slidingtray$Lie", name := "rank", desc := "()J" } : Jvm.MethodName)) ∈ lw_all := lw_g (lw_at lw_m5 139 rfl) rfl
theorem q1201 : (Jvm.Cond.code ({ cls := "Slidingtray$Lie", name := "rank", desc := "()J" } : Jvm.MethodName) prog_8_method_5_code (4 : Nat) (Option.some Jvm.ClassFile.FieldType.long)) ∈ lw_all := lw_g (lw_at lw_m5 140 rfl) rfl
theorem q1202 : (Jvm.Cond.methodLink "Slidingtray$Lie" (64 : Nat) ({ cls := "Slidingtray$Lie", name := "lessBehind", desc := "(I)I" } : Jvm.MethodName)) ∈ lw_all := lw_g (lw_at lw_m5 141 rfl) rfl
theorem q1203 : (Jvm.Cond.privateMethod ({ cls := "Slidingtray$Lie", name := "lessBehind", desc := "(I)I" } : Jvm.MethodName)) ∈ lw_tbl := lw_at lw_m5 142 rfl
theorem q1204 : (Jvm.Cond.instanceMethod ({ cls := "Slidingtray$Lie", name := "lessBehind", desc := "(I)I" } : Jvm.MethodName)) ∈ lw_all := lw_g (lw_at lw_m5 143 rfl) rfl
theorem q1205 : (Jvm.Cond.code ({ cls := "Slidingtray$Lie", name := "lessBehind", desc := "(I)I" } : Jvm.MethodName) prog_8_method_4_code (4 : Nat) (Option.some Jvm.ClassFile.FieldType.int)) ∈ lw_all := lw_g (lw_at lw_m5 144 rfl) rfl
theorem q1206 : (Jvm.Cond.methodLink "Slidingtray$Lie" (60 : Nat) ({ cls := "Slidingtray$Lie", name := "valueAt", desc := "(I)I" } : Jvm.MethodName)) ∈ lw_all := lw_g (lw_at lw_m5 145 rfl) rfl
theorem q1207 : (Jvm.Cond.privateMethod ({ cls := "Slidingtray$Lie", name := "valueAt", desc := "(I)I" } : Jvm.MethodName)) ∈ lw_tbl := lw_at lw_m5 146 rfl
theorem q1208 : (Jvm.Cond.instanceMethod ({ cls := "Slidingtray$Lie", name := "valueAt", desc := "(I)I" } : Jvm.MethodName)) ∈ lw_all := lw_g (lw_at lw_m5 147 rfl) rfl
theorem q1209 : (Jvm.Cond.code ({ cls := "Slidingtray$Lie", name := "valueAt", desc := "(I)I" } : Jvm.MethodName) prog_8_method_3_code (2 : Nat) (Option.some Jvm.ClassFile.FieldType.int)) ∈ lw_all := lw_g (lw_at lw_m5 148 rfl) rfl
theorem q1219 : (Jvm.Cond.instanceMethod ({ cls := "Slidingtray$Lie", name := "inversions", desc := "()I" } : Jvm.MethodName)) ∈ lw_all := lw_g (lw_at lw_m5 158 rfl) rfl
theorem q1220 : (Jvm.Cond.selects "Slidingtray$Lie" ({ cls := "Slidingtray$Lie", name := "inversions", desc := "()I" } : Jvm.MethodName) ({ cls := "Slidingtray$Lie", name := "inversions", desc := "()I" } : Jvm.MethodName)) ∈ lw_all := lw_g (lw_at lw_m5 159 rfl) rfl
theorem q1221 : (Jvm.Cond.code ({ cls := "Slidingtray$Lie", name := "inversions", desc := "()I" } : Jvm.MethodName) prog_8_method_6_code (3 : Nat) (Option.some Jvm.ClassFile.FieldType.int)) ∈ lw_all := lw_g (lw_at lw_m5 160 rfl) rfl
theorem q1253 : (Jvm.Cond.instanceMethod ({ cls := "Slidingtray$Lie", name := "moves", desc := "(I)I" } : Jvm.MethodName)) ∈ lw_all := lw_g (lw_at lw_m5 192 rfl) rfl
theorem q1254 : (Jvm.Cond.selects "Slidingtray$Lie" ({ cls := "Slidingtray$Lie", name := "moves", desc := "(I)I" } : Jvm.MethodName) ({ cls := "Slidingtray$Lie", name := "moves", desc := "(I)I" } : Jvm.MethodName)) ∈ lw_all := lw_g (lw_at lw_m5 193 rfl) rfl
theorem q1255 : (Jvm.Cond.code ({ cls := "Slidingtray$Lie", name := "moves", desc := "(I)I" } : Jvm.MethodName) prog_8_method_8_code (3 : Nat) (Option.some Jvm.ClassFile.FieldType.int)) ∈ lw_all := lw_g (lw_at lw_m5 194 rfl) rfl
theorem q1257 : (Jvm.Cond.instanceMethod ({ cls := "Slidingtray$Lie", name := "moved", desc := "(I)LSlidingtray$Lie;" } : Jvm.MethodName)) ∈ lw_all := lw_g (lw_at lw_m5 196 rfl) rfl
theorem q1258 : (Jvm.Cond.selects "Slidingtray$Lie" ({ cls := "Slidingtray$Lie", name := "moved", desc := "(I)LSlidingtray$Lie;" } : Jvm.MethodName) ({ cls := "Slidingtray$Lie", name := "moved", desc := "(I)LSlidingtray$Lie;" } : Jvm.MethodName)) ∈ lw_all := lw_g (lw_at lw_m5 197 rfl) rfl
theorem q1259 : (Jvm.Cond.code ({ cls := "Slidingtray$Lie", name := "moved", desc := "(I)LSlidingtray$Lie;" } : Jvm.MethodName) prog_8_method_9_code (5 : Nat) (Option.some (Jvm.ClassFile.FieldType.object "Slidingtray$Lie"))) ∈ lw_all := lw_g (lw_at lw_m5 198 rfl) rfl
theorem q1393 : (Jvm.Cond.instanceMethod ({ cls := "Slidingtray$Lie", name := "openOf", desc := "(I)I" } : Jvm.MethodName)) ∈ lw_all := lw_g (lw_at lw_m6 92 rfl) rfl
theorem q1394 : (Jvm.Cond.selects "Slidingtray$Lie" ({ cls := "Slidingtray$Lie", name := "openOf", desc := "(I)I" } : Jvm.MethodName) ({ cls := "Slidingtray$Lie", name := "openOf", desc := "(I)I" } : Jvm.MethodName)) ∈ lw_all := lw_g (lw_at lw_m6 93 rfl) rfl
theorem q1395 : (Jvm.Cond.code ({ cls := "Slidingtray$Lie", name := "openOf", desc := "(I)I" } : Jvm.MethodName) prog_8_method_7_code (3 : Nat) (Option.some Jvm.ClassFile.FieldType.int)) ∈ lw_all := lw_g (lw_at lw_m6 94 rfl) rfl
theorem q3289 : (Jvm.Cond.selects "Slidingtray$Lie" ({ cls := "Slidingtray$Lie", name := "equals", desc := "(Ljava/lang/Object;)Z" } : Jvm.MethodName) ({ cls := "Slidingtray$Lie", name := "equals", desc := "(Ljava/lang/Object;)Z" } : Jvm.MethodName)) ∈ lw_all := lw_g (lw_at lw_m14 68 rfl) rfl
theorem q3295 : (Jvm.Cond.castable "Slidingtray$Lie" "java/lang/Object") ∈ lw_tbl := lw_at lw_m14 74 rfl
theorem in_X3 : ∀ w ∈ wsX30, w ∈ lw_all := lw_in wsX30 [1060, 1062, 1064] (by decide +kernel) (by decide +kernel)
/-! Slidingtray$Aim -/
set_option maxRecDepth 100000
def RX4 : String := "Slidingtray$Aim"
def TX4 : u_T := fun k => match k with
  | 0 => ("Slidingtray$Aim", "lie", "LSlidingtray$Lie;", true)
  | 1 => ("Slidingtray$Aim", "opens", "[I", true)
  | 2 => ("Slidingtray$Aim", "free", "Ljava/util/BitSet;", true)
  | _ => ("Slidingtray$Aim", "weights", "[I", true)
def tyX4 : Nat → FieldType := fun k => match k with
  | 0 => .object "Slidingtray$Lie"
  | 1 => .array .int
  | 2 => .object "java/util/BitSet"
  | _ => .array .int
abbrev wsX40 : List Cond := u_ws RX4 TX4 4
theorem nmX4 : ∀ a, a < 4 → ∀ b, b < 4 → a ≠ b → (TX4 a).2.1 ≠ (TX4 b).2.1 := by decide +kernel
theorem tyX4_ok : ∀ k, k < 4 → parseFieldDescriptor (TX4 k).2.2.1 = some (tyX4 k) := by decide +kernel
abbrev cX4_init : ByteArray := prog_2_method_1_code
def yX4_init : MethodName := ⟨RX4, "<init>", "(LSlidingtray$Lie;)V"⟩
def dkwX4_init_3 : List UInt8 := [4, 79, 132, 2, 1, 167, 255, 225, 177]
abbrev dktX4_init_3 : List UInt8 := dkwX4_init_3 ++ []
def dkwX4_init_2 : List UInt8 := [180, 0, 26, 190, 162, 0, 28, 42, 180, 0, 26, 43, 180, 0, 20, 28, 46, 28, 79, 42, 180, 0, 29, 28]
abbrev dktX4_init_2 : List UInt8 := dkwX4_init_2 ++ dktX4_init_3
def dkwX4_init_1 : List UInt8 := [180, 0, 20, 190, 188, 10, 181, 0, 26, 42, 43, 180, 0, 20, 190, 188, 10, 181, 0, 29, 3, 61, 28, 42]
abbrev dktX4_init_1 : List UInt8 := dkwX4_init_1 ++ dktX4_init_2
def dkwX4_init_0 : List UInt8 := [42, 183, 0, 1, 42, 187, 0, 7, 89, 183, 0, 9, 181, 0, 10, 42, 43, 181, 0, 16, 42, 43]
abbrev dktX4_init_0 : List UInt8 := dkwX4_init_0 ++ dktX4_init_1
theorem dksX4_init_0 : cX4_init.data.toList.drop 0 = dktX4_init_0 := by decide +kernel
theorem dksX4_init_1 : cX4_init.data.toList.drop 22 = dktX4_init_1 := dk_seg dksX4_init_0 22 rfl rfl
theorem dksX4_init_2 : cX4_init.data.toList.drop 46 = dktX4_init_2 := dk_seg dksX4_init_1 24 rfl rfl
theorem dksX4_init_3 : cX4_init.data.toList.drop 70 = dktX4_init_3 := dk_seg dksX4_init_2 24 rfl rfl
theorem dX4_init_0 : decode cX4_init 0 = .ok (.aload_n 0, 1) := dk_42 (dk_at dksX4_init_0 0 rfl rfl)
theorem dX4_init_1 : decode cX4_init 1 = .ok (.invokespecial 1, 3) := dk_183 0 1 (dk_at dksX4_init_0 1 rfl rfl)
theorem dX4_init_4 : decode cX4_init 4 = .ok (.aload_n 0, 1) := dk_42 (dk_at dksX4_init_0 4 rfl rfl)
theorem dX4_init_5 : decode cX4_init 5 = .ok (.new 7, 3) := dk_187 0 7 (dk_at dksX4_init_0 5 rfl rfl)
theorem dX4_init_8 : decode cX4_init 8 = .ok (.dup, 1) := dk_89 (dk_at dksX4_init_0 8 rfl rfl)
theorem dX4_init_9 : decode cX4_init 9 = .ok (.invokespecial 9, 3) := dk_183 0 9 (dk_at dksX4_init_0 9 rfl rfl)
theorem dX4_init_12 : decode cX4_init 12 = .ok (.putfield 10, 3) := dk_181 0 10 (dk_at dksX4_init_0 12 rfl rfl)
theorem dX4_init_15 : decode cX4_init 15 = .ok (.aload_n 0, 1) := dk_42 (dk_at dksX4_init_0 15 rfl rfl)
theorem dX4_init_16 : decode cX4_init 16 = .ok (.aload_n 1, 1) := dk_43 (dk_at dksX4_init_0 16 rfl rfl)
theorem dX4_init_17 : decode cX4_init 17 = .ok (.putfield 16, 3) := dk_181 0 16 (dk_at dksX4_init_0 17 rfl rfl)
theorem dX4_init_20 : decode cX4_init 20 = .ok (.aload_n 0, 1) := dk_42 (dk_at dksX4_init_0 20 rfl rfl)
theorem dX4_init_21 : decode cX4_init 21 = .ok (.aload_n 1, 1) := dk_43 (dk_at dksX4_init_0 21 rfl rfl)
theorem dX4_init_22 : decode cX4_init 22 = .ok (.getfield 20, 3) := dk_180 0 20 (dk_at dksX4_init_1 0 rfl rfl)
theorem dX4_init_25 : decode cX4_init 25 = .ok (.arraylength, 1) := dk_190 (dk_at dksX4_init_1 3 rfl rfl)
theorem dX4_init_26 : decode cX4_init 26 = .ok (.newarray .int, 2) := dk_188_10 (dk_at dksX4_init_1 4 rfl rfl)
theorem dX4_init_28 : decode cX4_init 28 = .ok (.putfield 26, 3) := dk_181 0 26 (dk_at dksX4_init_1 6 rfl rfl)
theorem dX4_init_31 : decode cX4_init 31 = .ok (.aload_n 0, 1) := dk_42 (dk_at dksX4_init_1 9 rfl rfl)
theorem dX4_init_32 : decode cX4_init 32 = .ok (.aload_n 1, 1) := dk_43 (dk_at dksX4_init_1 10 rfl rfl)
theorem dX4_init_33 : decode cX4_init 33 = .ok (.getfield 20, 3) := dk_180 0 20 (dk_at dksX4_init_1 11 rfl rfl)
theorem dX4_init_36 : decode cX4_init 36 = .ok (.arraylength, 1) := dk_190 (dk_at dksX4_init_1 14 rfl rfl)
theorem dX4_init_37 : decode cX4_init 37 = .ok (.newarray .int, 2) := dk_188_10 (dk_at dksX4_init_1 15 rfl rfl)
theorem dX4_init_39 : decode cX4_init 39 = .ok (.putfield 29, 3) := dk_181 0 29 (dk_at dksX4_init_1 17 rfl rfl)
theorem dX4_init_42 : decode cX4_init 42 = .ok (.iconst 0, 1) := dk_3 (dk_at dksX4_init_1 20 rfl rfl)
theorem dX4_init_43 : decode cX4_init 43 = .ok (.istore_n 2, 1) := dk_61 (dk_at dksX4_init_1 21 rfl rfl)
theorem dX4_init_44 : decode cX4_init 44 = .ok (.iload_n 2, 1) := dk_28 (dk_at dksX4_init_1 22 rfl rfl)
theorem dX4_init_45 : decode cX4_init 45 = .ok (.aload_n 0, 1) := dk_42 (dk_at dksX4_init_1 23 rfl rfl)
theorem dX4_init_46 : decode cX4_init 46 = .ok (.getfield 26, 3) := dk_180 0 26 (dk_at dksX4_init_2 0 rfl rfl)
theorem dX4_init_49 : decode cX4_init 49 = .ok (.arraylength, 1) := dk_190 (dk_at dksX4_init_2 3 rfl rfl)
theorem dX4_init_50 : decode cX4_init 50 = .ok (.if_icmp .ge 28, 3) := dk_162 0 28 (dk_at dksX4_init_2 4 rfl rfl)
theorem dX4_init_53 : decode cX4_init 53 = .ok (.aload_n 0, 1) := dk_42 (dk_at dksX4_init_2 7 rfl rfl)
theorem dX4_init_54 : decode cX4_init 54 = .ok (.getfield 26, 3) := dk_180 0 26 (dk_at dksX4_init_2 8 rfl rfl)
theorem dX4_init_57 : decode cX4_init 57 = .ok (.aload_n 1, 1) := dk_43 (dk_at dksX4_init_2 11 rfl rfl)
theorem dX4_init_58 : decode cX4_init 58 = .ok (.getfield 20, 3) := dk_180 0 20 (dk_at dksX4_init_2 12 rfl rfl)
theorem dX4_init_61 : decode cX4_init 61 = .ok (.iload_n 2, 1) := dk_28 (dk_at dksX4_init_2 15 rfl rfl)
theorem dX4_init_62 : decode cX4_init 62 = .ok (.iaload, 1) := dk_46 (dk_at dksX4_init_2 16 rfl rfl)
theorem dX4_init_63 : decode cX4_init 63 = .ok (.iload_n 2, 1) := dk_28 (dk_at dksX4_init_2 17 rfl rfl)
theorem dX4_init_64 : decode cX4_init 64 = .ok (.iastore, 1) := dk_79 (dk_at dksX4_init_2 18 rfl rfl)
theorem dX4_init_65 : decode cX4_init 65 = .ok (.aload_n 0, 1) := dk_42 (dk_at dksX4_init_2 19 rfl rfl)
theorem dX4_init_66 : decode cX4_init 66 = .ok (.getfield 29, 3) := dk_180 0 29 (dk_at dksX4_init_2 20 rfl rfl)
theorem dX4_init_69 : decode cX4_init 69 = .ok (.iload_n 2, 1) := dk_28 (dk_at dksX4_init_2 23 rfl rfl)
theorem dX4_init_70 : decode cX4_init 70 = .ok (.iconst 1, 1) := dk_4 (dk_at dksX4_init_3 0 rfl rfl)
theorem dX4_init_71 : decode cX4_init 71 = .ok (.iastore, 1) := dk_79 (dk_at dksX4_init_3 1 rfl rfl)
theorem dX4_init_72 : decode cX4_init 72 = .ok (.iinc 2 1, 3) := dk_132 2 1 (dk_at dksX4_init_3 2 rfl rfl)
theorem dX4_init_75 : decode cX4_init 75 = .ok (.goto (-31), 3) := dk_167 255 225 (dk_at dksX4_init_3 5 rfl rfl)
theorem dX4_init_78 : decode cX4_init 78 = .ok (.return_, 1) := dk_177 (dk_at dksX4_init_3 8 rfl rfl)
abbrev cX4_at : ByteArray := prog_2_method_2_code
def yX4_at : MethodName := ⟨RX4, "at", "(LSlidingtray$Lie;)LSlidingtray$Aim;"⟩
def dkwX4_at_2 : List UInt8 := [167, 255, 232, 44, 176]
abbrev dktX4_at_2 : List UInt8 := dkwX4_at_2 ++ []
def dkwX4_at_1 : List UInt8 := [180, 0, 29, 190, 162, 0, 21, 44, 180, 0, 29, 29, 42, 180, 0, 29, 29, 46, 79, 132, 3, 1]
abbrev dktX4_at_1 : List UInt8 := dkwX4_at_1 ++ dktX4_at_2
def dkwX4_at_0 : List UInt8 := [187, 0, 11, 89, 43, 183, 0, 32, 77, 44, 180, 0, 10, 42, 180, 0, 10, 182, 0, 35, 3, 62, 29, 42]
abbrev dktX4_at_0 : List UInt8 := dkwX4_at_0 ++ dktX4_at_1
theorem dksX4_at_0 : cX4_at.data.toList.drop 0 = dktX4_at_0 := by decide +kernel
theorem dksX4_at_1 : cX4_at.data.toList.drop 24 = dktX4_at_1 := dk_seg dksX4_at_0 24 rfl rfl
theorem dksX4_at_2 : cX4_at.data.toList.drop 46 = dktX4_at_2 := dk_seg dksX4_at_1 22 rfl rfl
theorem dX4_at_0 : decode cX4_at 0 = .ok (.new 11, 3) := dk_187 0 11 (dk_at dksX4_at_0 0 rfl rfl)
theorem dX4_at_3 : decode cX4_at 3 = .ok (.dup, 1) := dk_89 (dk_at dksX4_at_0 3 rfl rfl)
theorem dX4_at_4 : decode cX4_at 4 = .ok (.aload_n 1, 1) := dk_43 (dk_at dksX4_at_0 4 rfl rfl)
theorem dX4_at_5 : decode cX4_at 5 = .ok (.invokespecial 32, 3) := dk_183 0 32 (dk_at dksX4_at_0 5 rfl rfl)
theorem dX4_at_8 : decode cX4_at 8 = .ok (.astore_n 2, 1) := dk_77 (dk_at dksX4_at_0 8 rfl rfl)
theorem dX4_at_9 : decode cX4_at 9 = .ok (.aload_n 2, 1) := dk_44 (dk_at dksX4_at_0 9 rfl rfl)
theorem dX4_at_10 : decode cX4_at 10 = .ok (.getfield 10, 3) := dk_180 0 10 (dk_at dksX4_at_0 10 rfl rfl)
theorem dX4_at_13 : decode cX4_at 13 = .ok (.aload_n 0, 1) := dk_42 (dk_at dksX4_at_0 13 rfl rfl)
theorem dX4_at_14 : decode cX4_at 14 = .ok (.getfield 10, 3) := dk_180 0 10 (dk_at dksX4_at_0 14 rfl rfl)
theorem dX4_at_17 : decode cX4_at 17 = .ok (.invokevirtual 35, 3) := dk_182 0 35 (dk_at dksX4_at_0 17 rfl rfl)
theorem dX4_at_20 : decode cX4_at 20 = .ok (.iconst 0, 1) := dk_3 (dk_at dksX4_at_0 20 rfl rfl)
theorem dX4_at_21 : decode cX4_at 21 = .ok (.istore_n 3, 1) := dk_62 (dk_at dksX4_at_0 21 rfl rfl)
theorem dX4_at_22 : decode cX4_at 22 = .ok (.iload_n 3, 1) := dk_29 (dk_at dksX4_at_0 22 rfl rfl)
theorem dX4_at_23 : decode cX4_at 23 = .ok (.aload_n 0, 1) := dk_42 (dk_at dksX4_at_0 23 rfl rfl)
theorem dX4_at_24 : decode cX4_at 24 = .ok (.getfield 29, 3) := dk_180 0 29 (dk_at dksX4_at_1 0 rfl rfl)
theorem dX4_at_27 : decode cX4_at 27 = .ok (.arraylength, 1) := dk_190 (dk_at dksX4_at_1 3 rfl rfl)
theorem dX4_at_28 : decode cX4_at 28 = .ok (.if_icmp .ge 21, 3) := dk_162 0 21 (dk_at dksX4_at_1 4 rfl rfl)
theorem dX4_at_31 : decode cX4_at 31 = .ok (.aload_n 2, 1) := dk_44 (dk_at dksX4_at_1 7 rfl rfl)
theorem dX4_at_32 : decode cX4_at 32 = .ok (.getfield 29, 3) := dk_180 0 29 (dk_at dksX4_at_1 8 rfl rfl)
theorem dX4_at_35 : decode cX4_at 35 = .ok (.iload_n 3, 1) := dk_29 (dk_at dksX4_at_1 11 rfl rfl)
theorem dX4_at_36 : decode cX4_at 36 = .ok (.aload_n 0, 1) := dk_42 (dk_at dksX4_at_1 12 rfl rfl)
theorem dX4_at_37 : decode cX4_at 37 = .ok (.getfield 29, 3) := dk_180 0 29 (dk_at dksX4_at_1 13 rfl rfl)
theorem dX4_at_40 : decode cX4_at 40 = .ok (.iload_n 3, 1) := dk_29 (dk_at dksX4_at_1 16 rfl rfl)
theorem dX4_at_41 : decode cX4_at 41 = .ok (.iaload, 1) := dk_46 (dk_at dksX4_at_1 17 rfl rfl)
theorem dX4_at_42 : decode cX4_at 42 = .ok (.iastore, 1) := dk_79 (dk_at dksX4_at_1 18 rfl rfl)
theorem dX4_at_43 : decode cX4_at 43 = .ok (.iinc 3 1, 3) := dk_132 3 1 (dk_at dksX4_at_1 19 rfl rfl)
theorem dX4_at_46 : decode cX4_at 46 = .ok (.goto (-24), 3) := dk_167 255 232 (dk_at dksX4_at_2 0 rfl rfl)
theorem dX4_at_49 : decode cX4_at 49 = .ok (.aload_n 2, 1) := dk_44 (dk_at dksX4_at_2 3 rfl rfl)
theorem dX4_at_50 : decode cX4_at 50 = .ok (.areturn, 1) := dk_176 (dk_at dksX4_at_2 4 rfl rfl)
abbrev cX4_counts : ByteArray := prog_2_method_4_code
def yX4_counts : MethodName := ⟨RX4, "counts", "(I)Z"⟩
def dkwX4_counts_0 : List UInt8 := [27, 158, 0, 18, 42, 180, 0, 10, 27, 182, 0, 39, 154, 0, 7, 4, 167, 0, 4, 3, 172]
abbrev dktX4_counts_0 : List UInt8 := dkwX4_counts_0 ++ []
theorem dksX4_counts_0 : cX4_counts.data.toList.drop 0 = dktX4_counts_0 := by decide +kernel
theorem dX4_counts_0 : decode cX4_counts 0 = .ok (.iload_n 1, 1) := dk_27 (dk_at dksX4_counts_0 0 rfl rfl)
theorem dX4_counts_1 : decode cX4_counts 1 = .ok (.ifCond .le 18, 3) := dk_158 0 18 (dk_at dksX4_counts_0 1 rfl rfl)
theorem dX4_counts_4 : decode cX4_counts 4 = .ok (.aload_n 0, 1) := dk_42 (dk_at dksX4_counts_0 4 rfl rfl)
theorem dX4_counts_5 : decode cX4_counts 5 = .ok (.getfield 10, 3) := dk_180 0 10 (dk_at dksX4_counts_0 5 rfl rfl)
theorem dX4_counts_8 : decode cX4_counts 8 = .ok (.iload_n 1, 1) := dk_27 (dk_at dksX4_counts_0 8 rfl rfl)
theorem dX4_counts_9 : decode cX4_counts 9 = .ok (.invokevirtual 39, 3) := dk_182 0 39 (dk_at dksX4_counts_0 9 rfl rfl)
theorem dX4_counts_12 : decode cX4_counts 12 = .ok (.ifCond .ne 7, 3) := dk_154 0 7 (dk_at dksX4_counts_0 12 rfl rfl)
theorem dX4_counts_15 : decode cX4_counts 15 = .ok (.iconst 1, 1) := dk_4 (dk_at dksX4_counts_0 15 rfl rfl)
theorem dX4_counts_16 : decode cX4_counts 16 = .ok (.goto 4, 3) := dk_167 0 4 (dk_at dksX4_counts_0 16 rfl rfl)
theorem dX4_counts_19 : decode cX4_counts 19 = .ok (.iconst 0, 1) := dk_3 (dk_at dksX4_counts_0 19 rfl rfl)
theorem dX4_counts_20 : decode cX4_counts 20 = .ok (.ireturn, 1) := dk_172 (dk_at dksX4_counts_0 20 rfl rfl)
abbrev cX4_isGoal : ByteArray := prog_2_method_3_code
def yX4_isGoal : MethodName := ⟨RX4, "isGoal", "(LSlidingtray$Lie;)Z"⟩
def dkwX4_isGoal_2 : List UInt8 := [160, 0, 7, 4, 167, 0, 4, 3, 61, 132, 3, 1, 167, 255, 203, 28, 172]
abbrev dktX4_isGoal_2 : List UInt8 := dkwX4_isGoal_2 ++ []
def dkwX4_isGoal_1 : List UInt8 := [180, 0, 20, 29, 46, 182, 0, 39, 154, 0, 18, 42, 180, 0, 26, 43, 180, 0, 20, 29, 46, 46, 29]
abbrev dktX4_isGoal_1 : List UInt8 := dkwX4_isGoal_1 ++ dktX4_isGoal_2
def dkwX4_isGoal_0 : List UInt8 := [4, 61, 3, 62, 29, 43, 180, 0, 20, 190, 162, 0, 50, 28, 153, 0, 38, 42, 180, 0, 10, 43]
abbrev dktX4_isGoal_0 : List UInt8 := dkwX4_isGoal_0 ++ dktX4_isGoal_1
theorem dksX4_isGoal_0 : cX4_isGoal.data.toList.drop 0 = dktX4_isGoal_0 := by decide +kernel
theorem dksX4_isGoal_1 : cX4_isGoal.data.toList.drop 22 = dktX4_isGoal_1 := dk_seg dksX4_isGoal_0 22 rfl rfl
theorem dksX4_isGoal_2 : cX4_isGoal.data.toList.drop 45 = dktX4_isGoal_2 := dk_seg dksX4_isGoal_1 23 rfl rfl
theorem dX4_isGoal_0 : decode cX4_isGoal 0 = .ok (.iconst 1, 1) := dk_4 (dk_at dksX4_isGoal_0 0 rfl rfl)
theorem dX4_isGoal_1 : decode cX4_isGoal 1 = .ok (.istore_n 2, 1) := dk_61 (dk_at dksX4_isGoal_0 1 rfl rfl)
theorem dX4_isGoal_2 : decode cX4_isGoal 2 = .ok (.iconst 0, 1) := dk_3 (dk_at dksX4_isGoal_0 2 rfl rfl)
theorem dX4_isGoal_3 : decode cX4_isGoal 3 = .ok (.istore_n 3, 1) := dk_62 (dk_at dksX4_isGoal_0 3 rfl rfl)
theorem dX4_isGoal_4 : decode cX4_isGoal 4 = .ok (.iload_n 3, 1) := dk_29 (dk_at dksX4_isGoal_0 4 rfl rfl)
theorem dX4_isGoal_5 : decode cX4_isGoal 5 = .ok (.aload_n 1, 1) := dk_43 (dk_at dksX4_isGoal_0 5 rfl rfl)
theorem dX4_isGoal_6 : decode cX4_isGoal 6 = .ok (.getfield 20, 3) := dk_180 0 20 (dk_at dksX4_isGoal_0 6 rfl rfl)
theorem dX4_isGoal_9 : decode cX4_isGoal 9 = .ok (.arraylength, 1) := dk_190 (dk_at dksX4_isGoal_0 9 rfl rfl)
theorem dX4_isGoal_10 : decode cX4_isGoal 10 = .ok (.if_icmp .ge 50, 3) := dk_162 0 50 (dk_at dksX4_isGoal_0 10 rfl rfl)
theorem dX4_isGoal_13 : decode cX4_isGoal 13 = .ok (.iload_n 2, 1) := dk_28 (dk_at dksX4_isGoal_0 13 rfl rfl)
theorem dX4_isGoal_14 : decode cX4_isGoal 14 = .ok (.ifCond .eq 38, 3) := dk_153 0 38 (dk_at dksX4_isGoal_0 14 rfl rfl)
theorem dX4_isGoal_17 : decode cX4_isGoal 17 = .ok (.aload_n 0, 1) := dk_42 (dk_at dksX4_isGoal_0 17 rfl rfl)
theorem dX4_isGoal_18 : decode cX4_isGoal 18 = .ok (.getfield 10, 3) := dk_180 0 10 (dk_at dksX4_isGoal_0 18 rfl rfl)
theorem dX4_isGoal_21 : decode cX4_isGoal 21 = .ok (.aload_n 1, 1) := dk_43 (dk_at dksX4_isGoal_0 21 rfl rfl)
theorem dX4_isGoal_22 : decode cX4_isGoal 22 = .ok (.getfield 20, 3) := dk_180 0 20 (dk_at dksX4_isGoal_1 0 rfl rfl)
theorem dX4_isGoal_25 : decode cX4_isGoal 25 = .ok (.iload_n 3, 1) := dk_29 (dk_at dksX4_isGoal_1 3 rfl rfl)
theorem dX4_isGoal_26 : decode cX4_isGoal 26 = .ok (.iaload, 1) := dk_46 (dk_at dksX4_isGoal_1 4 rfl rfl)
theorem dX4_isGoal_27 : decode cX4_isGoal 27 = .ok (.invokevirtual 39, 3) := dk_182 0 39 (dk_at dksX4_isGoal_1 5 rfl rfl)
theorem dX4_isGoal_30 : decode cX4_isGoal 30 = .ok (.ifCond .ne 18, 3) := dk_154 0 18 (dk_at dksX4_isGoal_1 8 rfl rfl)
theorem dX4_isGoal_33 : decode cX4_isGoal 33 = .ok (.aload_n 0, 1) := dk_42 (dk_at dksX4_isGoal_1 11 rfl rfl)
theorem dX4_isGoal_34 : decode cX4_isGoal 34 = .ok (.getfield 26, 3) := dk_180 0 26 (dk_at dksX4_isGoal_1 12 rfl rfl)
theorem dX4_isGoal_37 : decode cX4_isGoal 37 = .ok (.aload_n 1, 1) := dk_43 (dk_at dksX4_isGoal_1 15 rfl rfl)
theorem dX4_isGoal_38 : decode cX4_isGoal 38 = .ok (.getfield 20, 3) := dk_180 0 20 (dk_at dksX4_isGoal_1 16 rfl rfl)
theorem dX4_isGoal_41 : decode cX4_isGoal 41 = .ok (.iload_n 3, 1) := dk_29 (dk_at dksX4_isGoal_1 19 rfl rfl)
theorem dX4_isGoal_42 : decode cX4_isGoal 42 = .ok (.iaload, 1) := dk_46 (dk_at dksX4_isGoal_1 20 rfl rfl)
theorem dX4_isGoal_43 : decode cX4_isGoal 43 = .ok (.iaload, 1) := dk_46 (dk_at dksX4_isGoal_1 21 rfl rfl)
theorem dX4_isGoal_44 : decode cX4_isGoal 44 = .ok (.iload_n 3, 1) := dk_29 (dk_at dksX4_isGoal_1 22 rfl rfl)
theorem dX4_isGoal_45 : decode cX4_isGoal 45 = .ok (.if_icmp .ne 7, 3) := dk_160 0 7 (dk_at dksX4_isGoal_2 0 rfl rfl)
theorem dX4_isGoal_48 : decode cX4_isGoal 48 = .ok (.iconst 1, 1) := dk_4 (dk_at dksX4_isGoal_2 3 rfl rfl)
theorem dX4_isGoal_49 : decode cX4_isGoal 49 = .ok (.goto 4, 3) := dk_167 0 4 (dk_at dksX4_isGoal_2 4 rfl rfl)
theorem dX4_isGoal_52 : decode cX4_isGoal 52 = .ok (.iconst 0, 1) := dk_3 (dk_at dksX4_isGoal_2 7 rfl rfl)
theorem dX4_isGoal_53 : decode cX4_isGoal 53 = .ok (.istore_n 2, 1) := dk_61 (dk_at dksX4_isGoal_2 8 rfl rfl)
theorem dX4_isGoal_54 : decode cX4_isGoal 54 = .ok (.iinc 3 1, 3) := dk_132 3 1 (dk_at dksX4_isGoal_2 9 rfl rfl)
theorem dX4_isGoal_57 : decode cX4_isGoal 57 = .ok (.goto (-53), 3) := dk_167 255 203 (dk_at dksX4_isGoal_2 12 rfl rfl)
theorem dX4_isGoal_60 : decode cX4_isGoal 60 = .ok (.iload_n 2, 1) := dk_28 (dk_at dksX4_isGoal_2 15 rfl rfl)
theorem dX4_isGoal_61 : decode cX4_isGoal 61 = .ok (.ireturn, 1) := dk_172 (dk_at dksX4_isGoal_2 16 rfl rfl)
theorem q134 : (Jvm.Cond.initialized "Slidingtray$Aim") ∈ lw_all := lw_g (lw_at lw_m1 33 rfl) rfl
theorem q287 : (Jvm.Cond.selects "Slidingtray$Aim" ({ cls := "java/lang/Object", name := "getClass", desc := "()Ljava/lang/Class;" } : Jvm.MethodName) ({ cls := "java/lang/Object", name := "getClass", desc := "()Ljava/lang/Class;" } : Jvm.MethodName)) ∈ lw_all := lw_g (lw_at lw_m1 186 rfl) rfl
theorem q742 : (Jvm.Cond.selects "Slidingtray$Aim" ({ cls := "java/lang/Object", name := "equals", desc := "(Ljava/lang/Object;)Z" } : Jvm.MethodName) ({ cls := "java/lang/Object", name := "equals", desc := "(Ljava/lang/Object;)Z" } : Jvm.MethodName)) ∈ lw_all := lw_g (lw_at lw_m3 161 rfl) rfl
theorem q1054 : (Jvm.Cond.fieldLinkNest "Slidingtray$Aim" (20 : Nat) "Slidingtray$Lie" "tiles" "[I" "Slidingtray") ∈ lw_tbl := lw_at lw_m4 233 rfl
theorem q1068 : (Jvm.Cond.instantiable "Slidingtray$Aim" (4 : Nat)) ∈ lw_all := lw_g (lw_at lw_m5 7 rfl) rfl
theorem q1070 : (Jvm.Cond.instanceMethod ({ cls := "Slidingtray$Aim", name := "<init>", desc := "(LSlidingtray$Lie;)V" } : Jvm.MethodName)) ∈ lw_all := lw_g (lw_at lw_m5 9 rfl) rfl
theorem q1071 : (Jvm.Cond.code ({ cls := "Slidingtray$Aim", name := "<init>", desc := "(LSlidingtray$Lie;)V" } : Jvm.MethodName) prog_2_method_1_code (3 : Nat) (Option.none : Option Jvm.ClassFile.FieldType)) ∈ lw_all := lw_g (lw_at lw_m5 10 rfl) rfl
theorem q1072 : (Jvm.Cond.methodLink "Slidingtray$Aim" (1 : Nat) ({ cls := "java/lang/Object", name := "<init>", desc := "()V" } : Jvm.MethodName)) ∈ lw_all := lw_g (lw_at lw_m5 11 rfl) rfl
theorem q1073 : (Jvm.Cond.classLink "Slidingtray$Aim" (7 : Nat) "java/util/BitSet") ∈ lw_all := lw_g (lw_at lw_m5 12 rfl) rfl
theorem q1074 : (Jvm.Cond.methodLink "Slidingtray$Aim" (9 : Nat) ({ cls := "java/util/BitSet", name := "<init>", desc := "()V" } : Jvm.MethodName)) ∈ lw_all := lw_g (lw_at lw_m5 13 rfl) rfl
theorem q1075 : (Jvm.Cond.fieldLink "Slidingtray$Aim" (16 : Nat) "Slidingtray$Aim" "lie" "LSlidingtray$Lie;") ∈ lw_all := lw_g (lw_at lw_m5 14 rfl) rfl
theorem q1079 : (Jvm.Cond.fieldLink "Slidingtray$Aim" (26 : Nat) "Slidingtray$Aim" "opens" "[I") ∈ lw_all := lw_g (lw_at lw_m5 18 rfl) rfl
theorem q1081 : (Jvm.Cond.fieldLink "Slidingtray$Aim" (10 : Nat) "Slidingtray$Aim" "free" "Ljava/util/BitSet;") ∈ lw_all := lw_g (lw_at lw_m5 20 rfl) rfl
theorem q1083 : (Jvm.Cond.fieldLink "Slidingtray$Aim" (29 : Nat) "Slidingtray$Aim" "weights" "[I") ∈ lw_all := lw_g (lw_at lw_m5 22 rfl) rfl
theorem q1088 : (Jvm.Cond.laysFinal "Slidingtray$Aim" "Slidingtray$Aim" "lie" "LSlidingtray$Lie;") ∈ lw_all := lw_g (lw_at lw_m5 27 rfl) rfl
theorem q1089 : (Jvm.Cond.soleField "Slidingtray$Aim" "lie") ∈ lw_all := lw_g (lw_at lw_m5 28 rfl) rfl
theorem q1090 : (Jvm.Cond.laysFinal "Slidingtray$Aim" "Slidingtray$Aim" "opens" "[I") ∈ lw_all := lw_g (lw_at lw_m5 29 rfl) rfl
theorem q1091 : (Jvm.Cond.soleField "Slidingtray$Aim" "opens") ∈ lw_all := lw_g (lw_at lw_m5 30 rfl) rfl
theorem q1092 : (Jvm.Cond.laysFinal "Slidingtray$Aim" "Slidingtray$Aim" "free" "Ljava/util/BitSet;") ∈ lw_all := lw_g (lw_at lw_m5 31 rfl) rfl
theorem q1093 : (Jvm.Cond.soleField "Slidingtray$Aim" "free") ∈ lw_all := lw_g (lw_at lw_m5 32 rfl) rfl
theorem q1094 : (Jvm.Cond.laysFinal "Slidingtray$Aim" "Slidingtray$Aim" "weights" "[I") ∈ lw_all := lw_g (lw_at lw_m5 33 rfl) rfl
theorem q1095 : (Jvm.Cond.soleField "Slidingtray$Aim" "weights") ∈ lw_all := lw_g (lw_at lw_m5 34 rfl) rfl
theorem q1096 : (Jvm.Cond.superclass "Slidingtray$Aim" "java/lang/Object") ∈ lw_all := lw_g (lw_at lw_m5 35 rfl) rfl
theorem q1178 : (Jvm.Cond.instanceMethod ({ cls := "Slidingtray$Aim", name := "at", desc := "(LSlidingtray$Lie;)LSlidingtray$Aim;" } : Jvm.MethodName)) ∈ lw_all := lw_g (lw_at lw_m5 117 rfl) rfl
theorem q1179 : (Jvm.Cond.selects "Slidingtray$Aim" ({ cls := "Slidingtray$Aim", name := "at", desc := "(LSlidingtray$Lie;)LSlidingtray$Aim;" } : Jvm.MethodName) ({ cls := "Slidingtray$Aim", name := "at", desc := "(LSlidingtray$Lie;)LSlidingtray$Aim;" } : Jvm.MethodName)) ∈ lw_all := lw_g (lw_at lw_m5 118 rfl) rfl
theorem q1180 : (Jvm.Cond.code ({ cls := "Slidingtray$Aim", name := "at", desc := "(LSlidingtray$Lie;)LSlidingtray$Aim;" } : Jvm.MethodName) prog_2_method_2_code (4 : Nat) (Option.some (Jvm.ClassFile.FieldType.object "Slidingtray$Aim"))) ∈ lw_all := lw_g (lw_at lw_m5 119 rfl) rfl
theorem q1181 : (Jvm.Cond.classLink "Slidingtray$Aim" (11 : Nat) "Slidingtray$Aim") ∈ lw_all := lw_g (lw_at lw_m5 120 rfl) rfl
theorem q1182 : (Jvm.Cond.methodLink "Slidingtray$Aim" (32 : Nat) ({ cls := "Slidingtray$Aim", name := "<init>", desc := "(LSlidingtray$Lie;)V" } : Jvm.MethodName)) ∈ lw_all := lw_g (lw_at lw_m5 121 rfl) rfl
theorem q1183 : (Jvm.Cond.methodLink "Slidingtray$Aim" (35 : Nat) ({ cls := "java/util/BitSet", name := "or", desc := "(Ljava/util/BitSet;)V" } : Jvm.MethodName)) ∈ lw_all := lw_g (lw_at lw_m5 122 rfl) rfl
theorem q1232 : (Jvm.Cond.instanceMethod ({ cls := "Slidingtray$Aim", name := "counts", desc := "(I)Z" } : Jvm.MethodName)) ∈ lw_all := lw_g (lw_at lw_m5 171 rfl) rfl
theorem q1233 : (Jvm.Cond.selects "Slidingtray$Aim" ({ cls := "Slidingtray$Aim", name := "counts", desc := "(I)Z" } : Jvm.MethodName) ({ cls := "Slidingtray$Aim", name := "counts", desc := "(I)Z" } : Jvm.MethodName)) ∈ lw_all := lw_g (lw_at lw_m5 172 rfl) rfl
theorem q1234 : (Jvm.Cond.code ({ cls := "Slidingtray$Aim", name := "counts", desc := "(I)Z" } : Jvm.MethodName) prog_2_method_4_code (2 : Nat) (Option.some Jvm.ClassFile.FieldType.boolean)) ∈ lw_all := lw_g (lw_at lw_m5 173 rfl) rfl
theorem q1235 : (Jvm.Cond.methodLink "Slidingtray$Aim" (39 : Nat) ({ cls := "java/util/BitSet", name := "get", desc := "(I)Z" } : Jvm.MethodName)) ∈ lw_all := lw_g (lw_at lw_m5 174 rfl) rfl
theorem q1471 : (Jvm.Cond.instanceMethod ({ cls := "Slidingtray$Aim", name := "isGoal", desc := "(LSlidingtray$Lie;)Z" } : Jvm.MethodName)) ∈ lw_all := lw_g (lw_at lw_m6 170 rfl) rfl
theorem q1472 : (Jvm.Cond.selects "Slidingtray$Aim" ({ cls := "Slidingtray$Aim", name := "isGoal", desc := "(LSlidingtray$Lie;)Z" } : Jvm.MethodName) ({ cls := "Slidingtray$Aim", name := "isGoal", desc := "(LSlidingtray$Lie;)Z" } : Jvm.MethodName)) ∈ lw_all := lw_g (lw_at lw_m6 171 rfl) rfl
theorem q1473 : (Jvm.Cond.code ({ cls := "Slidingtray$Aim", name := "isGoal", desc := "(LSlidingtray$Lie;)Z" } : Jvm.MethodName) prog_2_method_3_code (4 : Nat) (Option.some Jvm.ClassFile.FieldType.boolean)) ∈ lw_all := lw_g (lw_at lw_m6 172 rfl) rfl
theorem q3308 : (Jvm.Cond.castable "Slidingtray$Aim" "java/lang/Object") ∈ lw_tbl := lw_at lw_m14 87 rfl
theorem in_X4 : ∀ w ∈ wsX40, w ∈ lw_all := lw_in wsX40 [1088, 1090, 1092, 1094] (by decide +kernel) (by decide +kernel)
/-! Slidingtray$Found -/
set_option maxRecDepth 100000
def RX5 : String := "Slidingtray$Found"
def TX5 : u_T := fun k => match k with
  | 0 => ("Slidingtray$Found", "cost", "I", false)
  | 1 => ("Slidingtray$Found", "taken", "I", false)
  | 2 => ("Slidingtray$Found", "rounds", "I", false)
  | _ => ("Slidingtray$Found", "way", "Ljava/util/List;", true)
def tyX5 : Nat → FieldType := fun k => match k with
  | 0 => .int
  | 1 => .int
  | 2 => .int
  | _ => .object "java/util/List"
abbrev wsX50 : List Cond := u_ws RX5 TX5 4
theorem nmX5 : ∀ a, a < 4 → ∀ b, b < 4 → a ≠ b → (TX5 a).2.1 ≠ (TX5 b).2.1 := by decide +kernel
theorem tyX5_ok : ∀ k, k < 4 → parseFieldDescriptor (TX5 k).2.2.1 = some (tyX5 k) := by decide +kernel
abbrev cX5_init : ByteArray := prog_6_method_1_code
def yX5_init : MethodName := ⟨RX5, "<init>", "()V"⟩
def dkwX5_init_0 : List UInt8 := [42, 183, 0, 3, 42, 2, 181, 0, 9, 42, 187, 0, 15, 89, 183, 0, 17, 181, 0, 18, 177]
abbrev dktX5_init_0 : List UInt8 := dkwX5_init_0 ++ []
theorem dksX5_init_0 : cX5_init.data.toList.drop 0 = dktX5_init_0 := by decide +kernel
theorem dX5_init_0 : decode cX5_init 0 = .ok (.aload_n 0, 1) := dk_42 (dk_at dksX5_init_0 0 rfl rfl)
theorem dX5_init_1 : decode cX5_init 1 = .ok (.invokespecial 3, 3) := dk_183 0 3 (dk_at dksX5_init_0 1 rfl rfl)
theorem dX5_init_4 : decode cX5_init 4 = .ok (.aload_n 0, 1) := dk_42 (dk_at dksX5_init_0 4 rfl rfl)
theorem dX5_init_5 : decode cX5_init 5 = .ok (.iconst (-1), 1) := dk_2 (dk_at dksX5_init_0 5 rfl rfl)
theorem dX5_init_6 : decode cX5_init 6 = .ok (.putfield 9, 3) := dk_181 0 9 (dk_at dksX5_init_0 6 rfl rfl)
theorem dX5_init_9 : decode cX5_init 9 = .ok (.aload_n 0, 1) := dk_42 (dk_at dksX5_init_0 9 rfl rfl)
theorem dX5_init_10 : decode cX5_init 10 = .ok (.new 15, 3) := dk_187 0 15 (dk_at dksX5_init_0 10 rfl rfl)
theorem dX5_init_13 : decode cX5_init 13 = .ok (.dup, 1) := dk_89 (dk_at dksX5_init_0 13 rfl rfl)
theorem dX5_init_14 : decode cX5_init 14 = .ok (.invokespecial 17, 3) := dk_183 0 17 (dk_at dksX5_init_0 14 rfl rfl)
theorem dX5_init_17 : decode cX5_init 17 = .ok (.putfield 18, 3) := dk_181 0 18 (dk_at dksX5_init_0 17 rfl rfl)
theorem dX5_init_20 : decode cX5_init 20 = .ok (.return_, 1) := dk_177 (dk_at dksX5_init_0 20 rfl rfl)
theorem q135 : (Jvm.Cond.initialized "Slidingtray$Found") ∈ lw_all := lw_g (lw_at lw_m1 34 rfl) rfl
theorem q291 : (Jvm.Cond.selects "Slidingtray$Found" ({ cls := "java/lang/Object", name := "getClass", desc := "()Ljava/lang/Class;" } : Jvm.MethodName) ({ cls := "java/lang/Object", name := "getClass", desc := "()Ljava/lang/Class;" } : Jvm.MethodName)) ∈ lw_all := lw_g (lw_at lw_m1 190 rfl) rfl
theorem q746 : (Jvm.Cond.selects "Slidingtray$Found" ({ cls := "java/lang/Object", name := "equals", desc := "(Ljava/lang/Object;)Z" } : Jvm.MethodName) ({ cls := "java/lang/Object", name := "equals", desc := "(Ljava/lang/Object;)Z" } : Jvm.MethodName)) ∈ lw_all := lw_g (lw_at lw_m3 165 rfl) rfl
theorem q1104 : (Jvm.Cond.instantiable "Slidingtray$Found" (4 : Nat)) ∈ lw_all := lw_g (lw_at lw_m5 43 rfl) rfl
theorem q1106 : (Jvm.Cond.instanceMethod ({ cls := "Slidingtray$Found", name := "<init>", desc := "()V" } : Jvm.MethodName)) ∈ lw_all := lw_g (lw_at lw_m5 45 rfl) rfl
theorem q1107 : (Jvm.Cond.code ({ cls := "Slidingtray$Found", name := "<init>", desc := "()V" } : Jvm.MethodName) prog_6_method_1_code (1 : Nat) (Option.none : Option Jvm.ClassFile.FieldType)) ∈ lw_all := lw_g (lw_at lw_m5 46 rfl) rfl
theorem q1108 : (Jvm.Cond.methodLink "Slidingtray$Found" (3 : Nat) ({ cls := "java/lang/Object", name := "<init>", desc := "()V" } : Jvm.MethodName)) ∈ lw_all := lw_g (lw_at lw_m5 47 rfl) rfl
theorem q1109 : (Jvm.Cond.classLink "Slidingtray$Found" (15 : Nat) "java/util/ArrayList") ∈ lw_all := lw_g (lw_at lw_m5 48 rfl) rfl
theorem q1110 : (Jvm.Cond.methodLink "Slidingtray$Found" (17 : Nat) ({ cls := "java/util/ArrayList", name := "<init>", desc := "()V" } : Jvm.MethodName)) ∈ lw_all := lw_g (lw_at lw_m5 49 rfl) rfl
theorem q1111 : (Jvm.Cond.fieldLink "Slidingtray$Found" (9 : Nat) "Slidingtray$Found" "cost" "I") ∈ lw_all := lw_g (lw_at lw_m5 50 rfl) rfl
theorem q1118 : (Jvm.Cond.fieldLink "Slidingtray$Found" (18 : Nat) "Slidingtray$Found" "way" "Ljava/util/List;") ∈ lw_all := lw_g (lw_at lw_m5 57 rfl) rfl
theorem q1121 : (Jvm.Cond.lays "Slidingtray$Found" "Slidingtray$Found" "cost" "I") ∈ lw_all := lw_g (lw_at lw_m5 60 rfl) rfl
theorem q1122 : (Jvm.Cond.soleField "Slidingtray$Found" "cost") ∈ lw_all := lw_g (lw_at lw_m5 61 rfl) rfl
theorem q1123 : (Jvm.Cond.lays "Slidingtray$Found" "Slidingtray$Found" "taken" "I") ∈ lw_all := lw_g (lw_at lw_m5 62 rfl) rfl
theorem q1124 : (Jvm.Cond.soleField "Slidingtray$Found" "taken") ∈ lw_all := lw_g (lw_at lw_m5 63 rfl) rfl
theorem q1125 : (Jvm.Cond.lays "Slidingtray$Found" "Slidingtray$Found" "rounds" "I") ∈ lw_all := lw_g (lw_at lw_m5 64 rfl) rfl
theorem q1126 : (Jvm.Cond.soleField "Slidingtray$Found" "rounds") ∈ lw_all := lw_g (lw_at lw_m5 65 rfl) rfl
theorem q1127 : (Jvm.Cond.laysFinal "Slidingtray$Found" "Slidingtray$Found" "way" "Ljava/util/List;") ∈ lw_all := lw_g (lw_at lw_m5 66 rfl) rfl
theorem q1128 : (Jvm.Cond.soleField "Slidingtray$Found" "way") ∈ lw_all := lw_g (lw_at lw_m5 67 rfl) rfl
theorem q1129 : (Jvm.Cond.superclass "Slidingtray$Found" "java/lang/Object") ∈ lw_all := lw_g (lw_at lw_m5 68 rfl) rfl
theorem q3309 : (Jvm.Cond.castable "Slidingtray$Found" "java/lang/Object") ∈ lw_tbl := lw_at lw_m14 88 rfl
theorem in_X5 : ∀ w ∈ wsX50, w ∈ lw_all := lw_in wsX50 [1121, 1123, 1125, 1127] (by decide +kernel) (by decide +kernel)
/-! Slidingtray$Image -/
set_option maxRecDepth 100000
def RX7 : String := "Slidingtray$Image"
def TX7 : u_T := fun k => match k with
  | 0 => ("Slidingtray$Image", "lie", "LSlidingtray$Lie;", true)
  | _ => ("Slidingtray$Image", "aim", "LSlidingtray$Aim;", true)
def tyX7 : Nat → FieldType := fun k => match k with
  | 0 => .object "Slidingtray$Lie"
  | _ => .object "Slidingtray$Aim"
abbrev wsX70 : List Cond := u_ws RX7 TX7 2
theorem nmX7 : ∀ a, a < 2 → ∀ b, b < 2 → a ≠ b → (TX7 a).2.1 ≠ (TX7 b).2.1 := by decide +kernel
theorem tyX7_ok : ∀ k, k < 2 → parseFieldDescriptor (TX7 k).2.2.1 = some (tyX7 k) := by decide +kernel
abbrev cX7_init : ByteArray := prog_7_method_1_code
def yX7_init : MethodName := ⟨RX7, "<init>", "(LSlidingtray$Lie;LSlidingtray$Aim;)V"⟩
def dkwX7_init_0 : List UInt8 := [42, 183, 0, 1, 42, 43, 181, 0, 7, 42, 44, 181, 0, 13, 177]
abbrev dktX7_init_0 : List UInt8 := dkwX7_init_0 ++ []
theorem dksX7_init_0 : cX7_init.data.toList.drop 0 = dktX7_init_0 := by decide +kernel
theorem dX7_init_0 : decode cX7_init 0 = .ok (.aload_n 0, 1) := dk_42 (dk_at dksX7_init_0 0 rfl rfl)
theorem dX7_init_1 : decode cX7_init 1 = .ok (.invokespecial 1, 3) := dk_183 0 1 (dk_at dksX7_init_0 1 rfl rfl)
theorem dX7_init_4 : decode cX7_init 4 = .ok (.aload_n 0, 1) := dk_42 (dk_at dksX7_init_0 4 rfl rfl)
theorem dX7_init_5 : decode cX7_init 5 = .ok (.aload_n 1, 1) := dk_43 (dk_at dksX7_init_0 5 rfl rfl)
theorem dX7_init_6 : decode cX7_init 6 = .ok (.putfield 7, 3) := dk_181 0 7 (dk_at dksX7_init_0 6 rfl rfl)
theorem dX7_init_9 : decode cX7_init 9 = .ok (.aload_n 0, 1) := dk_42 (dk_at dksX7_init_0 9 rfl rfl)
theorem dX7_init_10 : decode cX7_init 10 = .ok (.aload_n 2, 1) := dk_44 (dk_at dksX7_init_0 10 rfl rfl)
theorem dX7_init_11 : decode cX7_init 11 = .ok (.putfield 13, 3) := dk_181 0 13 (dk_at dksX7_init_0 11 rfl rfl)
theorem dX7_init_14 : decode cX7_init 14 = .ok (.return_, 1) := dk_177 (dk_at dksX7_init_0 14 rfl rfl)
theorem q148 : (Jvm.Cond.initialized "Slidingtray$Image") ∈ lw_all := lw_g (lw_at lw_m1 47 rfl) rfl
theorem q292 : (Jvm.Cond.selects "Slidingtray$Image" ({ cls := "java/lang/Object", name := "getClass", desc := "()Ljava/lang/Class;" } : Jvm.MethodName) ({ cls := "java/lang/Object", name := "getClass", desc := "()Ljava/lang/Class;" } : Jvm.MethodName)) ∈ lw_all := lw_g (lw_at lw_m1 191 rfl) rfl
theorem q747 : (Jvm.Cond.selects "Slidingtray$Image" ({ cls := "java/lang/Object", name := "equals", desc := "(Ljava/lang/Object;)Z" } : Jvm.MethodName) ({ cls := "java/lang/Object", name := "equals", desc := "(Ljava/lang/Object;)Z" } : Jvm.MethodName)) ∈ lw_all := lw_g (lw_at lw_m3 166 rfl) rfl
theorem q2430 : (Jvm.Cond.instantiable "Slidingtray$Image" (2 : Nat)) ∈ lw_all := lw_g (lw_at lw_m10 169 rfl) rfl
theorem q2432 : (Jvm.Cond.instanceMethod ({ cls := "Slidingtray$Image", name := "<init>", desc := "(LSlidingtray$Lie;LSlidingtray$Aim;)V" } : Jvm.MethodName)) ∈ lw_all := lw_g (lw_at lw_m10 171 rfl) rfl
theorem q2433 : (Jvm.Cond.code ({ cls := "Slidingtray$Image", name := "<init>", desc := "(LSlidingtray$Lie;LSlidingtray$Aim;)V" } : Jvm.MethodName) prog_7_method_1_code (3 : Nat) (Option.none : Option Jvm.ClassFile.FieldType)) ∈ lw_all := lw_g (lw_at lw_m10 172 rfl) rfl
theorem q2434 : (Jvm.Cond.methodLink "Slidingtray$Image" (1 : Nat) ({ cls := "java/lang/Object", name := "<init>", desc := "()V" } : Jvm.MethodName)) ∈ lw_all := lw_g (lw_at lw_m10 173 rfl) rfl
theorem q2435 : (Jvm.Cond.fieldLink "Slidingtray$Image" (7 : Nat) "Slidingtray$Image" "lie" "LSlidingtray$Lie;") ∈ lw_all := lw_g (lw_at lw_m10 174 rfl) rfl
theorem q2437 : (Jvm.Cond.fieldLink "Slidingtray$Image" (13 : Nat) "Slidingtray$Image" "aim" "LSlidingtray$Aim;") ∈ lw_all := lw_g (lw_at lw_m10 176 rfl) rfl
theorem q2439 : (Jvm.Cond.laysFinal "Slidingtray$Image" "Slidingtray$Image" "lie" "LSlidingtray$Lie;") ∈ lw_all := lw_g (lw_at lw_m10 178 rfl) rfl
theorem q2440 : (Jvm.Cond.soleField "Slidingtray$Image" "lie") ∈ lw_all := lw_g (lw_at lw_m10 179 rfl) rfl
theorem q2441 : (Jvm.Cond.laysFinal "Slidingtray$Image" "Slidingtray$Image" "aim" "LSlidingtray$Aim;") ∈ lw_all := lw_g (lw_at lw_m10 180 rfl) rfl
theorem q2442 : (Jvm.Cond.soleField "Slidingtray$Image" "aim") ∈ lw_all := lw_g (lw_at lw_m10 181 rfl) rfl
theorem q2443 : (Jvm.Cond.superclass "Slidingtray$Image" "java/lang/Object") ∈ lw_all := lw_g (lw_at lw_m10 182 rfl) rfl
theorem q3294 : (Jvm.Cond.castable "Slidingtray$Image" "java/lang/Object") ∈ lw_tbl := lw_at lw_m14 73 rfl
theorem in_X7 : ∀ w ∈ wsX70, w ∈ lw_all := lw_in wsX70 [2439, 2441] (by decide +kernel) (by decide +kernel)
/-! Slidingtray$Part -/
set_option maxRecDepth 100000
def RX8 : String := "Slidingtray$Part"
def TX8 : u_T := fun k => match k with
  | 0 => ("Slidingtray$Part", "set", "I", true)
  | 1 => ("Slidingtray$Part", "tiles", "Ljava/util/List;", true)
  | 2 => ("Slidingtray$Part", "costs", "[I", true)
  | _ => ("Slidingtray$Part", "places", "I", false)
def tyX8 : Nat → FieldType := fun k => match k with
  | 0 => .int
  | 1 => .object "java/util/List"
  | 2 => .array .int
  | _ => .int
abbrev wsX80 : List Cond := u_ws RX8 TX8 4
theorem nmX8 : ∀ a, a < 4 → ∀ b, b < 4 → a ≠ b → (TX8 a).2.1 ≠ (TX8 b).2.1 := by decide +kernel
theorem tyX8_ok : ∀ k, k < 4 → parseFieldDescriptor (TX8 k).2.2.1 = some (tyX8 k) := by decide +kernel
abbrev cX8_costOf : ByteArray := prog_9_method_7_code
def yX8_costOf : MethodName := ⟨RX8, "costOf", "(LSlidingtray$Lie;)I"⟩
def dkwX8_costOf_3 : List UInt8 := [62, 132, 4, 1, 167, 255, 208, 3, 42, 180, 0, 40, 29, 46, 184, 0, 134, 172]
abbrev dktX8_costOf_3 : List UInt8 := dkwX8_costOf_3 ++ []
def dkwX8_costOf_2 : List UInt8 := [21, 4, 185, 0, 63, 2, 0, 192, 0, 29, 182, 0, 67, 182, 0, 130, 28, 21, 4, 184, 0, 70, 104, 96]
abbrev dktX8_costOf_2 : List UInt8 := dkwX8_costOf_2 ++ dktX8_costOf_3
def dkwX8_costOf_1 : List UInt8 := [62, 3, 54, 4, 21, 4, 42, 180, 0, 12, 185, 0, 52, 1, 0, 162, 0, 40, 29, 43, 42, 180, 0, 12]
abbrev dktX8_costOf_1 : List UInt8 := dkwX8_costOf_1 ++ dktX8_costOf_2
def dkwX8_costOf_0 : List UInt8 := [43, 180, 0, 125, 190, 61, 43, 180, 0, 127, 28, 42, 180, 0, 12, 185, 0, 52, 1, 0, 184, 0, 70, 104]
abbrev dktX8_costOf_0 : List UInt8 := dkwX8_costOf_0 ++ dktX8_costOf_1
theorem dksX8_costOf_0 : cX8_costOf.data.toList.drop 0 = dktX8_costOf_0 := by decide +kernel
theorem dksX8_costOf_1 : cX8_costOf.data.toList.drop 24 = dktX8_costOf_1 := dk_seg dksX8_costOf_0 24 rfl rfl
theorem dksX8_costOf_2 : cX8_costOf.data.toList.drop 48 = dktX8_costOf_2 := dk_seg dksX8_costOf_1 24 rfl rfl
theorem dksX8_costOf_3 : cX8_costOf.data.toList.drop 72 = dktX8_costOf_3 := dk_seg dksX8_costOf_2 24 rfl rfl
theorem dX8_costOf_0 : decode cX8_costOf 0 = .ok (.aload_n 1, 1) := dk_43 (dk_at dksX8_costOf_0 0 rfl rfl)
theorem dX8_costOf_1 : decode cX8_costOf 1 = .ok (.getfield 125, 3) := dk_180 0 125 (dk_at dksX8_costOf_0 1 rfl rfl)
theorem dX8_costOf_4 : decode cX8_costOf 4 = .ok (.arraylength, 1) := dk_190 (dk_at dksX8_costOf_0 4 rfl rfl)
theorem dX8_costOf_5 : decode cX8_costOf 5 = .ok (.istore_n 2, 1) := dk_61 (dk_at dksX8_costOf_0 5 rfl rfl)
theorem dX8_costOf_6 : decode cX8_costOf 6 = .ok (.aload_n 1, 1) := dk_43 (dk_at dksX8_costOf_0 6 rfl rfl)
theorem dX8_costOf_7 : decode cX8_costOf 7 = .ok (.getfield 127, 3) := dk_180 0 127 (dk_at dksX8_costOf_0 7 rfl rfl)
theorem dX8_costOf_10 : decode cX8_costOf 10 = .ok (.iload_n 2, 1) := dk_28 (dk_at dksX8_costOf_0 10 rfl rfl)
theorem dX8_costOf_11 : decode cX8_costOf 11 = .ok (.aload_n 0, 1) := dk_42 (dk_at dksX8_costOf_0 11 rfl rfl)
theorem dX8_costOf_12 : decode cX8_costOf 12 = .ok (.getfield 12, 3) := dk_180 0 12 (dk_at dksX8_costOf_0 12 rfl rfl)
theorem dX8_costOf_15 : decode cX8_costOf 15 = .ok (.invokeinterface 52 1, 5) := by decide +kernel
theorem dX8_costOf_20 : decode cX8_costOf 20 = .ok (.invokestatic 70, 3) := dk_184 0 70 (dk_at dksX8_costOf_0 20 rfl rfl)
theorem dX8_costOf_23 : decode cX8_costOf 23 = .ok (.imul, 1) := dk_104 (dk_at dksX8_costOf_0 23 rfl rfl)
theorem dX8_costOf_24 : decode cX8_costOf 24 = .ok (.istore_n 3, 1) := dk_62 (dk_at dksX8_costOf_1 0 rfl rfl)
theorem dX8_costOf_25 : decode cX8_costOf 25 = .ok (.iconst 0, 1) := dk_3 (dk_at dksX8_costOf_1 1 rfl rfl)
theorem dX8_costOf_26 : decode cX8_costOf 26 = .ok (.istore 4, 2) := dk_54 4 (dk_at dksX8_costOf_1 2 rfl rfl)
theorem dX8_costOf_28 : decode cX8_costOf 28 = .ok (.iload 4, 2) := dk_21 4 (dk_at dksX8_costOf_1 4 rfl rfl)
theorem dX8_costOf_30 : decode cX8_costOf 30 = .ok (.aload_n 0, 1) := dk_42 (dk_at dksX8_costOf_1 6 rfl rfl)
theorem dX8_costOf_31 : decode cX8_costOf 31 = .ok (.getfield 12, 3) := dk_180 0 12 (dk_at dksX8_costOf_1 7 rfl rfl)
theorem dX8_costOf_34 : decode cX8_costOf 34 = .ok (.invokeinterface 52 1, 5) := by decide +kernel
theorem dX8_costOf_39 : decode cX8_costOf 39 = .ok (.if_icmp .ge 40, 3) := dk_162 0 40 (dk_at dksX8_costOf_1 15 rfl rfl)
theorem dX8_costOf_42 : decode cX8_costOf 42 = .ok (.iload_n 3, 1) := dk_29 (dk_at dksX8_costOf_1 18 rfl rfl)
theorem dX8_costOf_43 : decode cX8_costOf 43 = .ok (.aload_n 1, 1) := dk_43 (dk_at dksX8_costOf_1 19 rfl rfl)
theorem dX8_costOf_44 : decode cX8_costOf 44 = .ok (.aload_n 0, 1) := dk_42 (dk_at dksX8_costOf_1 20 rfl rfl)
theorem dX8_costOf_45 : decode cX8_costOf 45 = .ok (.getfield 12, 3) := dk_180 0 12 (dk_at dksX8_costOf_1 21 rfl rfl)
theorem dX8_costOf_48 : decode cX8_costOf 48 = .ok (.iload 4, 2) := dk_21 4 (dk_at dksX8_costOf_2 0 rfl rfl)
theorem dX8_costOf_50 : decode cX8_costOf 50 = .ok (.invokeinterface 63 2, 5) := by decide +kernel
theorem dX8_costOf_55 : decode cX8_costOf 55 = .ok (.checkcast 29, 3) := dk_192 0 29 (dk_at dksX8_costOf_2 7 rfl rfl)
theorem dX8_costOf_58 : decode cX8_costOf 58 = .ok (.invokevirtual 67, 3) := dk_182 0 67 (dk_at dksX8_costOf_2 10 rfl rfl)
theorem dX8_costOf_61 : decode cX8_costOf 61 = .ok (.invokevirtual 130, 3) := dk_182 0 130 (dk_at dksX8_costOf_2 13 rfl rfl)
theorem dX8_costOf_64 : decode cX8_costOf 64 = .ok (.iload_n 2, 1) := dk_28 (dk_at dksX8_costOf_2 16 rfl rfl)
theorem dX8_costOf_65 : decode cX8_costOf 65 = .ok (.iload 4, 2) := dk_21 4 (dk_at dksX8_costOf_2 17 rfl rfl)
theorem dX8_costOf_67 : decode cX8_costOf 67 = .ok (.invokestatic 70, 3) := dk_184 0 70 (dk_at dksX8_costOf_2 19 rfl rfl)
theorem dX8_costOf_70 : decode cX8_costOf 70 = .ok (.imul, 1) := dk_104 (dk_at dksX8_costOf_2 22 rfl rfl)
theorem dX8_costOf_71 : decode cX8_costOf 71 = .ok (.iadd, 1) := dk_96 (dk_at dksX8_costOf_2 23 rfl rfl)
theorem dX8_costOf_72 : decode cX8_costOf 72 = .ok (.istore_n 3, 1) := dk_62 (dk_at dksX8_costOf_3 0 rfl rfl)
theorem dX8_costOf_73 : decode cX8_costOf 73 = .ok (.iinc 4 1, 3) := dk_132 4 1 (dk_at dksX8_costOf_3 1 rfl rfl)
theorem dX8_costOf_76 : decode cX8_costOf 76 = .ok (.goto (-48), 3) := dk_167 255 208 (dk_at dksX8_costOf_3 4 rfl rfl)
theorem dX8_costOf_79 : decode cX8_costOf 79 = .ok (.iconst 0, 1) := dk_3 (dk_at dksX8_costOf_3 7 rfl rfl)
theorem dX8_costOf_80 : decode cX8_costOf 80 = .ok (.aload_n 0, 1) := dk_42 (dk_at dksX8_costOf_3 8 rfl rfl)
theorem dX8_costOf_81 : decode cX8_costOf 81 = .ok (.getfield 40, 3) := dk_180 0 40 (dk_at dksX8_costOf_3 9 rfl rfl)
theorem dX8_costOf_84 : decode cX8_costOf 84 = .ok (.iload_n 3, 1) := dk_29 (dk_at dksX8_costOf_3 12 rfl rfl)
theorem dX8_costOf_85 : decode cX8_costOf 85 = .ok (.iaload, 1) := dk_46 (dk_at dksX8_costOf_3 13 rfl rfl)
theorem dX8_costOf_86 : decode cX8_costOf 86 = .ok (.invokestatic 134, 3) := dk_184 0 134 (dk_at dksX8_costOf_3 14 rfl rfl)
theorem dX8_costOf_89 : decode cX8_costOf 89 = .ok (.ireturn, 1) := dk_172 (dk_at dksX8_costOf_3 17 rfl rfl)
abbrev cX8_power : ByteArray := prog_9_method_4_code
def yX8_power : MethodName := ⟨RX8, "power", "(II)I"⟩
def dkwX8_power_0 : List UInt8 := [4, 61, 3, 62, 29, 27, 162, 0, 13, 28, 26, 104, 61, 132, 3, 1, 167, 255, 244, 28, 172]
abbrev dktX8_power_0 : List UInt8 := dkwX8_power_0 ++ []
theorem dksX8_power_0 : cX8_power.data.toList.drop 0 = dktX8_power_0 := by decide +kernel
theorem dX8_power_0 : decode cX8_power 0 = .ok (.iconst 1, 1) := dk_4 (dk_at dksX8_power_0 0 rfl rfl)
theorem dX8_power_1 : decode cX8_power 1 = .ok (.istore_n 2, 1) := dk_61 (dk_at dksX8_power_0 1 rfl rfl)
theorem dX8_power_2 : decode cX8_power 2 = .ok (.iconst 0, 1) := dk_3 (dk_at dksX8_power_0 2 rfl rfl)
theorem dX8_power_3 : decode cX8_power 3 = .ok (.istore_n 3, 1) := dk_62 (dk_at dksX8_power_0 3 rfl rfl)
theorem dX8_power_4 : decode cX8_power 4 = .ok (.iload_n 3, 1) := dk_29 (dk_at dksX8_power_0 4 rfl rfl)
theorem dX8_power_5 : decode cX8_power 5 = .ok (.iload_n 1, 1) := dk_27 (dk_at dksX8_power_0 5 rfl rfl)
theorem dX8_power_6 : decode cX8_power 6 = .ok (.if_icmp .ge 13, 3) := dk_162 0 13 (dk_at dksX8_power_0 6 rfl rfl)
theorem dX8_power_9 : decode cX8_power 9 = .ok (.iload_n 2, 1) := dk_28 (dk_at dksX8_power_0 9 rfl rfl)
theorem dX8_power_10 : decode cX8_power 10 = .ok (.iload_n 0, 1) := dk_26 (dk_at dksX8_power_0 10 rfl rfl)
theorem dX8_power_11 : decode cX8_power 11 = .ok (.imul, 1) := dk_104 (dk_at dksX8_power_0 11 rfl rfl)
theorem dX8_power_12 : decode cX8_power 12 = .ok (.istore_n 2, 1) := dk_61 (dk_at dksX8_power_0 12 rfl rfl)
theorem dX8_power_13 : decode cX8_power 13 = .ok (.iinc 3 1, 3) := dk_132 3 1 (dk_at dksX8_power_0 13 rfl rfl)
theorem dX8_power_16 : decode cX8_power 16 = .ok (.goto (-12), 3) := dk_167 255 244 (dk_at dksX8_power_0 16 rfl rfl)
theorem dX8_power_19 : decode cX8_power 19 = .ok (.iload_n 2, 1) := dk_28 (dk_at dksX8_power_0 19 rfl rfl)
theorem dX8_power_20 : decode cX8_power 20 = .ok (.ireturn, 1) := dk_172 (dk_at dksX8_power_0 20 rfl rfl)
abbrev cX8_init : ByteArray := prog_9_method_1_code
def yX8_init : MethodName := ⟨RX8, "<init>", "(LSlidingtray$Aim;I)V"⟩
def dkwX8_init_4 : List UInt8 := [177]
abbrev dktX8_init_4 : List UInt8 := dkwX8_init_4 ++ []
def dkwX8_init_3 : List UInt8 := [167, 255, 216, 42, 21, 4, 188, 10, 181, 0, 40, 42, 180, 0, 40, 2, 184, 0, 43, 42, 43, 182, 0, 49]
abbrev dktX8_init_3 : List UInt8 := dkwX8_init_3 ++ dktX8_init_4
def dkwX8_init_2 : List UInt8 := [42, 180, 0, 12, 21, 5, 184, 0, 28, 185, 0, 34, 2, 0, 87, 21, 4, 29, 104, 54, 4, 132, 5, 1]
abbrev dktX8_init_2 : List UInt8 := dkwX8_init_2 ++ dktX8_init_3
def dkwX8_init_1 : List UInt8 := [190, 62, 29, 54, 4, 4, 54, 5, 21, 5, 29, 162, 0, 40, 28, 21, 5, 122, 4, 126, 4, 160, 0, 24]
abbrev dktX8_init_1 : List UInt8 := dkwX8_init_1 ++ dktX8_init_2
def dkwX8_init_0 : List UInt8 := [42, 183, 0, 3, 42, 187, 0, 9, 89, 183, 0, 11, 181, 0, 12, 42, 28, 181, 0, 18, 43, 180, 0, 22]
abbrev dktX8_init_0 : List UInt8 := dkwX8_init_0 ++ dktX8_init_1
theorem dksX8_init_0 : cX8_init.data.toList.drop 0 = dktX8_init_0 := by decide +kernel
theorem dksX8_init_1 : cX8_init.data.toList.drop 24 = dktX8_init_1 := dk_seg dksX8_init_0 24 rfl rfl
theorem dksX8_init_2 : cX8_init.data.toList.drop 48 = dktX8_init_2 := dk_seg dksX8_init_1 24 rfl rfl
theorem dksX8_init_3 : cX8_init.data.toList.drop 72 = dktX8_init_3 := dk_seg dksX8_init_2 24 rfl rfl
theorem dksX8_init_4 : cX8_init.data.toList.drop 96 = dktX8_init_4 := dk_seg dksX8_init_3 24 rfl rfl
theorem dX8_init_0 : decode cX8_init 0 = .ok (.aload_n 0, 1) := dk_42 (dk_at dksX8_init_0 0 rfl rfl)
theorem dX8_init_1 : decode cX8_init 1 = .ok (.invokespecial 3, 3) := dk_183 0 3 (dk_at dksX8_init_0 1 rfl rfl)
theorem dX8_init_4 : decode cX8_init 4 = .ok (.aload_n 0, 1) := dk_42 (dk_at dksX8_init_0 4 rfl rfl)
theorem dX8_init_5 : decode cX8_init 5 = .ok (.new 9, 3) := dk_187 0 9 (dk_at dksX8_init_0 5 rfl rfl)
theorem dX8_init_8 : decode cX8_init 8 = .ok (.dup, 1) := dk_89 (dk_at dksX8_init_0 8 rfl rfl)
theorem dX8_init_9 : decode cX8_init 9 = .ok (.invokespecial 11, 3) := dk_183 0 11 (dk_at dksX8_init_0 9 rfl rfl)
theorem dX8_init_12 : decode cX8_init 12 = .ok (.putfield 12, 3) := dk_181 0 12 (dk_at dksX8_init_0 12 rfl rfl)
theorem dX8_init_15 : decode cX8_init 15 = .ok (.aload_n 0, 1) := dk_42 (dk_at dksX8_init_0 15 rfl rfl)
theorem dX8_init_16 : decode cX8_init 16 = .ok (.iload_n 2, 1) := dk_28 (dk_at dksX8_init_0 16 rfl rfl)
theorem dX8_init_17 : decode cX8_init 17 = .ok (.putfield 18, 3) := dk_181 0 18 (dk_at dksX8_init_0 17 rfl rfl)
theorem dX8_init_20 : decode cX8_init 20 = .ok (.aload_n 1, 1) := dk_43 (dk_at dksX8_init_0 20 rfl rfl)
theorem dX8_init_21 : decode cX8_init 21 = .ok (.getfield 22, 3) := dk_180 0 22 (dk_at dksX8_init_0 21 rfl rfl)
theorem dX8_init_24 : decode cX8_init 24 = .ok (.arraylength, 1) := dk_190 (dk_at dksX8_init_1 0 rfl rfl)
theorem dX8_init_25 : decode cX8_init 25 = .ok (.istore_n 3, 1) := dk_62 (dk_at dksX8_init_1 1 rfl rfl)
theorem dX8_init_26 : decode cX8_init 26 = .ok (.iload_n 3, 1) := dk_29 (dk_at dksX8_init_1 2 rfl rfl)
theorem dX8_init_27 : decode cX8_init 27 = .ok (.istore 4, 2) := dk_54 4 (dk_at dksX8_init_1 3 rfl rfl)
theorem dX8_init_29 : decode cX8_init 29 = .ok (.iconst 1, 1) := dk_4 (dk_at dksX8_init_1 5 rfl rfl)
theorem dX8_init_30 : decode cX8_init 30 = .ok (.istore 5, 2) := dk_54 5 (dk_at dksX8_init_1 6 rfl rfl)
theorem dX8_init_32 : decode cX8_init 32 = .ok (.iload 5, 2) := dk_21 5 (dk_at dksX8_init_1 8 rfl rfl)
theorem dX8_init_34 : decode cX8_init 34 = .ok (.iload_n 3, 1) := dk_29 (dk_at dksX8_init_1 10 rfl rfl)
theorem dX8_init_35 : decode cX8_init 35 = .ok (.if_icmp .ge 40, 3) := dk_162 0 40 (dk_at dksX8_init_1 11 rfl rfl)
theorem dX8_init_38 : decode cX8_init 38 = .ok (.iload_n 2, 1) := dk_28 (dk_at dksX8_init_1 14 rfl rfl)
theorem dX8_init_39 : decode cX8_init 39 = .ok (.iload 5, 2) := dk_21 5 (dk_at dksX8_init_1 15 rfl rfl)
theorem dX8_init_41 : decode cX8_init 41 = .ok (.ishr, 1) := dk_122 (dk_at dksX8_init_1 17 rfl rfl)
theorem dX8_init_42 : decode cX8_init 42 = .ok (.iconst 1, 1) := dk_4 (dk_at dksX8_init_1 18 rfl rfl)
theorem dX8_init_43 : decode cX8_init 43 = .ok (.iand, 1) := dk_126 (dk_at dksX8_init_1 19 rfl rfl)
theorem dX8_init_44 : decode cX8_init 44 = .ok (.iconst 1, 1) := dk_4 (dk_at dksX8_init_1 20 rfl rfl)
theorem dX8_init_45 : decode cX8_init 45 = .ok (.if_icmp .ne 24, 3) := dk_160 0 24 (dk_at dksX8_init_1 21 rfl rfl)
theorem dX8_init_48 : decode cX8_init 48 = .ok (.aload_n 0, 1) := dk_42 (dk_at dksX8_init_2 0 rfl rfl)
theorem dX8_init_49 : decode cX8_init 49 = .ok (.getfield 12, 3) := dk_180 0 12 (dk_at dksX8_init_2 1 rfl rfl)
theorem dX8_init_52 : decode cX8_init 52 = .ok (.iload 5, 2) := dk_21 5 (dk_at dksX8_init_2 4 rfl rfl)
theorem dX8_init_54 : decode cX8_init 54 = .ok (.invokestatic 28, 3) := dk_184 0 28 (dk_at dksX8_init_2 6 rfl rfl)
theorem dX8_init_57 : decode cX8_init 57 = .ok (.invokeinterface 34 2, 5) := by decide +kernel
theorem dX8_init_62 : decode cX8_init 62 = .ok (.pop, 1) := dk_87 (dk_at dksX8_init_2 14 rfl rfl)
theorem dX8_init_63 : decode cX8_init 63 = .ok (.iload 4, 2) := dk_21 4 (dk_at dksX8_init_2 15 rfl rfl)
theorem dX8_init_65 : decode cX8_init 65 = .ok (.iload_n 3, 1) := dk_29 (dk_at dksX8_init_2 17 rfl rfl)
theorem dX8_init_66 : decode cX8_init 66 = .ok (.imul, 1) := dk_104 (dk_at dksX8_init_2 18 rfl rfl)
theorem dX8_init_67 : decode cX8_init 67 = .ok (.istore 4, 2) := dk_54 4 (dk_at dksX8_init_2 19 rfl rfl)
theorem dX8_init_69 : decode cX8_init 69 = .ok (.iinc 5 1, 3) := dk_132 5 1 (dk_at dksX8_init_2 21 rfl rfl)
theorem dX8_init_72 : decode cX8_init 72 = .ok (.goto (-40), 3) := dk_167 255 216 (dk_at dksX8_init_3 0 rfl rfl)
theorem dX8_init_75 : decode cX8_init 75 = .ok (.aload_n 0, 1) := dk_42 (dk_at dksX8_init_3 3 rfl rfl)
theorem dX8_init_76 : decode cX8_init 76 = .ok (.iload 4, 2) := dk_21 4 (dk_at dksX8_init_3 4 rfl rfl)
theorem dX8_init_78 : decode cX8_init 78 = .ok (.newarray .int, 2) := dk_188_10 (dk_at dksX8_init_3 6 rfl rfl)
theorem dX8_init_80 : decode cX8_init 80 = .ok (.putfield 40, 3) := dk_181 0 40 (dk_at dksX8_init_3 8 rfl rfl)
theorem dX8_init_83 : decode cX8_init 83 = .ok (.aload_n 0, 1) := dk_42 (dk_at dksX8_init_3 11 rfl rfl)
theorem dX8_init_84 : decode cX8_init 84 = .ok (.getfield 40, 3) := dk_180 0 40 (dk_at dksX8_init_3 12 rfl rfl)
theorem dX8_init_87 : decode cX8_init 87 = .ok (.iconst (-1), 1) := dk_2 (dk_at dksX8_init_3 15 rfl rfl)
theorem dX8_init_88 : decode cX8_init 88 = .ok (.invokestatic 43, 3) := dk_184 0 43 (dk_at dksX8_init_3 16 rfl rfl)
theorem dX8_init_91 : decode cX8_init 91 = .ok (.aload_n 0, 1) := dk_42 (dk_at dksX8_init_3 19 rfl rfl)
theorem dX8_init_92 : decode cX8_init 92 = .ok (.aload_n 1, 1) := dk_43 (dk_at dksX8_init_3 20 rfl rfl)
theorem dX8_init_93 : decode cX8_init 93 = .ok (.invokevirtual 49, 3) := dk_182 0 49 (dk_at dksX8_init_3 21 rfl rfl)
theorem dX8_init_96 : decode cX8_init 96 = .ok (.return_, 1) := dk_177 (dk_at dksX8_init_4 0 rfl rfl)
abbrev cX8_fill : ByteArray := prog_9_method_5_code
def yX8_fill : MethodName := ⟨RX8, "fill", "(LSlidingtray$Aim;)V"⟩
def dkwX8_fill_9 : List UInt8 := [89, 180, 0, 99, 4, 96, 181, 0, 99, 42, 43, 25, 5, 45, 182, 0, 102, 167, 255, 193, 177]
abbrev dktX8_fill_9 : List UInt8 := dkwX8_fill_9 ++ []
def dkwX8_fill_8 : List UInt8 := [180, 0, 93, 46, 2, 160, 0, 36, 42, 180, 0, 40, 25, 5, 180, 0, 93, 25, 5, 180, 0, 96, 79, 42]
abbrev dktX8_fill_8 : List UInt8 := dkwX8_fill_8 ++ dktX8_fill_9
def dkwX8_fill_7 : List UInt8 := [45, 182, 0, 85, 154, 0, 62, 45, 182, 0, 89, 192, 0, 77, 58, 5, 42, 180, 0, 40, 25, 5]
abbrev dktX8_fill_7 : List UInt8 := dkwX8_fill_7 ++ dktX8_fill_8
def dkwX8_fill_6 : List UInt8 := [185, 0, 52, 1, 0, 184, 0, 70, 104, 96, 3, 183, 0, 79, 182, 0, 82, 87, 132, 5, 1, 167, 255, 177]
abbrev dktX8_fill_6 : List UInt8 := dkwX8_fill_6 ++ dktX8_fill_7
def dkwX8_fill_5 : List UInt8 := [185, 0, 52, 1, 0, 160, 0, 35, 45, 187, 0, 77, 89, 21, 4, 21, 5, 28, 42, 180, 0, 12]
abbrev dktX8_fill_5 : List UInt8 := dkwX8_fill_5 ++ dktX8_fill_6
def dkwX8_fill_4 : List UInt8 := [180, 0, 12, 185, 0, 52, 1, 0, 184, 0, 70, 104, 96, 21, 5, 28, 182, 0, 74, 42, 180, 0, 12]
abbrev dktX8_fill_4 : List UInt8 := dkwX8_fill_4 ++ dktX8_fill_5
def dkwX8_fill_3 : List UInt8 := [132, 5, 1, 167, 255, 205, 3, 54, 5, 21, 5, 28, 162, 0, 79, 42, 21, 4, 21, 5, 28, 42]
abbrev dktX8_fill_3 : List UInt8 := dkwX8_fill_3 ++ dktX8_fill_4
def dkwX8_fill_2 : List UInt8 := [185, 0, 63, 2, 0, 192, 0, 29, 182, 0, 67, 46, 28, 21, 5, 184, 0, 70, 104, 96, 54, 4]
abbrev dktX8_fill_2 : List UInt8 := dkwX8_fill_2 ++ dktX8_fill_3
def dkwX8_fill_1 : List UInt8 := [180, 0, 12, 185, 0, 52, 1, 0, 162, 0, 43, 21, 4, 43, 180, 0, 22, 42, 180, 0, 12, 21, 5]
abbrev dktX8_fill_1 : List UInt8 := dkwX8_fill_1 ++ dktX8_fill_2
def dkwX8_fill_0 : List UInt8 := [43, 180, 0, 22, 190, 61, 187, 0, 60, 89, 183, 0, 62, 78, 3, 54, 4, 3, 54, 5, 21, 5, 42]
abbrev dktX8_fill_0 : List UInt8 := dkwX8_fill_0 ++ dktX8_fill_1
theorem dksX8_fill_0 : cX8_fill.data.toList.drop 0 = dktX8_fill_0 := by decide +kernel
theorem dksX8_fill_1 : cX8_fill.data.toList.drop 23 = dktX8_fill_1 := dk_seg dksX8_fill_0 23 rfl rfl
theorem dksX8_fill_2 : cX8_fill.data.toList.drop 46 = dktX8_fill_2 := dk_seg dksX8_fill_1 23 rfl rfl
theorem dksX8_fill_3 : cX8_fill.data.toList.drop 68 = dktX8_fill_3 := dk_seg dksX8_fill_2 22 rfl rfl
theorem dksX8_fill_4 : cX8_fill.data.toList.drop 90 = dktX8_fill_4 := dk_seg dksX8_fill_3 22 rfl rfl
theorem dksX8_fill_5 : cX8_fill.data.toList.drop 113 = dktX8_fill_5 := dk_seg dksX8_fill_4 23 rfl rfl
theorem dksX8_fill_6 : cX8_fill.data.toList.drop 135 = dktX8_fill_6 := dk_seg dksX8_fill_5 22 rfl rfl
theorem dksX8_fill_7 : cX8_fill.data.toList.drop 159 = dktX8_fill_7 := dk_seg dksX8_fill_6 24 rfl rfl
theorem dksX8_fill_8 : cX8_fill.data.toList.drop 181 = dktX8_fill_8 := dk_seg dksX8_fill_7 22 rfl rfl
theorem dksX8_fill_9 : cX8_fill.data.toList.drop 205 = dktX8_fill_9 := dk_seg dksX8_fill_8 24 rfl rfl
theorem dX8_fill_0 : decode cX8_fill 0 = .ok (.aload_n 1, 1) := dk_43 (dk_at dksX8_fill_0 0 rfl rfl)
theorem dX8_fill_1 : decode cX8_fill 1 = .ok (.getfield 22, 3) := dk_180 0 22 (dk_at dksX8_fill_0 1 rfl rfl)
theorem dX8_fill_4 : decode cX8_fill 4 = .ok (.arraylength, 1) := dk_190 (dk_at dksX8_fill_0 4 rfl rfl)
theorem dX8_fill_5 : decode cX8_fill 5 = .ok (.istore_n 2, 1) := dk_61 (dk_at dksX8_fill_0 5 rfl rfl)
theorem dX8_fill_6 : decode cX8_fill 6 = .ok (.new 60, 3) := dk_187 0 60 (dk_at dksX8_fill_0 6 rfl rfl)
theorem dX8_fill_9 : decode cX8_fill 9 = .ok (.dup, 1) := dk_89 (dk_at dksX8_fill_0 9 rfl rfl)
theorem dX8_fill_10 : decode cX8_fill 10 = .ok (.invokespecial 62, 3) := dk_183 0 62 (dk_at dksX8_fill_0 10 rfl rfl)
theorem dX8_fill_13 : decode cX8_fill 13 = .ok (.astore_n 3, 1) := dk_78 (dk_at dksX8_fill_0 13 rfl rfl)
theorem dX8_fill_14 : decode cX8_fill 14 = .ok (.iconst 0, 1) := dk_3 (dk_at dksX8_fill_0 14 rfl rfl)
theorem dX8_fill_15 : decode cX8_fill 15 = .ok (.istore 4, 2) := dk_54 4 (dk_at dksX8_fill_0 15 rfl rfl)
theorem dX8_fill_17 : decode cX8_fill 17 = .ok (.iconst 0, 1) := dk_3 (dk_at dksX8_fill_0 17 rfl rfl)
theorem dX8_fill_18 : decode cX8_fill 18 = .ok (.istore 5, 2) := dk_54 5 (dk_at dksX8_fill_0 18 rfl rfl)
theorem dX8_fill_20 : decode cX8_fill 20 = .ok (.iload 5, 2) := dk_21 5 (dk_at dksX8_fill_0 20 rfl rfl)
theorem dX8_fill_22 : decode cX8_fill 22 = .ok (.aload_n 0, 1) := dk_42 (dk_at dksX8_fill_0 22 rfl rfl)
theorem dX8_fill_23 : decode cX8_fill 23 = .ok (.getfield 12, 3) := dk_180 0 12 (dk_at dksX8_fill_1 0 rfl rfl)
theorem dX8_fill_26 : decode cX8_fill 26 = .ok (.invokeinterface 52 1, 5) := by decide +kernel
theorem dX8_fill_31 : decode cX8_fill 31 = .ok (.if_icmp .ge 43, 3) := dk_162 0 43 (dk_at dksX8_fill_1 8 rfl rfl)
theorem dX8_fill_34 : decode cX8_fill 34 = .ok (.iload 4, 2) := dk_21 4 (dk_at dksX8_fill_1 11 rfl rfl)
theorem dX8_fill_36 : decode cX8_fill 36 = .ok (.aload_n 1, 1) := dk_43 (dk_at dksX8_fill_1 13 rfl rfl)
theorem dX8_fill_37 : decode cX8_fill 37 = .ok (.getfield 22, 3) := dk_180 0 22 (dk_at dksX8_fill_1 14 rfl rfl)
theorem dX8_fill_40 : decode cX8_fill 40 = .ok (.aload_n 0, 1) := dk_42 (dk_at dksX8_fill_1 17 rfl rfl)
theorem dX8_fill_41 : decode cX8_fill 41 = .ok (.getfield 12, 3) := dk_180 0 12 (dk_at dksX8_fill_1 18 rfl rfl)
theorem dX8_fill_44 : decode cX8_fill 44 = .ok (.iload 5, 2) := dk_21 5 (dk_at dksX8_fill_1 21 rfl rfl)
theorem dX8_fill_46 : decode cX8_fill 46 = .ok (.invokeinterface 63 2, 5) := by decide +kernel
theorem dX8_fill_51 : decode cX8_fill 51 = .ok (.checkcast 29, 3) := dk_192 0 29 (dk_at dksX8_fill_2 5 rfl rfl)
theorem dX8_fill_54 : decode cX8_fill 54 = .ok (.invokevirtual 67, 3) := dk_182 0 67 (dk_at dksX8_fill_2 8 rfl rfl)
theorem dX8_fill_57 : decode cX8_fill 57 = .ok (.iaload, 1) := dk_46 (dk_at dksX8_fill_2 11 rfl rfl)
theorem dX8_fill_58 : decode cX8_fill 58 = .ok (.iload_n 2, 1) := dk_28 (dk_at dksX8_fill_2 12 rfl rfl)
theorem dX8_fill_59 : decode cX8_fill 59 = .ok (.iload 5, 2) := dk_21 5 (dk_at dksX8_fill_2 13 rfl rfl)
theorem dX8_fill_61 : decode cX8_fill 61 = .ok (.invokestatic 70, 3) := dk_184 0 70 (dk_at dksX8_fill_2 15 rfl rfl)
theorem dX8_fill_64 : decode cX8_fill 64 = .ok (.imul, 1) := dk_104 (dk_at dksX8_fill_2 18 rfl rfl)
theorem dX8_fill_65 : decode cX8_fill 65 = .ok (.iadd, 1) := dk_96 (dk_at dksX8_fill_2 19 rfl rfl)
theorem dX8_fill_66 : decode cX8_fill 66 = .ok (.istore 4, 2) := dk_54 4 (dk_at dksX8_fill_2 20 rfl rfl)
theorem dX8_fill_68 : decode cX8_fill 68 = .ok (.iinc 5 1, 3) := dk_132 5 1 (dk_at dksX8_fill_3 0 rfl rfl)
theorem dX8_fill_71 : decode cX8_fill 71 = .ok (.goto (-51), 3) := dk_167 255 205 (dk_at dksX8_fill_3 3 rfl rfl)
theorem dX8_fill_74 : decode cX8_fill 74 = .ok (.iconst 0, 1) := dk_3 (dk_at dksX8_fill_3 6 rfl rfl)
theorem dX8_fill_75 : decode cX8_fill 75 = .ok (.istore 5, 2) := dk_54 5 (dk_at dksX8_fill_3 7 rfl rfl)
theorem dX8_fill_77 : decode cX8_fill 77 = .ok (.iload 5, 2) := dk_21 5 (dk_at dksX8_fill_3 9 rfl rfl)
theorem dX8_fill_79 : decode cX8_fill 79 = .ok (.iload_n 2, 1) := dk_28 (dk_at dksX8_fill_3 11 rfl rfl)
theorem dX8_fill_80 : decode cX8_fill 80 = .ok (.if_icmp .ge 79, 3) := dk_162 0 79 (dk_at dksX8_fill_3 12 rfl rfl)
theorem dX8_fill_83 : decode cX8_fill 83 = .ok (.aload_n 0, 1) := dk_42 (dk_at dksX8_fill_3 15 rfl rfl)
theorem dX8_fill_84 : decode cX8_fill 84 = .ok (.iload 4, 2) := dk_21 4 (dk_at dksX8_fill_3 16 rfl rfl)
theorem dX8_fill_86 : decode cX8_fill 86 = .ok (.iload 5, 2) := dk_21 5 (dk_at dksX8_fill_3 18 rfl rfl)
theorem dX8_fill_88 : decode cX8_fill 88 = .ok (.iload_n 2, 1) := dk_28 (dk_at dksX8_fill_3 20 rfl rfl)
theorem dX8_fill_89 : decode cX8_fill 89 = .ok (.aload_n 0, 1) := dk_42 (dk_at dksX8_fill_3 21 rfl rfl)
theorem dX8_fill_90 : decode cX8_fill 90 = .ok (.getfield 12, 3) := dk_180 0 12 (dk_at dksX8_fill_4 0 rfl rfl)
theorem dX8_fill_93 : decode cX8_fill 93 = .ok (.invokeinterface 52 1, 5) := by decide +kernel
theorem dX8_fill_98 : decode cX8_fill 98 = .ok (.invokestatic 70, 3) := dk_184 0 70 (dk_at dksX8_fill_4 8 rfl rfl)
theorem dX8_fill_101 : decode cX8_fill 101 = .ok (.imul, 1) := dk_104 (dk_at dksX8_fill_4 11 rfl rfl)
theorem dX8_fill_102 : decode cX8_fill 102 = .ok (.iadd, 1) := dk_96 (dk_at dksX8_fill_4 12 rfl rfl)
theorem dX8_fill_103 : decode cX8_fill 103 = .ok (.iload 5, 2) := dk_21 5 (dk_at dksX8_fill_4 13 rfl rfl)
theorem dX8_fill_105 : decode cX8_fill 105 = .ok (.iload_n 2, 1) := dk_28 (dk_at dksX8_fill_4 15 rfl rfl)
theorem dX8_fill_106 : decode cX8_fill 106 = .ok (.invokevirtual 74, 3) := dk_182 0 74 (dk_at dksX8_fill_4 16 rfl rfl)
theorem dX8_fill_109 : decode cX8_fill 109 = .ok (.aload_n 0, 1) := dk_42 (dk_at dksX8_fill_4 19 rfl rfl)
theorem dX8_fill_110 : decode cX8_fill 110 = .ok (.getfield 12, 3) := dk_180 0 12 (dk_at dksX8_fill_4 20 rfl rfl)
theorem dX8_fill_113 : decode cX8_fill 113 = .ok (.invokeinterface 52 1, 5) := by decide +kernel
theorem dX8_fill_118 : decode cX8_fill 118 = .ok (.if_icmp .ne 35, 3) := dk_160 0 35 (dk_at dksX8_fill_5 5 rfl rfl)
theorem dX8_fill_121 : decode cX8_fill 121 = .ok (.aload_n 3, 1) := dk_45 (dk_at dksX8_fill_5 8 rfl rfl)
theorem dX8_fill_122 : decode cX8_fill 122 = .ok (.new 77, 3) := dk_187 0 77 (dk_at dksX8_fill_5 9 rfl rfl)
theorem dX8_fill_125 : decode cX8_fill 125 = .ok (.dup, 1) := dk_89 (dk_at dksX8_fill_5 12 rfl rfl)
theorem dX8_fill_126 : decode cX8_fill 126 = .ok (.iload 4, 2) := dk_21 4 (dk_at dksX8_fill_5 13 rfl rfl)
theorem dX8_fill_128 : decode cX8_fill 128 = .ok (.iload 5, 2) := dk_21 5 (dk_at dksX8_fill_5 15 rfl rfl)
theorem dX8_fill_130 : decode cX8_fill 130 = .ok (.iload_n 2, 1) := dk_28 (dk_at dksX8_fill_5 17 rfl rfl)
theorem dX8_fill_131 : decode cX8_fill 131 = .ok (.aload_n 0, 1) := dk_42 (dk_at dksX8_fill_5 18 rfl rfl)
theorem dX8_fill_132 : decode cX8_fill 132 = .ok (.getfield 12, 3) := dk_180 0 12 (dk_at dksX8_fill_5 19 rfl rfl)
theorem dX8_fill_135 : decode cX8_fill 135 = .ok (.invokeinterface 52 1, 5) := by decide +kernel
theorem dX8_fill_140 : decode cX8_fill 140 = .ok (.invokestatic 70, 3) := dk_184 0 70 (dk_at dksX8_fill_6 5 rfl rfl)
theorem dX8_fill_143 : decode cX8_fill 143 = .ok (.imul, 1) := dk_104 (dk_at dksX8_fill_6 8 rfl rfl)
theorem dX8_fill_144 : decode cX8_fill 144 = .ok (.iadd, 1) := dk_96 (dk_at dksX8_fill_6 9 rfl rfl)
theorem dX8_fill_145 : decode cX8_fill 145 = .ok (.iconst 0, 1) := dk_3 (dk_at dksX8_fill_6 10 rfl rfl)
theorem dX8_fill_146 : decode cX8_fill 146 = .ok (.invokespecial 79, 3) := dk_183 0 79 (dk_at dksX8_fill_6 11 rfl rfl)
theorem dX8_fill_149 : decode cX8_fill 149 = .ok (.invokevirtual 82, 3) := dk_182 0 82 (dk_at dksX8_fill_6 14 rfl rfl)
theorem dX8_fill_152 : decode cX8_fill 152 = .ok (.pop, 1) := dk_87 (dk_at dksX8_fill_6 17 rfl rfl)
theorem dX8_fill_153 : decode cX8_fill 153 = .ok (.iinc 5 1, 3) := dk_132 5 1 (dk_at dksX8_fill_6 18 rfl rfl)
theorem dX8_fill_156 : decode cX8_fill 156 = .ok (.goto (-79), 3) := dk_167 255 177 (dk_at dksX8_fill_6 21 rfl rfl)
theorem dX8_fill_159 : decode cX8_fill 159 = .ok (.aload_n 3, 1) := dk_45 (dk_at dksX8_fill_7 0 rfl rfl)
theorem dX8_fill_160 : decode cX8_fill 160 = .ok (.invokevirtual 85, 3) := dk_182 0 85 (dk_at dksX8_fill_7 1 rfl rfl)
theorem dX8_fill_163 : decode cX8_fill 163 = .ok (.ifCond .ne 62, 3) := dk_154 0 62 (dk_at dksX8_fill_7 4 rfl rfl)
theorem dX8_fill_166 : decode cX8_fill 166 = .ok (.aload_n 3, 1) := dk_45 (dk_at dksX8_fill_7 7 rfl rfl)
theorem dX8_fill_167 : decode cX8_fill 167 = .ok (.invokevirtual 89, 3) := dk_182 0 89 (dk_at dksX8_fill_7 8 rfl rfl)
theorem dX8_fill_170 : decode cX8_fill 170 = .ok (.checkcast 77, 3) := dk_192 0 77 (dk_at dksX8_fill_7 11 rfl rfl)
theorem dX8_fill_173 : decode cX8_fill 173 = .ok (.astore 5, 2) := dk_58 5 (dk_at dksX8_fill_7 14 rfl rfl)
theorem dX8_fill_175 : decode cX8_fill 175 = .ok (.aload_n 0, 1) := dk_42 (dk_at dksX8_fill_7 16 rfl rfl)
theorem dX8_fill_176 : decode cX8_fill 176 = .ok (.getfield 40, 3) := dk_180 0 40 (dk_at dksX8_fill_7 17 rfl rfl)
theorem dX8_fill_179 : decode cX8_fill 179 = .ok (.aload 5, 2) := dk_25 5 (dk_at dksX8_fill_7 20 rfl rfl)
theorem dX8_fill_181 : decode cX8_fill 181 = .ok (.getfield 93, 3) := dk_180 0 93 (dk_at dksX8_fill_8 0 rfl rfl)
theorem dX8_fill_184 : decode cX8_fill 184 = .ok (.iaload, 1) := dk_46 (dk_at dksX8_fill_8 3 rfl rfl)
theorem dX8_fill_185 : decode cX8_fill 185 = .ok (.iconst (-1), 1) := dk_2 (dk_at dksX8_fill_8 4 rfl rfl)
theorem dX8_fill_186 : decode cX8_fill 186 = .ok (.if_icmp .ne 36, 3) := dk_160 0 36 (dk_at dksX8_fill_8 5 rfl rfl)
theorem dX8_fill_189 : decode cX8_fill 189 = .ok (.aload_n 0, 1) := dk_42 (dk_at dksX8_fill_8 8 rfl rfl)
theorem dX8_fill_190 : decode cX8_fill 190 = .ok (.getfield 40, 3) := dk_180 0 40 (dk_at dksX8_fill_8 9 rfl rfl)
theorem dX8_fill_193 : decode cX8_fill 193 = .ok (.aload 5, 2) := dk_25 5 (dk_at dksX8_fill_8 12 rfl rfl)
theorem dX8_fill_195 : decode cX8_fill 195 = .ok (.getfield 93, 3) := dk_180 0 93 (dk_at dksX8_fill_8 14 rfl rfl)
theorem dX8_fill_198 : decode cX8_fill 198 = .ok (.aload 5, 2) := dk_25 5 (dk_at dksX8_fill_8 17 rfl rfl)
theorem dX8_fill_200 : decode cX8_fill 200 = .ok (.getfield 96, 3) := dk_180 0 96 (dk_at dksX8_fill_8 19 rfl rfl)
theorem dX8_fill_203 : decode cX8_fill 203 = .ok (.iastore, 1) := dk_79 (dk_at dksX8_fill_8 22 rfl rfl)
theorem dX8_fill_204 : decode cX8_fill 204 = .ok (.aload_n 0, 1) := dk_42 (dk_at dksX8_fill_8 23 rfl rfl)
theorem dX8_fill_205 : decode cX8_fill 205 = .ok (.dup, 1) := dk_89 (dk_at dksX8_fill_9 0 rfl rfl)
theorem dX8_fill_206 : decode cX8_fill 206 = .ok (.getfield 99, 3) := dk_180 0 99 (dk_at dksX8_fill_9 1 rfl rfl)
theorem dX8_fill_209 : decode cX8_fill 209 = .ok (.iconst 1, 1) := dk_4 (dk_at dksX8_fill_9 4 rfl rfl)
theorem dX8_fill_210 : decode cX8_fill 210 = .ok (.iadd, 1) := dk_96 (dk_at dksX8_fill_9 5 rfl rfl)
theorem dX8_fill_211 : decode cX8_fill 211 = .ok (.putfield 99, 3) := dk_181 0 99 (dk_at dksX8_fill_9 6 rfl rfl)
theorem dX8_fill_214 : decode cX8_fill 214 = .ok (.aload_n 0, 1) := dk_42 (dk_at dksX8_fill_9 9 rfl rfl)
theorem dX8_fill_215 : decode cX8_fill 215 = .ok (.aload_n 1, 1) := dk_43 (dk_at dksX8_fill_9 10 rfl rfl)
theorem dX8_fill_216 : decode cX8_fill 216 = .ok (.aload 5, 2) := dk_25 5 (dk_at dksX8_fill_9 11 rfl rfl)
theorem dX8_fill_218 : decode cX8_fill 218 = .ok (.aload_n 3, 1) := dk_45 (dk_at dksX8_fill_9 13 rfl rfl)
theorem dX8_fill_219 : decode cX8_fill 219 = .ok (.invokevirtual 102, 3) := dk_182 0 102 (dk_at dksX8_fill_9 14 rfl rfl)
theorem dX8_fill_222 : decode cX8_fill 222 = .ok (.goto (-63), 3) := dk_167 255 193 (dk_at dksX8_fill_9 17 rfl rfl)
theorem dX8_fill_225 : decode cX8_fill 225 = .ok (.return_, 1) := dk_177 (dk_at dksX8_fill_9 20 rfl rfl)
abbrev cX8_indexAt : ByteArray := prog_9_method_3_code
def yX8_indexAt : MethodName := ⟨RX8, "indexAt", "(III)I"⟩
def dkwX8_indexAt_2 : List UInt8 := [172]
abbrev dktX8_indexAt_2 : List UInt8 := dkwX8_indexAt_2 ++ []
def dkwX8_indexAt_1 : List UInt8 := [28, 160, 0, 6, 21, 4, 172, 132, 4, 1, 167, 255, 225, 42, 180, 0, 12, 185, 0, 52, 1, 0, 4, 96]
abbrev dktX8_indexAt_1 : List UInt8 := dkwX8_indexAt_1 ++ dktX8_indexAt_2
def dkwX8_indexAt_0 : List UInt8 := [3, 54, 4, 21, 4, 42, 180, 0, 12, 185, 0, 52, 1, 0, 163, 0, 23, 27, 21, 4, 29, 184, 0, 56]
abbrev dktX8_indexAt_0 : List UInt8 := dkwX8_indexAt_0 ++ dktX8_indexAt_1
theorem dksX8_indexAt_0 : cX8_indexAt.data.toList.drop 0 = dktX8_indexAt_0 := by decide +kernel
theorem dksX8_indexAt_1 : cX8_indexAt.data.toList.drop 24 = dktX8_indexAt_1 := dk_seg dksX8_indexAt_0 24 rfl rfl
theorem dksX8_indexAt_2 : cX8_indexAt.data.toList.drop 48 = dktX8_indexAt_2 := dk_seg dksX8_indexAt_1 24 rfl rfl
theorem dX8_indexAt_0 : decode cX8_indexAt 0 = .ok (.iconst 0, 1) := dk_3 (dk_at dksX8_indexAt_0 0 rfl rfl)
theorem dX8_indexAt_1 : decode cX8_indexAt 1 = .ok (.istore 4, 2) := dk_54 4 (dk_at dksX8_indexAt_0 1 rfl rfl)
theorem dX8_indexAt_3 : decode cX8_indexAt 3 = .ok (.iload 4, 2) := dk_21 4 (dk_at dksX8_indexAt_0 3 rfl rfl)
theorem dX8_indexAt_5 : decode cX8_indexAt 5 = .ok (.aload_n 0, 1) := dk_42 (dk_at dksX8_indexAt_0 5 rfl rfl)
theorem dX8_indexAt_6 : decode cX8_indexAt 6 = .ok (.getfield 12, 3) := dk_180 0 12 (dk_at dksX8_indexAt_0 6 rfl rfl)
theorem dX8_indexAt_9 : decode cX8_indexAt 9 = .ok (.invokeinterface 52 1, 5) := by decide +kernel
theorem dX8_indexAt_14 : decode cX8_indexAt 14 = .ok (.if_icmp .gt 23, 3) := dk_163 0 23 (dk_at dksX8_indexAt_0 14 rfl rfl)
theorem dX8_indexAt_17 : decode cX8_indexAt 17 = .ok (.iload_n 1, 1) := dk_27 (dk_at dksX8_indexAt_0 17 rfl rfl)
theorem dX8_indexAt_18 : decode cX8_indexAt 18 = .ok (.iload 4, 2) := dk_21 4 (dk_at dksX8_indexAt_0 18 rfl rfl)
theorem dX8_indexAt_20 : decode cX8_indexAt 20 = .ok (.iload_n 3, 1) := dk_29 (dk_at dksX8_indexAt_0 20 rfl rfl)
theorem dX8_indexAt_21 : decode cX8_indexAt 21 = .ok (.invokestatic 56, 3) := dk_184 0 56 (dk_at dksX8_indexAt_0 21 rfl rfl)
theorem dX8_indexAt_24 : decode cX8_indexAt 24 = .ok (.iload_n 2, 1) := dk_28 (dk_at dksX8_indexAt_1 0 rfl rfl)
theorem dX8_indexAt_25 : decode cX8_indexAt 25 = .ok (.if_icmp .ne 6, 3) := dk_160 0 6 (dk_at dksX8_indexAt_1 1 rfl rfl)
theorem dX8_indexAt_28 : decode cX8_indexAt 28 = .ok (.iload 4, 2) := dk_21 4 (dk_at dksX8_indexAt_1 4 rfl rfl)
theorem dX8_indexAt_30 : decode cX8_indexAt 30 = .ok (.ireturn, 1) := dk_172 (dk_at dksX8_indexAt_1 6 rfl rfl)
theorem dX8_indexAt_31 : decode cX8_indexAt 31 = .ok (.iinc 4 1, 3) := dk_132 4 1 (dk_at dksX8_indexAt_1 7 rfl rfl)
theorem dX8_indexAt_34 : decode cX8_indexAt 34 = .ok (.goto (-31), 3) := dk_167 255 225 (dk_at dksX8_indexAt_1 10 rfl rfl)
theorem dX8_indexAt_37 : decode cX8_indexAt 37 = .ok (.aload_n 0, 1) := dk_42 (dk_at dksX8_indexAt_1 13 rfl rfl)
theorem dX8_indexAt_38 : decode cX8_indexAt 38 = .ok (.getfield 12, 3) := dk_180 0 12 (dk_at dksX8_indexAt_1 14 rfl rfl)
theorem dX8_indexAt_41 : decode cX8_indexAt 41 = .ok (.invokeinterface 52 1, 5) := by decide +kernel
theorem dX8_indexAt_46 : decode cX8_indexAt 46 = .ok (.iconst 1, 1) := dk_4 (dk_at dksX8_indexAt_1 22 rfl rfl)
theorem dX8_indexAt_47 : decode cX8_indexAt 47 = .ok (.iadd, 1) := dk_96 (dk_at dksX8_indexAt_1 23 rfl rfl)
theorem dX8_indexAt_48 : decode cX8_indexAt 48 = .ok (.ireturn, 1) := dk_172 (dk_at dksX8_indexAt_2 0 rfl rfl)
abbrev cX8_at : ByteArray := prog_9_method_2_code
def yX8_at : MethodName := ⟨RX8, "at", "(III)I"⟩
def dkwX8_at_1 : List UInt8 := [172]
abbrev dktX8_at_1 : List UInt8 := dkwX8_at_1 ++ []
def dkwX8_at_0 : List UInt8 := [26, 62, 3, 54, 4, 21, 4, 27, 162, 0, 13, 29, 28, 108, 62, 132, 4, 1, 167, 255, 243, 29, 28, 112]
abbrev dktX8_at_0 : List UInt8 := dkwX8_at_0 ++ dktX8_at_1
theorem dksX8_at_0 : cX8_at.data.toList.drop 0 = dktX8_at_0 := by decide +kernel
theorem dksX8_at_1 : cX8_at.data.toList.drop 24 = dktX8_at_1 := dk_seg dksX8_at_0 24 rfl rfl
theorem dX8_at_0 : decode cX8_at 0 = .ok (.iload_n 0, 1) := dk_26 (dk_at dksX8_at_0 0 rfl rfl)
theorem dX8_at_1 : decode cX8_at 1 = .ok (.istore_n 3, 1) := dk_62 (dk_at dksX8_at_0 1 rfl rfl)
theorem dX8_at_2 : decode cX8_at 2 = .ok (.iconst 0, 1) := dk_3 (dk_at dksX8_at_0 2 rfl rfl)
theorem dX8_at_3 : decode cX8_at 3 = .ok (.istore 4, 2) := dk_54 4 (dk_at dksX8_at_0 3 rfl rfl)
theorem dX8_at_5 : decode cX8_at 5 = .ok (.iload 4, 2) := dk_21 4 (dk_at dksX8_at_0 5 rfl rfl)
theorem dX8_at_7 : decode cX8_at 7 = .ok (.iload_n 1, 1) := dk_27 (dk_at dksX8_at_0 7 rfl rfl)
theorem dX8_at_8 : decode cX8_at 8 = .ok (.if_icmp .ge 13, 3) := dk_162 0 13 (dk_at dksX8_at_0 8 rfl rfl)
theorem dX8_at_11 : decode cX8_at 11 = .ok (.iload_n 3, 1) := dk_29 (dk_at dksX8_at_0 11 rfl rfl)
theorem dX8_at_12 : decode cX8_at 12 = .ok (.iload_n 2, 1) := dk_28 (dk_at dksX8_at_0 12 rfl rfl)
theorem dX8_at_13 : decode cX8_at 13 = .ok (.idiv, 1) := dk_108 (dk_at dksX8_at_0 13 rfl rfl)
theorem dX8_at_14 : decode cX8_at 14 = .ok (.istore_n 3, 1) := dk_62 (dk_at dksX8_at_0 14 rfl rfl)
theorem dX8_at_15 : decode cX8_at 15 = .ok (.iinc 4 1, 3) := dk_132 4 1 (dk_at dksX8_at_0 15 rfl rfl)
theorem dX8_at_18 : decode cX8_at 18 = .ok (.goto (-13), 3) := dk_167 255 243 (dk_at dksX8_at_0 18 rfl rfl)
theorem dX8_at_21 : decode cX8_at 21 = .ok (.iload_n 3, 1) := dk_29 (dk_at dksX8_at_0 21 rfl rfl)
theorem dX8_at_22 : decode cX8_at 22 = .ok (.iload_n 2, 1) := dk_28 (dk_at dksX8_at_0 22 rfl rfl)
theorem dX8_at_23 : decode cX8_at 23 = .ok (.irem, 1) := dk_112 (dk_at dksX8_at_0 23 rfl rfl)
theorem dX8_at_24 : decode cX8_at 24 = .ok (.ireturn, 1) := dk_172 (dk_at dksX8_at_1 0 rfl rfl)
abbrev cX8_spread : ByteArray := prog_9_method_6_code
def yX8_spread : MethodName := ⟨RX8, "spread", "(LSlidingtray$Aim;LSlidingtray$Part$Place;Ljava/util/PriorityQueue;)V"⟩
def dkwX8_spread_9 : List UInt8 := [167, 255, 100, 177]
abbrev dktX8_spread_9 : List UInt8 := dkwX8_spread_9 ++ []
def dkwX8_spread_8 : List UInt8 := [2, 160, 0, 19, 45, 187, 0, 77, 89, 21, 11, 21, 12, 183, 0, 79, 182, 0, 82, 87, 132, 8, 1]
abbrev dktX8_spread_8 : List UInt8 := dkwX8_spread_8 ++ dktX8_spread_9
def dkwX8_spread_7 : List UInt8 := [21, 10, 185, 0, 63, 2, 0, 192, 0, 29, 182, 0, 67, 46, 96, 54, 12, 42, 180, 0, 40, 21, 11, 46]
abbrev dktX8_spread_7 : List UInt8 := dkwX8_spread_7 ++ dktX8_spread_8
def dkwX8_spread_6 : List UInt8 := [21, 9, 100, 21, 4, 21, 10, 184, 0, 70, 104, 96, 54, 11, 21, 12, 43, 180, 0, 122, 42, 180, 0, 12]
abbrev dktX8_spread_6 : List UInt8 := dkwX8_spread_6 ++ dktX8_spread_7
def dkwX8_spread_5 : List UInt8 := [180, 0, 96, 54, 12, 21, 10, 42, 180, 0, 12, 185, 0, 52, 1, 0, 162, 0, 48, 21, 11, 21, 5]
abbrev dktX8_spread_5 : List UInt8 := dkwX8_spread_5 ++ dktX8_spread_6
def dkwX8_spread_4 : List UInt8 := [21, 5, 100, 21, 4, 42, 180, 0, 12, 185, 0, 52, 1, 0, 184, 0, 70, 104, 96, 54, 11, 44]
abbrev dktX8_spread_4 : List UInt8 := dkwX8_spread_4 ++ dktX8_spread_5
def dkwX8_spread_3 : List UInt8 := [159, 0, 136, 42, 44, 180, 0, 93, 21, 9, 21, 4, 182, 0, 74, 54, 10, 44, 180, 0, 93, 21, 9]
abbrev dktX8_spread_3 : List UInt8 := dkwX8_spread_3 ++ dktX8_spread_4
def dkwX8_spread_2 : List UInt8 := [54, 7, 3, 54, 8, 21, 8, 21, 7, 162, 0, 155, 25, 6, 21, 8, 46, 54, 9, 21, 9, 2]
abbrev dktX8_spread_2 : List UInt8 := dkwX8_spread_2 ++ dktX8_spread_3
def dkwX8_spread_1 : List UInt8 := [184, 0, 56, 54, 5, 43, 180, 0, 106, 180, 0, 110, 180, 0, 116, 21, 5, 50, 58, 6, 25, 6, 190]
abbrev dktX8_spread_1 : List UInt8 := dkwX8_spread_1 ++ dktX8_spread_2
def dkwX8_spread_0 : List UInt8 := [43, 180, 0, 22, 190, 54, 4, 44, 180, 0, 93, 42, 180, 0, 12, 185, 0, 52, 1, 0, 21, 4]
abbrev dktX8_spread_0 : List UInt8 := dkwX8_spread_0 ++ dktX8_spread_1
theorem dksX8_spread_0 : cX8_spread.data.toList.drop 0 = dktX8_spread_0 := by decide +kernel
theorem dksX8_spread_1 : cX8_spread.data.toList.drop 22 = dktX8_spread_1 := dk_seg dksX8_spread_0 22 rfl rfl
theorem dksX8_spread_2 : cX8_spread.data.toList.drop 45 = dktX8_spread_2 := dk_seg dksX8_spread_1 23 rfl rfl
theorem dksX8_spread_3 : cX8_spread.data.toList.drop 67 = dktX8_spread_3 := dk_seg dksX8_spread_2 22 rfl rfl
theorem dksX8_spread_4 : cX8_spread.data.toList.drop 90 = dktX8_spread_4 := dk_seg dksX8_spread_3 23 rfl rfl
theorem dksX8_spread_5 : cX8_spread.data.toList.drop 112 = dktX8_spread_5 := dk_seg dksX8_spread_4 22 rfl rfl
theorem dksX8_spread_6 : cX8_spread.data.toList.drop 135 = dktX8_spread_6 := dk_seg dksX8_spread_5 23 rfl rfl
theorem dksX8_spread_7 : cX8_spread.data.toList.drop 159 = dktX8_spread_7 := dk_seg dksX8_spread_6 24 rfl rfl
theorem dksX8_spread_8 : cX8_spread.data.toList.drop 183 = dktX8_spread_8 := dk_seg dksX8_spread_7 24 rfl rfl
theorem dksX8_spread_9 : cX8_spread.data.toList.drop 206 = dktX8_spread_9 := dk_seg dksX8_spread_8 23 rfl rfl
theorem dX8_spread_0 : decode cX8_spread 0 = .ok (.aload_n 1, 1) := dk_43 (dk_at dksX8_spread_0 0 rfl rfl)
theorem dX8_spread_1 : decode cX8_spread 1 = .ok (.getfield 22, 3) := dk_180 0 22 (dk_at dksX8_spread_0 1 rfl rfl)
theorem dX8_spread_4 : decode cX8_spread 4 = .ok (.arraylength, 1) := dk_190 (dk_at dksX8_spread_0 4 rfl rfl)
theorem dX8_spread_5 : decode cX8_spread 5 = .ok (.istore 4, 2) := dk_54 4 (dk_at dksX8_spread_0 5 rfl rfl)
theorem dX8_spread_7 : decode cX8_spread 7 = .ok (.aload_n 2, 1) := dk_44 (dk_at dksX8_spread_0 7 rfl rfl)
theorem dX8_spread_8 : decode cX8_spread 8 = .ok (.getfield 93, 3) := dk_180 0 93 (dk_at dksX8_spread_0 8 rfl rfl)
theorem dX8_spread_11 : decode cX8_spread 11 = .ok (.aload_n 0, 1) := dk_42 (dk_at dksX8_spread_0 11 rfl rfl)
theorem dX8_spread_12 : decode cX8_spread 12 = .ok (.getfield 12, 3) := dk_180 0 12 (dk_at dksX8_spread_0 12 rfl rfl)
theorem dX8_spread_15 : decode cX8_spread 15 = .ok (.invokeinterface 52 1, 5) := by decide +kernel
theorem dX8_spread_20 : decode cX8_spread 20 = .ok (.iload 4, 2) := dk_21 4 (dk_at dksX8_spread_0 20 rfl rfl)
theorem dX8_spread_22 : decode cX8_spread 22 = .ok (.invokestatic 56, 3) := dk_184 0 56 (dk_at dksX8_spread_1 0 rfl rfl)
theorem dX8_spread_25 : decode cX8_spread 25 = .ok (.istore 5, 2) := dk_54 5 (dk_at dksX8_spread_1 3 rfl rfl)
theorem dX8_spread_27 : decode cX8_spread 27 = .ok (.aload_n 1, 1) := dk_43 (dk_at dksX8_spread_1 5 rfl rfl)
theorem dX8_spread_28 : decode cX8_spread 28 = .ok (.getfield 106, 3) := dk_180 0 106 (dk_at dksX8_spread_1 6 rfl rfl)
theorem dX8_spread_31 : decode cX8_spread 31 = .ok (.getfield 110, 3) := dk_180 0 110 (dk_at dksX8_spread_1 9 rfl rfl)
theorem dX8_spread_34 : decode cX8_spread 34 = .ok (.getfield 116, 3) := dk_180 0 116 (dk_at dksX8_spread_1 12 rfl rfl)
theorem dX8_spread_37 : decode cX8_spread 37 = .ok (.iload 5, 2) := dk_21 5 (dk_at dksX8_spread_1 15 rfl rfl)
theorem dX8_spread_39 : decode cX8_spread 39 = .ok (.aaload, 1) := dk_50 (dk_at dksX8_spread_1 17 rfl rfl)
theorem dX8_spread_40 : decode cX8_spread 40 = .ok (.astore 6, 2) := dk_58 6 (dk_at dksX8_spread_1 18 rfl rfl)
theorem dX8_spread_42 : decode cX8_spread 42 = .ok (.aload 6, 2) := dk_25 6 (dk_at dksX8_spread_1 20 rfl rfl)
theorem dX8_spread_44 : decode cX8_spread 44 = .ok (.arraylength, 1) := dk_190 (dk_at dksX8_spread_1 22 rfl rfl)
theorem dX8_spread_45 : decode cX8_spread 45 = .ok (.istore 7, 2) := dk_54 7 (dk_at dksX8_spread_2 0 rfl rfl)
theorem dX8_spread_47 : decode cX8_spread 47 = .ok (.iconst 0, 1) := dk_3 (dk_at dksX8_spread_2 2 rfl rfl)
theorem dX8_spread_48 : decode cX8_spread 48 = .ok (.istore 8, 2) := dk_54 8 (dk_at dksX8_spread_2 3 rfl rfl)
theorem dX8_spread_50 : decode cX8_spread 50 = .ok (.iload 8, 2) := dk_21 8 (dk_at dksX8_spread_2 5 rfl rfl)
theorem dX8_spread_52 : decode cX8_spread 52 = .ok (.iload 7, 2) := dk_21 7 (dk_at dksX8_spread_2 7 rfl rfl)
theorem dX8_spread_54 : decode cX8_spread 54 = .ok (.if_icmp .ge 155, 3) := dk_162 0 155 (dk_at dksX8_spread_2 9 rfl rfl)
theorem dX8_spread_57 : decode cX8_spread 57 = .ok (.aload 6, 2) := dk_25 6 (dk_at dksX8_spread_2 12 rfl rfl)
theorem dX8_spread_59 : decode cX8_spread 59 = .ok (.iload 8, 2) := dk_21 8 (dk_at dksX8_spread_2 14 rfl rfl)
theorem dX8_spread_61 : decode cX8_spread 61 = .ok (.iaload, 1) := dk_46 (dk_at dksX8_spread_2 16 rfl rfl)
theorem dX8_spread_62 : decode cX8_spread 62 = .ok (.istore 9, 2) := dk_54 9 (dk_at dksX8_spread_2 17 rfl rfl)
theorem dX8_spread_64 : decode cX8_spread 64 = .ok (.iload 9, 2) := dk_21 9 (dk_at dksX8_spread_2 19 rfl rfl)
theorem dX8_spread_66 : decode cX8_spread 66 = .ok (.iconst (-1), 1) := dk_2 (dk_at dksX8_spread_2 21 rfl rfl)
theorem dX8_spread_67 : decode cX8_spread 67 = .ok (.if_icmp .eq 136, 3) := dk_159 0 136 (dk_at dksX8_spread_3 0 rfl rfl)
theorem dX8_spread_70 : decode cX8_spread 70 = .ok (.aload_n 0, 1) := dk_42 (dk_at dksX8_spread_3 3 rfl rfl)
theorem dX8_spread_71 : decode cX8_spread 71 = .ok (.aload_n 2, 1) := dk_44 (dk_at dksX8_spread_3 4 rfl rfl)
theorem dX8_spread_72 : decode cX8_spread 72 = .ok (.getfield 93, 3) := dk_180 0 93 (dk_at dksX8_spread_3 5 rfl rfl)
theorem dX8_spread_75 : decode cX8_spread 75 = .ok (.iload 9, 2) := dk_21 9 (dk_at dksX8_spread_3 8 rfl rfl)
theorem dX8_spread_77 : decode cX8_spread 77 = .ok (.iload 4, 2) := dk_21 4 (dk_at dksX8_spread_3 10 rfl rfl)
theorem dX8_spread_79 : decode cX8_spread 79 = .ok (.invokevirtual 74, 3) := dk_182 0 74 (dk_at dksX8_spread_3 12 rfl rfl)
theorem dX8_spread_82 : decode cX8_spread 82 = .ok (.istore 10, 2) := dk_54 10 (dk_at dksX8_spread_3 15 rfl rfl)
theorem dX8_spread_84 : decode cX8_spread 84 = .ok (.aload_n 2, 1) := dk_44 (dk_at dksX8_spread_3 17 rfl rfl)
theorem dX8_spread_85 : decode cX8_spread 85 = .ok (.getfield 93, 3) := dk_180 0 93 (dk_at dksX8_spread_3 18 rfl rfl)
theorem dX8_spread_88 : decode cX8_spread 88 = .ok (.iload 9, 2) := dk_21 9 (dk_at dksX8_spread_3 21 rfl rfl)
theorem dX8_spread_90 : decode cX8_spread 90 = .ok (.iload 5, 2) := dk_21 5 (dk_at dksX8_spread_4 0 rfl rfl)
theorem dX8_spread_92 : decode cX8_spread 92 = .ok (.isub, 1) := dk_100 (dk_at dksX8_spread_4 2 rfl rfl)
theorem dX8_spread_93 : decode cX8_spread 93 = .ok (.iload 4, 2) := dk_21 4 (dk_at dksX8_spread_4 3 rfl rfl)
theorem dX8_spread_95 : decode cX8_spread 95 = .ok (.aload_n 0, 1) := dk_42 (dk_at dksX8_spread_4 5 rfl rfl)
theorem dX8_spread_96 : decode cX8_spread 96 = .ok (.getfield 12, 3) := dk_180 0 12 (dk_at dksX8_spread_4 6 rfl rfl)
theorem dX8_spread_99 : decode cX8_spread 99 = .ok (.invokeinterface 52 1, 5) := by decide +kernel
theorem dX8_spread_104 : decode cX8_spread 104 = .ok (.invokestatic 70, 3) := dk_184 0 70 (dk_at dksX8_spread_4 14 rfl rfl)
theorem dX8_spread_107 : decode cX8_spread 107 = .ok (.imul, 1) := dk_104 (dk_at dksX8_spread_4 17 rfl rfl)
theorem dX8_spread_108 : decode cX8_spread 108 = .ok (.iadd, 1) := dk_96 (dk_at dksX8_spread_4 18 rfl rfl)
theorem dX8_spread_109 : decode cX8_spread 109 = .ok (.istore 11, 2) := dk_54 11 (dk_at dksX8_spread_4 19 rfl rfl)
theorem dX8_spread_111 : decode cX8_spread 111 = .ok (.aload_n 2, 1) := dk_44 (dk_at dksX8_spread_4 21 rfl rfl)
theorem dX8_spread_112 : decode cX8_spread 112 = .ok (.getfield 96, 3) := dk_180 0 96 (dk_at dksX8_spread_5 0 rfl rfl)
theorem dX8_spread_115 : decode cX8_spread 115 = .ok (.istore 12, 2) := dk_54 12 (dk_at dksX8_spread_5 3 rfl rfl)
theorem dX8_spread_117 : decode cX8_spread 117 = .ok (.iload 10, 2) := dk_21 10 (dk_at dksX8_spread_5 5 rfl rfl)
theorem dX8_spread_119 : decode cX8_spread 119 = .ok (.aload_n 0, 1) := dk_42 (dk_at dksX8_spread_5 7 rfl rfl)
theorem dX8_spread_120 : decode cX8_spread 120 = .ok (.getfield 12, 3) := dk_180 0 12 (dk_at dksX8_spread_5 8 rfl rfl)
theorem dX8_spread_123 : decode cX8_spread 123 = .ok (.invokeinterface 52 1, 5) := by decide +kernel
theorem dX8_spread_128 : decode cX8_spread 128 = .ok (.if_icmp .ge 48, 3) := dk_162 0 48 (dk_at dksX8_spread_5 16 rfl rfl)
theorem dX8_spread_131 : decode cX8_spread 131 = .ok (.iload 11, 2) := dk_21 11 (dk_at dksX8_spread_5 19 rfl rfl)
theorem dX8_spread_133 : decode cX8_spread 133 = .ok (.iload 5, 2) := dk_21 5 (dk_at dksX8_spread_5 21 rfl rfl)
theorem dX8_spread_135 : decode cX8_spread 135 = .ok (.iload 9, 2) := dk_21 9 (dk_at dksX8_spread_6 0 rfl rfl)
theorem dX8_spread_137 : decode cX8_spread 137 = .ok (.isub, 1) := dk_100 (dk_at dksX8_spread_6 2 rfl rfl)
theorem dX8_spread_138 : decode cX8_spread 138 = .ok (.iload 4, 2) := dk_21 4 (dk_at dksX8_spread_6 3 rfl rfl)
theorem dX8_spread_140 : decode cX8_spread 140 = .ok (.iload 10, 2) := dk_21 10 (dk_at dksX8_spread_6 5 rfl rfl)
theorem dX8_spread_142 : decode cX8_spread 142 = .ok (.invokestatic 70, 3) := dk_184 0 70 (dk_at dksX8_spread_6 7 rfl rfl)
theorem dX8_spread_145 : decode cX8_spread 145 = .ok (.imul, 1) := dk_104 (dk_at dksX8_spread_6 10 rfl rfl)
theorem dX8_spread_146 : decode cX8_spread 146 = .ok (.iadd, 1) := dk_96 (dk_at dksX8_spread_6 11 rfl rfl)
theorem dX8_spread_147 : decode cX8_spread 147 = .ok (.istore 11, 2) := dk_54 11 (dk_at dksX8_spread_6 12 rfl rfl)
theorem dX8_spread_149 : decode cX8_spread 149 = .ok (.iload 12, 2) := dk_21 12 (dk_at dksX8_spread_6 14 rfl rfl)
theorem dX8_spread_151 : decode cX8_spread 151 = .ok (.aload_n 1, 1) := dk_43 (dk_at dksX8_spread_6 16 rfl rfl)
theorem dX8_spread_152 : decode cX8_spread 152 = .ok (.getfield 122, 3) := dk_180 0 122 (dk_at dksX8_spread_6 17 rfl rfl)
theorem dX8_spread_155 : decode cX8_spread 155 = .ok (.aload_n 0, 1) := dk_42 (dk_at dksX8_spread_6 20 rfl rfl)
theorem dX8_spread_156 : decode cX8_spread 156 = .ok (.getfield 12, 3) := dk_180 0 12 (dk_at dksX8_spread_6 21 rfl rfl)
theorem dX8_spread_159 : decode cX8_spread 159 = .ok (.iload 10, 2) := dk_21 10 (dk_at dksX8_spread_7 0 rfl rfl)
theorem dX8_spread_161 : decode cX8_spread 161 = .ok (.invokeinterface 63 2, 5) := by decide +kernel
theorem dX8_spread_166 : decode cX8_spread 166 = .ok (.checkcast 29, 3) := dk_192 0 29 (dk_at dksX8_spread_7 7 rfl rfl)
theorem dX8_spread_169 : decode cX8_spread 169 = .ok (.invokevirtual 67, 3) := dk_182 0 67 (dk_at dksX8_spread_7 10 rfl rfl)
theorem dX8_spread_172 : decode cX8_spread 172 = .ok (.iaload, 1) := dk_46 (dk_at dksX8_spread_7 13 rfl rfl)
theorem dX8_spread_173 : decode cX8_spread 173 = .ok (.iadd, 1) := dk_96 (dk_at dksX8_spread_7 14 rfl rfl)
theorem dX8_spread_174 : decode cX8_spread 174 = .ok (.istore 12, 2) := dk_54 12 (dk_at dksX8_spread_7 15 rfl rfl)
theorem dX8_spread_176 : decode cX8_spread 176 = .ok (.aload_n 0, 1) := dk_42 (dk_at dksX8_spread_7 17 rfl rfl)
theorem dX8_spread_177 : decode cX8_spread 177 = .ok (.getfield 40, 3) := dk_180 0 40 (dk_at dksX8_spread_7 18 rfl rfl)
theorem dX8_spread_180 : decode cX8_spread 180 = .ok (.iload 11, 2) := dk_21 11 (dk_at dksX8_spread_7 21 rfl rfl)
theorem dX8_spread_182 : decode cX8_spread 182 = .ok (.iaload, 1) := dk_46 (dk_at dksX8_spread_7 23 rfl rfl)
theorem dX8_spread_183 : decode cX8_spread 183 = .ok (.iconst (-1), 1) := dk_2 (dk_at dksX8_spread_8 0 rfl rfl)
theorem dX8_spread_184 : decode cX8_spread 184 = .ok (.if_icmp .ne 19, 3) := dk_160 0 19 (dk_at dksX8_spread_8 1 rfl rfl)
theorem dX8_spread_187 : decode cX8_spread 187 = .ok (.aload_n 3, 1) := dk_45 (dk_at dksX8_spread_8 4 rfl rfl)
theorem dX8_spread_188 : decode cX8_spread 188 = .ok (.new 77, 3) := dk_187 0 77 (dk_at dksX8_spread_8 5 rfl rfl)
theorem dX8_spread_191 : decode cX8_spread 191 = .ok (.dup, 1) := dk_89 (dk_at dksX8_spread_8 8 rfl rfl)
theorem dX8_spread_192 : decode cX8_spread 192 = .ok (.iload 11, 2) := dk_21 11 (dk_at dksX8_spread_8 9 rfl rfl)
theorem dX8_spread_194 : decode cX8_spread 194 = .ok (.iload 12, 2) := dk_21 12 (dk_at dksX8_spread_8 11 rfl rfl)
theorem dX8_spread_196 : decode cX8_spread 196 = .ok (.invokespecial 79, 3) := dk_183 0 79 (dk_at dksX8_spread_8 13 rfl rfl)
theorem dX8_spread_199 : decode cX8_spread 199 = .ok (.invokevirtual 82, 3) := dk_182 0 82 (dk_at dksX8_spread_8 16 rfl rfl)
theorem dX8_spread_202 : decode cX8_spread 202 = .ok (.pop, 1) := dk_87 (dk_at dksX8_spread_8 19 rfl rfl)
theorem dX8_spread_203 : decode cX8_spread 203 = .ok (.iinc 8 1, 3) := dk_132 8 1 (dk_at dksX8_spread_8 20 rfl rfl)
theorem dX8_spread_206 : decode cX8_spread 206 = .ok (.goto (-156), 3) := dk_167 255 100 (dk_at dksX8_spread_9 0 rfl rfl)
theorem dX8_spread_209 : decode cX8_spread 209 = .ok (.return_, 1) := dk_177 (dk_at dksX8_spread_9 3 rfl rfl)
theorem q149 : (Jvm.Cond.initialized "Slidingtray$Part") ∈ lw_all := lw_g (lw_at lw_m1 48 rfl) rfl
theorem q294 : (Jvm.Cond.selects "Slidingtray$Part" ({ cls := "java/lang/Object", name := "getClass", desc := "()Ljava/lang/Class;" } : Jvm.MethodName) ({ cls := "java/lang/Object", name := "getClass", desc := "()Ljava/lang/Class;" } : Jvm.MethodName)) ∈ lw_all := lw_g (lw_at lw_m1 193 rfl) rfl
theorem q857 : (Jvm.Cond.selects "Slidingtray$Part" ({ cls := "java/lang/Object", name := "equals", desc := "(Ljava/lang/Object;)Z" } : Jvm.MethodName) ({ cls := "java/lang/Object", name := "equals", desc := "(Ljava/lang/Object;)Z" } : Jvm.MethodName)) ∈ lw_all := lw_g (lw_at lw_m4 36 rfl) rfl
theorem q994 : (Jvm.Cond.fieldLinkNest "Slidingtray$Part" (116 : Nat) "Slidingtray$Shape" "beside" "[[I" "Slidingtray") ∈ lw_tbl := lw_at lw_m4 173 rfl
theorem q1052 : (Jvm.Cond.fieldLinkNest "Slidingtray$Part" (110 : Nat) "Slidingtray$Lie" "shape" "LSlidingtray$Shape;" "Slidingtray") ∈ lw_tbl := lw_at lw_m4 231 rfl
theorem q1055 : (Jvm.Cond.fieldLinkNest "Slidingtray$Part" (125 : Nat) "Slidingtray$Lie" "tiles" "[I" "Slidingtray") ∈ lw_tbl := lw_at lw_m4 234 rfl
theorem q1058 : (Jvm.Cond.fieldLinkNest "Slidingtray$Part" (127 : Nat) "Slidingtray$Lie" "gap" "I" "Slidingtray") ∈ lw_tbl := lw_at lw_m4 237 rfl
theorem q1076 : (Jvm.Cond.fieldLinkNest "Slidingtray$Part" (106 : Nat) "Slidingtray$Aim" "lie" "LSlidingtray$Lie;" "Slidingtray") ∈ lw_tbl := lw_at lw_m5 15 rfl
theorem q1078 : (Jvm.Cond.fieldLinkNest "Slidingtray$Part" (22 : Nat) "Slidingtray$Aim" "opens" "[I" "Slidingtray") ∈ lw_tbl := lw_at lw_m5 17 rfl
theorem q1086 : (Jvm.Cond.fieldLinkNest "Slidingtray$Part" (122 : Nat) "Slidingtray$Aim" "weights" "[I" "Slidingtray") ∈ lw_tbl := lw_at lw_m5 25 rfl
theorem q1380 : (Jvm.Cond.instanceMethod ({ cls := "Slidingtray$Part", name := "costOf", desc := "(LSlidingtray$Lie;)I" } : Jvm.MethodName)) ∈ lw_all := lw_g (lw_at lw_m6 79 rfl) rfl
theorem q1381 : (Jvm.Cond.selects "Slidingtray$Part" ({ cls := "Slidingtray$Part", name := "costOf", desc := "(LSlidingtray$Lie;)I" } : Jvm.MethodName) ({ cls := "Slidingtray$Part", name := "costOf", desc := "(LSlidingtray$Lie;)I" } : Jvm.MethodName)) ∈ lw_all := lw_g (lw_at lw_m6 80 rfl) rfl
theorem q1382 : (Jvm.Cond.code ({ cls := "Slidingtray$Part", name := "costOf", desc := "(LSlidingtray$Lie;)I" } : Jvm.MethodName) prog_9_method_7_code (5 : Nat) (Option.some Jvm.ClassFile.FieldType.int)) ∈ lw_all := lw_g (lw_at lw_m6 81 rfl) rfl
theorem q1383 : (Jvm.Cond.interfaceEntry "Slidingtray$Part" (52 : Nat)) ∈ lw_tbl := lw_at lw_m6 82 rfl
theorem q1384 : (Jvm.Cond.methodLink "Slidingtray$Part" (52 : Nat) ({ cls := "java/util/List", name := "size", desc := "()I" } : Jvm.MethodName)) ∈ lw_all := lw_g (lw_at lw_m6 83 rfl) rfl
theorem q1385 : (Jvm.Cond.methodLink "Slidingtray$Part" (70 : Nat) ({ cls := "Slidingtray$Part", name := "power", desc := "(II)I" } : Jvm.MethodName)) ∈ lw_all := lw_g (lw_at lw_m6 84 rfl) rfl
theorem q1386 : (Jvm.Cond.static ({ cls := "Slidingtray$Part", name := "power", desc := "(II)I" } : Jvm.MethodName)) ∈ lw_all := lw_g (lw_at lw_m6 85 rfl) rfl
theorem q1387 : (Jvm.Cond.code ({ cls := "Slidingtray$Part", name := "power", desc := "(II)I" } : Jvm.MethodName) prog_9_method_4_code (4 : Nat) (Option.some Jvm.ClassFile.FieldType.int)) ∈ lw_all := lw_g (lw_at lw_m6 86 rfl) rfl
theorem q1388 : (Jvm.Cond.interfaceEntry "Slidingtray$Part" (63 : Nat)) ∈ lw_tbl := lw_at lw_m6 87 rfl
theorem q1389 : (Jvm.Cond.methodLink "Slidingtray$Part" (63 : Nat) ({ cls := "java/util/List", name := "get", desc := "(I)Ljava/lang/Object;" } : Jvm.MethodName)) ∈ lw_all := lw_g (lw_at lw_m6 88 rfl) rfl
theorem q1390 : (Jvm.Cond.classLink "Slidingtray$Part" (29 : Nat) "java/lang/Integer") ∈ lw_all := lw_g (lw_at lw_m6 89 rfl) rfl
theorem q1391 : (Jvm.Cond.methodLink "Slidingtray$Part" (67 : Nat) ({ cls := "java/lang/Integer", name := "intValue", desc := "()I" } : Jvm.MethodName)) ∈ lw_all := lw_g (lw_at lw_m6 90 rfl) rfl
theorem q1392 : (Jvm.Cond.methodLink "Slidingtray$Part" (130 : Nat) ({ cls := "Slidingtray$Lie", name := "openOf", desc := "(I)I" } : Jvm.MethodName)) ∈ lw_all := lw_g (lw_at lw_m6 91 rfl) rfl
theorem q1396 : (Jvm.Cond.methodLink "Slidingtray$Part" (134 : Nat) ({ cls := "java/lang/Math", name := "max", desc := "(II)I" } : Jvm.MethodName)) ∈ lw_all := lw_g (lw_at lw_m6 95 rfl) rfl
theorem q2662 : (Jvm.Cond.instantiable "Slidingtray$Part" (4 : Nat)) ∈ lw_all := lw_g (lw_at lw_m11 161 rfl) rfl
theorem q2664 : (Jvm.Cond.instanceMethod ({ cls := "Slidingtray$Part", name := "<init>", desc := "(LSlidingtray$Aim;I)V" } : Jvm.MethodName)) ∈ lw_all := lw_g (lw_at lw_m11 163 rfl) rfl
theorem q2665 : (Jvm.Cond.code ({ cls := "Slidingtray$Part", name := "<init>", desc := "(LSlidingtray$Aim;I)V" } : Jvm.MethodName) prog_9_method_1_code (6 : Nat) (Option.none : Option Jvm.ClassFile.FieldType)) ∈ lw_all := lw_g (lw_at lw_m11 164 rfl) rfl
theorem q2666 : (Jvm.Cond.methodLink "Slidingtray$Part" (3 : Nat) ({ cls := "java/lang/Object", name := "<init>", desc := "()V" } : Jvm.MethodName)) ∈ lw_all := lw_g (lw_at lw_m11 165 rfl) rfl
theorem q2667 : (Jvm.Cond.classLink "Slidingtray$Part" (9 : Nat) "java/util/ArrayList") ∈ lw_all := lw_g (lw_at lw_m11 166 rfl) rfl
theorem q2668 : (Jvm.Cond.methodLink "Slidingtray$Part" (11 : Nat) ({ cls := "java/util/ArrayList", name := "<init>", desc := "()V" } : Jvm.MethodName)) ∈ lw_all := lw_g (lw_at lw_m11 167 rfl) rfl
theorem q2669 : (Jvm.Cond.methodLink "Slidingtray$Part" (28 : Nat) ({ cls := "java/lang/Integer", name := "valueOf", desc := "(I)Ljava/lang/Integer;" } : Jvm.MethodName)) ∈ lw_all := lw_g (lw_at lw_m11 168 rfl) rfl
theorem q2670 : (Jvm.Cond.interfaceEntry "Slidingtray$Part" (34 : Nat)) ∈ lw_tbl := lw_at lw_m11 169 rfl
theorem q2671 : (Jvm.Cond.methodLink "Slidingtray$Part" (34 : Nat) ({ cls := "java/util/List", name := "add", desc := "(Ljava/lang/Object;)Z" } : Jvm.MethodName)) ∈ lw_all := lw_g (lw_at lw_m11 170 rfl) rfl
theorem q2672 : (Jvm.Cond.methodLink "Slidingtray$Part" (43 : Nat) ({ cls := "java/util/Arrays", name := "fill", desc := "([II)V" } : Jvm.MethodName)) ∈ lw_all := lw_g (lw_at lw_m11 171 rfl) rfl
theorem q2673 : (Jvm.Cond.methodLink "Slidingtray$Part" (49 : Nat) ({ cls := "Slidingtray$Part", name := "fill", desc := "(LSlidingtray$Aim;)V" } : Jvm.MethodName)) ∈ lw_all := lw_g (lw_at lw_m11 172 rfl) rfl
theorem q2674 : (Jvm.Cond.privateMethod ({ cls := "Slidingtray$Part", name := "fill", desc := "(LSlidingtray$Aim;)V" } : Jvm.MethodName)) ∈ lw_tbl := lw_at lw_m11 173 rfl
theorem q2675 : (Jvm.Cond.instanceMethod ({ cls := "Slidingtray$Part", name := "fill", desc := "(LSlidingtray$Aim;)V" } : Jvm.MethodName)) ∈ lw_all := lw_g (lw_at lw_m11 174 rfl) rfl
theorem q2676 : (Jvm.Cond.code ({ cls := "Slidingtray$Part", name := "fill", desc := "(LSlidingtray$Aim;)V" } : Jvm.MethodName) prog_9_method_5_code (6 : Nat) (Option.none : Option Jvm.ClassFile.FieldType)) ∈ lw_all := lw_g (lw_at lw_m11 175 rfl) rfl
theorem q2677 : (Jvm.Cond.classLink "Slidingtray$Part" (60 : Nat) "java/util/PriorityQueue") ∈ lw_all := lw_g (lw_at lw_m11 176 rfl) rfl
theorem q2678 : (Jvm.Cond.methodLink "Slidingtray$Part" (62 : Nat) ({ cls := "java/util/PriorityQueue", name := "<init>", desc := "()V" } : Jvm.MethodName)) ∈ lw_all := lw_g (lw_at lw_m11 177 rfl) rfl
theorem q2679 : (Jvm.Cond.methodLink "Slidingtray$Part" (74 : Nat) ({ cls := "Slidingtray$Part", name := "indexAt", desc := "(III)I" } : Jvm.MethodName)) ∈ lw_all := lw_g (lw_at lw_m11 178 rfl) rfl
theorem q2680 : (Jvm.Cond.privateMethod ({ cls := "Slidingtray$Part", name := "indexAt", desc := "(III)I" } : Jvm.MethodName)) ∈ lw_tbl := lw_at lw_m11 179 rfl
theorem q2681 : (Jvm.Cond.instanceMethod ({ cls := "Slidingtray$Part", name := "indexAt", desc := "(III)I" } : Jvm.MethodName)) ∈ lw_all := lw_g (lw_at lw_m11 180 rfl) rfl
theorem q2682 : (Jvm.Cond.code ({ cls := "Slidingtray$Part", name := "indexAt", desc := "(III)I" } : Jvm.MethodName) prog_9_method_3_code (5 : Nat) (Option.some Jvm.ClassFile.FieldType.int)) ∈ lw_all := lw_g (lw_at lw_m11 181 rfl) rfl
theorem q2683 : (Jvm.Cond.methodLink "Slidingtray$Part" (56 : Nat) ({ cls := "Slidingtray$Part", name := "at", desc := "(III)I" } : Jvm.MethodName)) ∈ lw_all := lw_g (lw_at lw_m11 182 rfl) rfl
theorem q2684 : (Jvm.Cond.static ({ cls := "Slidingtray$Part", name := "at", desc := "(III)I" } : Jvm.MethodName)) ∈ lw_all := lw_g (lw_at lw_m11 183 rfl) rfl
theorem q2685 : (Jvm.Cond.code ({ cls := "Slidingtray$Part", name := "at", desc := "(III)I" } : Jvm.MethodName) prog_9_method_2_code (5 : Nat) (Option.some Jvm.ClassFile.FieldType.int)) ∈ lw_all := lw_g (lw_at lw_m11 184 rfl) rfl
theorem q2686 : (Jvm.Cond.classLink "Slidingtray$Part" (77 : Nat) "Slidingtray$Part$Place") ∈ lw_all := lw_g (lw_at lw_m11 185 rfl) rfl
theorem q2688 : (Jvm.Cond.methodLink "Slidingtray$Part" (79 : Nat) ({ cls := "Slidingtray$Part$Place", name := "<init>", desc := "(II)V" } : Jvm.MethodName)) ∈ lw_all := lw_g (lw_at lw_m11 187 rfl) rfl
theorem q2693 : (Jvm.Cond.fieldLinkNest "Slidingtray$Part" (93 : Nat) "Slidingtray$Part$Place" "number" "I" "Slidingtray") ∈ lw_tbl := lw_at lw_m11 192 rfl
theorem q2695 : (Jvm.Cond.fieldLinkNest "Slidingtray$Part" (96 : Nat) "Slidingtray$Part$Place" "cost" "I" "Slidingtray") ∈ lw_tbl := lw_at lw_m11 194 rfl
theorem q2701 : (Jvm.Cond.methodLink "Slidingtray$Part" (82 : Nat) ({ cls := "java/util/PriorityQueue", name := "offer", desc := "(Ljava/lang/Object;)Z" } : Jvm.MethodName)) ∈ lw_all := lw_g (lw_at lw_m11 200 rfl) rfl
theorem q2702 : (Jvm.Cond.methodLink "Slidingtray$Part" (85 : Nat) ({ cls := "java/util/PriorityQueue", name := "isEmpty", desc := "()Z" } : Jvm.MethodName)) ∈ lw_all := lw_g (lw_at lw_m11 201 rfl) rfl
theorem q2703 : (Jvm.Cond.methodLink "Slidingtray$Part" (89 : Nat) ({ cls := "java/util/PriorityQueue", name := "poll", desc := "()Ljava/lang/Object;" } : Jvm.MethodName)) ∈ lw_all := lw_g (lw_at lw_m11 202 rfl) rfl
theorem q2704 : (Jvm.Cond.methodLink "Slidingtray$Part" (102 : Nat) ({ cls := "Slidingtray$Part", name := "spread", desc := "(LSlidingtray$Aim;LSlidingtray$Part$Place;Ljava/util/PriorityQueue;)V" } : Jvm.MethodName)) ∈ lw_all := lw_g (lw_at lw_m11 203 rfl) rfl
theorem q2705 : (Jvm.Cond.privateMethod ({ cls := "Slidingtray$Part", name := "spread", desc := "(LSlidingtray$Aim;LSlidingtray$Part$Place;Ljava/util/PriorityQueue;)V" } : Jvm.MethodName)) ∈ lw_tbl := lw_at lw_m11 204 rfl
theorem q2706 : (Jvm.Cond.instanceMethod ({ cls := "Slidingtray$Part", name := "spread", desc := "(LSlidingtray$Aim;LSlidingtray$Part$Place;Ljava/util/PriorityQueue;)V" } : Jvm.MethodName)) ∈ lw_all := lw_g (lw_at lw_m11 205 rfl) rfl
theorem q2707 : (Jvm.Cond.code ({ cls := "Slidingtray$Part", name := "spread", desc := "(LSlidingtray$Aim;LSlidingtray$Part$Place;Ljava/util/PriorityQueue;)V" } : Jvm.MethodName) prog_9_method_6_code (13 : Nat) (Option.none : Option Jvm.ClassFile.FieldType)) ∈ lw_all := lw_g (lw_at lw_m11 206 rfl) rfl
theorem q2708 : (Jvm.Cond.fieldLink "Slidingtray$Part" (18 : Nat) "Slidingtray$Part" "set" "I") ∈ lw_all := lw_g (lw_at lw_m11 207 rfl) rfl
theorem q2710 : (Jvm.Cond.fieldLink "Slidingtray$Part" (12 : Nat) "Slidingtray$Part" "tiles" "Ljava/util/List;") ∈ lw_all := lw_g (lw_at lw_m11 209 rfl) rfl
theorem q2711 : (Jvm.Cond.fieldLink "Slidingtray$Part" (40 : Nat) "Slidingtray$Part" "costs" "[I") ∈ lw_all := lw_g (lw_at lw_m11 210 rfl) rfl
theorem q2712 : (Jvm.Cond.fieldLink "Slidingtray$Part" (99 : Nat) "Slidingtray$Part" "places" "I") ∈ lw_all := lw_g (lw_at lw_m11 211 rfl) rfl
theorem q2714 : (Jvm.Cond.laysFinal "Slidingtray$Part" "Slidingtray$Part" "set" "I") ∈ lw_all := lw_g (lw_at lw_m11 213 rfl) rfl
theorem q2715 : (Jvm.Cond.soleField "Slidingtray$Part" "set") ∈ lw_all := lw_g (lw_at lw_m11 214 rfl) rfl
theorem q2716 : (Jvm.Cond.laysFinal "Slidingtray$Part" "Slidingtray$Part" "tiles" "Ljava/util/List;") ∈ lw_all := lw_g (lw_at lw_m11 215 rfl) rfl
theorem q2717 : (Jvm.Cond.soleField "Slidingtray$Part" "tiles") ∈ lw_all := lw_g (lw_at lw_m11 216 rfl) rfl
theorem q2718 : (Jvm.Cond.laysFinal "Slidingtray$Part" "Slidingtray$Part" "costs" "[I") ∈ lw_all := lw_g (lw_at lw_m11 217 rfl) rfl
theorem q2719 : (Jvm.Cond.soleField "Slidingtray$Part" "costs") ∈ lw_all := lw_g (lw_at lw_m11 218 rfl) rfl
theorem q2720 : (Jvm.Cond.lays "Slidingtray$Part" "Slidingtray$Part" "places" "I") ∈ lw_all := lw_g (lw_at lw_m11 219 rfl) rfl
theorem q2721 : (Jvm.Cond.soleField "Slidingtray$Part" "places") ∈ lw_all := lw_g (lw_at lw_m11 220 rfl) rfl
theorem q2722 : (Jvm.Cond.superclass "Slidingtray$Part" "java/lang/Object") ∈ lw_all := lw_g (lw_at lw_m11 221 rfl) rfl
theorem q3324 : (Jvm.Cond.castable "Slidingtray$Part" "java/lang/Object") ∈ lw_tbl := lw_at lw_m14 103 rfl
theorem in_X8 : ∀ w ∈ wsX80, w ∈ lw_all := lw_in wsX80 [2714, 2716, 2718, 2720] (by decide +kernel) (by decide +kernel)
/-! Slidingtray$State -/
set_option maxRecDepth 100000
def RX9 : String := "Slidingtray$State"
def TX9 : u_T := fun k => match k with
  | 0 => ("Slidingtray$State", "lie", "LSlidingtray$Lie;", true)
  | 1 => ("Slidingtray$State", "estimate", "I", true)
  | 2 => ("Slidingtray$State", "rank", "J", true)
  | 3 => ("Slidingtray$State", "cost", "I", true)
  | 4 => ("Slidingtray$State", "from", "LSlidingtray$State;", true)
  | _ => ("Slidingtray$State", "direction", "I", true)
def tyX9 : Nat → FieldType := fun k => match k with
  | 0 => .object "Slidingtray$Lie"
  | 1 => .int
  | 2 => .long
  | 3 => .int
  | 4 => .object "Slidingtray$State"
  | _ => .int
abbrev wsX90 : List Cond := u_ws RX9 TX9 6
theorem nmX9 : ∀ a, a < 6 → ∀ b, b < 6 → a ≠ b → (TX9 a).2.1 ≠ (TX9 b).2.1 := by decide +kernel
theorem tyX9_ok : ∀ k, k < 6 → parseFieldDescriptor (TX9 k).2.2.1 = some (tyX9 k) := by decide +kernel
abbrev cX9_init : ByteArray := prog_13_method_1_code
def yX9_init : MethodName := ⟨RX9, "<init>", "(LSlidingtray$Lie;IILSlidingtray$State;I)V"⟩
def dkwX9_init_1 : List UInt8 := [181, 0, 26, 42, 25, 4, 181, 0, 29, 42, 21, 5, 181, 0, 33, 177]
abbrev dktX9_init_1 : List UInt8 := dkwX9_init_1 ++ []
def dkwX9_init_0 : List UInt8 := [42, 183, 0, 1, 42, 43, 181, 0, 7, 42, 28, 181, 0, 13, 42, 43, 182, 0, 17, 181, 0, 23, 42, 29]
abbrev dktX9_init_0 : List UInt8 := dkwX9_init_0 ++ dktX9_init_1
theorem dksX9_init_0 : cX9_init.data.toList.drop 0 = dktX9_init_0 := by decide +kernel
theorem dksX9_init_1 : cX9_init.data.toList.drop 24 = dktX9_init_1 := dk_seg dksX9_init_0 24 rfl rfl
theorem dX9_init_0 : decode cX9_init 0 = .ok (.aload_n 0, 1) := dk_42 (dk_at dksX9_init_0 0 rfl rfl)
theorem dX9_init_1 : decode cX9_init 1 = .ok (.invokespecial 1, 3) := dk_183 0 1 (dk_at dksX9_init_0 1 rfl rfl)
theorem dX9_init_4 : decode cX9_init 4 = .ok (.aload_n 0, 1) := dk_42 (dk_at dksX9_init_0 4 rfl rfl)
theorem dX9_init_5 : decode cX9_init 5 = .ok (.aload_n 1, 1) := dk_43 (dk_at dksX9_init_0 5 rfl rfl)
theorem dX9_init_6 : decode cX9_init 6 = .ok (.putfield 7, 3) := dk_181 0 7 (dk_at dksX9_init_0 6 rfl rfl)
theorem dX9_init_9 : decode cX9_init 9 = .ok (.aload_n 0, 1) := dk_42 (dk_at dksX9_init_0 9 rfl rfl)
theorem dX9_init_10 : decode cX9_init 10 = .ok (.iload_n 2, 1) := dk_28 (dk_at dksX9_init_0 10 rfl rfl)
theorem dX9_init_11 : decode cX9_init 11 = .ok (.putfield 13, 3) := dk_181 0 13 (dk_at dksX9_init_0 11 rfl rfl)
theorem dX9_init_14 : decode cX9_init 14 = .ok (.aload_n 0, 1) := dk_42 (dk_at dksX9_init_0 14 rfl rfl)
theorem dX9_init_15 : decode cX9_init 15 = .ok (.aload_n 1, 1) := dk_43 (dk_at dksX9_init_0 15 rfl rfl)
theorem dX9_init_16 : decode cX9_init 16 = .ok (.invokevirtual 17, 3) := dk_182 0 17 (dk_at dksX9_init_0 16 rfl rfl)
theorem dX9_init_19 : decode cX9_init 19 = .ok (.putfield 23, 3) := dk_181 0 23 (dk_at dksX9_init_0 19 rfl rfl)
theorem dX9_init_22 : decode cX9_init 22 = .ok (.aload_n 0, 1) := dk_42 (dk_at dksX9_init_0 22 rfl rfl)
theorem dX9_init_23 : decode cX9_init 23 = .ok (.iload_n 3, 1) := dk_29 (dk_at dksX9_init_0 23 rfl rfl)
theorem dX9_init_24 : decode cX9_init 24 = .ok (.putfield 26, 3) := dk_181 0 26 (dk_at dksX9_init_1 0 rfl rfl)
theorem dX9_init_27 : decode cX9_init 27 = .ok (.aload_n 0, 1) := dk_42 (dk_at dksX9_init_1 3 rfl rfl)
theorem dX9_init_28 : decode cX9_init 28 = .ok (.aload 4, 2) := dk_25 4 (dk_at dksX9_init_1 4 rfl rfl)
theorem dX9_init_30 : decode cX9_init 30 = .ok (.putfield 29, 3) := dk_181 0 29 (dk_at dksX9_init_1 6 rfl rfl)
theorem dX9_init_33 : decode cX9_init 33 = .ok (.aload_n 0, 1) := dk_42 (dk_at dksX9_init_1 9 rfl rfl)
theorem dX9_init_34 : decode cX9_init 34 = .ok (.iload 5, 2) := dk_21 5 (dk_at dksX9_init_1 10 rfl rfl)
theorem dX9_init_36 : decode cX9_init 36 = .ok (.putfield 33, 3) := dk_181 0 33 (dk_at dksX9_init_1 12 rfl rfl)
theorem dX9_init_39 : decode cX9_init 39 = .ok (.return_, 1) := dk_177 (dk_at dksX9_init_1 15 rfl rfl)
abbrev cX9_compareTo : ByteArray := prog_13_method_3_code
def yX9_compareTo : MethodName := ⟨RX9, "compareTo", "(Ljava/lang/Object;)I"⟩
def dkwX9_compareTo_0 : List UInt8 := [42, 43, 192, 0, 8, 182, 0, 47, 172]
abbrev dktX9_compareTo_0 : List UInt8 := dkwX9_compareTo_0 ++ []
theorem dksX9_compareTo_0 : cX9_compareTo.data.toList.drop 0 = dktX9_compareTo_0 := by decide +kernel
theorem dX9_compareTo_0 : decode cX9_compareTo 0 = .ok (.aload_n 0, 1) := dk_42 (dk_at dksX9_compareTo_0 0 rfl rfl)
theorem dX9_compareTo_1 : decode cX9_compareTo 1 = .ok (.aload_n 1, 1) := dk_43 (dk_at dksX9_compareTo_0 1 rfl rfl)
theorem dX9_compareTo_2 : decode cX9_compareTo 2 = .ok (.checkcast 8, 3) := dk_192 0 8 (dk_at dksX9_compareTo_0 2 rfl rfl)
theorem dX9_compareTo_5 : decode cX9_compareTo 5 = .ok (.invokevirtual 47, 3) := dk_182 0 47 (dk_at dksX9_compareTo_0 5 rfl rfl)
theorem dX9_compareTo_8 : decode cX9_compareTo 8 = .ok (.ireturn, 1) := dk_172 (dk_at dksX9_compareTo_0 8 rfl rfl)
abbrev cX9_compareTo_2 : ByteArray := prog_13_method_2_code
def yX9_compareTo_2 : MethodName := ⟨RX9, "compareTo", "(LSlidingtray$State;)I"⟩
def dkwX9_compareTo_2_2 : List UInt8 := [167, 0, 14, 42, 180, 0, 23, 43, 180, 0, 23, 184, 0, 42, 172]
abbrev dktX9_compareTo_2_2 : List UInt8 := dkwX9_compareTo_2_2 ++ []
def dkwX9_compareTo_2_1 : List UInt8 := [153, 0, 7, 28, 167, 0, 14, 42, 180, 0, 13, 43, 180, 0, 13, 184, 0, 36, 62, 29, 153, 0, 7, 29]
abbrev dktX9_compareTo_2_1 : List UInt8 := dkwX9_compareTo_2_1 ++ dktX9_compareTo_2_2
def dkwX9_compareTo_2_0 : List UInt8 := [42, 180, 0, 26, 42, 180, 0, 13, 96, 43, 180, 0, 26, 43, 180, 0, 13, 96, 184, 0, 36, 61, 28]
abbrev dktX9_compareTo_2_0 : List UInt8 := dkwX9_compareTo_2_0 ++ dktX9_compareTo_2_1
theorem dksX9_compareTo_2_0 : cX9_compareTo_2.data.toList.drop 0 = dktX9_compareTo_2_0 := by decide +kernel
theorem dksX9_compareTo_2_1 : cX9_compareTo_2.data.toList.drop 23 = dktX9_compareTo_2_1 := dk_seg dksX9_compareTo_2_0 23 rfl rfl
theorem dksX9_compareTo_2_2 : cX9_compareTo_2.data.toList.drop 47 = dktX9_compareTo_2_2 := dk_seg dksX9_compareTo_2_1 24 rfl rfl
theorem dX9_compareTo_2_0 : decode cX9_compareTo_2 0 = .ok (.aload_n 0, 1) := dk_42 (dk_at dksX9_compareTo_2_0 0 rfl rfl)
theorem dX9_compareTo_2_1 : decode cX9_compareTo_2 1 = .ok (.getfield 26, 3) := dk_180 0 26 (dk_at dksX9_compareTo_2_0 1 rfl rfl)
theorem dX9_compareTo_2_4 : decode cX9_compareTo_2 4 = .ok (.aload_n 0, 1) := dk_42 (dk_at dksX9_compareTo_2_0 4 rfl rfl)
theorem dX9_compareTo_2_5 : decode cX9_compareTo_2 5 = .ok (.getfield 13, 3) := dk_180 0 13 (dk_at dksX9_compareTo_2_0 5 rfl rfl)
theorem dX9_compareTo_2_8 : decode cX9_compareTo_2 8 = .ok (.iadd, 1) := dk_96 (dk_at dksX9_compareTo_2_0 8 rfl rfl)
theorem dX9_compareTo_2_9 : decode cX9_compareTo_2 9 = .ok (.aload_n 1, 1) := dk_43 (dk_at dksX9_compareTo_2_0 9 rfl rfl)
theorem dX9_compareTo_2_10 : decode cX9_compareTo_2 10 = .ok (.getfield 26, 3) := dk_180 0 26 (dk_at dksX9_compareTo_2_0 10 rfl rfl)
theorem dX9_compareTo_2_13 : decode cX9_compareTo_2 13 = .ok (.aload_n 1, 1) := dk_43 (dk_at dksX9_compareTo_2_0 13 rfl rfl)
theorem dX9_compareTo_2_14 : decode cX9_compareTo_2 14 = .ok (.getfield 13, 3) := dk_180 0 13 (dk_at dksX9_compareTo_2_0 14 rfl rfl)
theorem dX9_compareTo_2_17 : decode cX9_compareTo_2 17 = .ok (.iadd, 1) := dk_96 (dk_at dksX9_compareTo_2_0 17 rfl rfl)
theorem dX9_compareTo_2_18 : decode cX9_compareTo_2 18 = .ok (.invokestatic 36, 3) := dk_184 0 36 (dk_at dksX9_compareTo_2_0 18 rfl rfl)
theorem dX9_compareTo_2_21 : decode cX9_compareTo_2 21 = .ok (.istore_n 2, 1) := dk_61 (dk_at dksX9_compareTo_2_0 21 rfl rfl)
theorem dX9_compareTo_2_22 : decode cX9_compareTo_2 22 = .ok (.iload_n 2, 1) := dk_28 (dk_at dksX9_compareTo_2_0 22 rfl rfl)
theorem dX9_compareTo_2_23 : decode cX9_compareTo_2 23 = .ok (.ifCond .eq 7, 3) := dk_153 0 7 (dk_at dksX9_compareTo_2_1 0 rfl rfl)
theorem dX9_compareTo_2_26 : decode cX9_compareTo_2 26 = .ok (.iload_n 2, 1) := dk_28 (dk_at dksX9_compareTo_2_1 3 rfl rfl)
theorem dX9_compareTo_2_27 : decode cX9_compareTo_2 27 = .ok (.goto 14, 3) := dk_167 0 14 (dk_at dksX9_compareTo_2_1 4 rfl rfl)
theorem dX9_compareTo_2_30 : decode cX9_compareTo_2 30 = .ok (.aload_n 0, 1) := dk_42 (dk_at dksX9_compareTo_2_1 7 rfl rfl)
theorem dX9_compareTo_2_31 : decode cX9_compareTo_2 31 = .ok (.getfield 13, 3) := dk_180 0 13 (dk_at dksX9_compareTo_2_1 8 rfl rfl)
theorem dX9_compareTo_2_34 : decode cX9_compareTo_2 34 = .ok (.aload_n 1, 1) := dk_43 (dk_at dksX9_compareTo_2_1 11 rfl rfl)
theorem dX9_compareTo_2_35 : decode cX9_compareTo_2 35 = .ok (.getfield 13, 3) := dk_180 0 13 (dk_at dksX9_compareTo_2_1 12 rfl rfl)
theorem dX9_compareTo_2_38 : decode cX9_compareTo_2 38 = .ok (.invokestatic 36, 3) := dk_184 0 36 (dk_at dksX9_compareTo_2_1 15 rfl rfl)
theorem dX9_compareTo_2_41 : decode cX9_compareTo_2 41 = .ok (.istore_n 3, 1) := dk_62 (dk_at dksX9_compareTo_2_1 18 rfl rfl)
theorem dX9_compareTo_2_42 : decode cX9_compareTo_2 42 = .ok (.iload_n 3, 1) := dk_29 (dk_at dksX9_compareTo_2_1 19 rfl rfl)
theorem dX9_compareTo_2_43 : decode cX9_compareTo_2 43 = .ok (.ifCond .eq 7, 3) := dk_153 0 7 (dk_at dksX9_compareTo_2_1 20 rfl rfl)
theorem dX9_compareTo_2_46 : decode cX9_compareTo_2 46 = .ok (.iload_n 3, 1) := dk_29 (dk_at dksX9_compareTo_2_1 23 rfl rfl)
theorem dX9_compareTo_2_47 : decode cX9_compareTo_2 47 = .ok (.goto 14, 3) := dk_167 0 14 (dk_at dksX9_compareTo_2_2 0 rfl rfl)
theorem dX9_compareTo_2_50 : decode cX9_compareTo_2 50 = .ok (.aload_n 0, 1) := dk_42 (dk_at dksX9_compareTo_2_2 3 rfl rfl)
theorem dX9_compareTo_2_51 : decode cX9_compareTo_2 51 = .ok (.getfield 23, 3) := dk_180 0 23 (dk_at dksX9_compareTo_2_2 4 rfl rfl)
theorem dX9_compareTo_2_54 : decode cX9_compareTo_2 54 = .ok (.aload_n 1, 1) := dk_43 (dk_at dksX9_compareTo_2_2 7 rfl rfl)
theorem dX9_compareTo_2_55 : decode cX9_compareTo_2 55 = .ok (.getfield 23, 3) := dk_180 0 23 (dk_at dksX9_compareTo_2_2 8 rfl rfl)
theorem dX9_compareTo_2_58 : decode cX9_compareTo_2 58 = .ok (.invokestatic 42, 3) := dk_184 0 42 (dk_at dksX9_compareTo_2_2 11 rfl rfl)
theorem dX9_compareTo_2_61 : decode cX9_compareTo_2 61 = .ok (.ireturn, 1) := dk_172 (dk_at dksX9_compareTo_2_2 14 rfl rfl)
theorem q152 : (Jvm.Cond.initialized "Slidingtray$State") ∈ lw_all := lw_g (lw_at lw_m1 51 rfl) rfl
theorem q298 : (Jvm.Cond.selects "Slidingtray$State" ({ cls := "java/lang/Object", name := "getClass", desc := "()Ljava/lang/Class;" } : Jvm.MethodName) ({ cls := "java/lang/Object", name := "getClass", desc := "()Ljava/lang/Class;" } : Jvm.MethodName)) ∈ lw_all := lw_g (lw_at lw_m1 197 rfl) rfl
theorem q861 : (Jvm.Cond.selects "Slidingtray$State" ({ cls := "java/lang/Object", name := "equals", desc := "(Ljava/lang/Object;)Z" } : Jvm.MethodName) ({ cls := "java/lang/Object", name := "equals", desc := "(Ljava/lang/Object;)Z" } : Jvm.MethodName)) ∈ lw_all := lw_g (lw_at lw_m4 40 rfl) rfl
theorem q1475 : (Jvm.Cond.instantiable "Slidingtray$State" (6 : Nat)) ∈ lw_all := lw_g (lw_at lw_m6 174 rfl) rfl
theorem q1477 : (Jvm.Cond.instanceMethod ({ cls := "Slidingtray$State", name := "<init>", desc := "(LSlidingtray$Lie;IILSlidingtray$State;I)V" } : Jvm.MethodName)) ∈ lw_all := lw_g (lw_at lw_m6 176 rfl) rfl
theorem q1478 : (Jvm.Cond.code ({ cls := "Slidingtray$State", name := "<init>", desc := "(LSlidingtray$Lie;IILSlidingtray$State;I)V" } : Jvm.MethodName) prog_13_method_1_code (6 : Nat) (Option.none : Option Jvm.ClassFile.FieldType)) ∈ lw_all := lw_g (lw_at lw_m6 177 rfl) rfl
theorem q1479 : (Jvm.Cond.methodLink "Slidingtray$State" (1 : Nat) ({ cls := "java/lang/Object", name := "<init>", desc := "()V" } : Jvm.MethodName)) ∈ lw_all := lw_g (lw_at lw_m6 178 rfl) rfl
theorem q1480 : (Jvm.Cond.methodLink "Slidingtray$State" (17 : Nat) ({ cls := "Slidingtray$Lie", name := "rank", desc := "()J" } : Jvm.MethodName)) ∈ lw_all := lw_g (lw_at lw_m6 179 rfl) rfl
theorem q1481 : (Jvm.Cond.fieldLink "Slidingtray$State" (7 : Nat) "Slidingtray$State" "lie" "LSlidingtray$Lie;") ∈ lw_all := lw_g (lw_at lw_m6 180 rfl) rfl
theorem q1484 : (Jvm.Cond.fieldLink "Slidingtray$State" (13 : Nat) "Slidingtray$State" "estimate" "I") ∈ lw_all := lw_g (lw_at lw_m6 183 rfl) rfl
theorem q1486 : (Jvm.Cond.fieldLink "Slidingtray$State" (23 : Nat) "Slidingtray$State" "rank" "J") ∈ lw_all := lw_g (lw_at lw_m6 185 rfl) rfl
theorem q1489 : (Jvm.Cond.fieldLink "Slidingtray$State" (26 : Nat) "Slidingtray$State" "cost" "I") ∈ lw_all := lw_g (lw_at lw_m6 188 rfl) rfl
theorem q1492 : (Jvm.Cond.fieldLink "Slidingtray$State" (29 : Nat) "Slidingtray$State" "from" "LSlidingtray$State;") ∈ lw_all := lw_g (lw_at lw_m6 191 rfl) rfl
theorem q1494 : (Jvm.Cond.fieldLink "Slidingtray$State" (33 : Nat) "Slidingtray$State" "direction" "I") ∈ lw_all := lw_g (lw_at lw_m6 193 rfl) rfl
theorem q1496 : (Jvm.Cond.laysFinal "Slidingtray$State" "Slidingtray$State" "lie" "LSlidingtray$Lie;") ∈ lw_all := lw_g (lw_at lw_m6 195 rfl) rfl
theorem q1497 : (Jvm.Cond.soleField "Slidingtray$State" "lie") ∈ lw_all := lw_g (lw_at lw_m6 196 rfl) rfl
theorem q1498 : (Jvm.Cond.laysFinal "Slidingtray$State" "Slidingtray$State" "estimate" "I") ∈ lw_all := lw_g (lw_at lw_m6 197 rfl) rfl
theorem q1499 : (Jvm.Cond.soleField "Slidingtray$State" "estimate") ∈ lw_all := lw_g (lw_at lw_m6 198 rfl) rfl
theorem q1500 : (Jvm.Cond.laysFinal "Slidingtray$State" "Slidingtray$State" "rank" "J") ∈ lw_all := lw_g (lw_at lw_m6 199 rfl) rfl
theorem q1501 : (Jvm.Cond.soleField "Slidingtray$State" "rank") ∈ lw_all := lw_g (lw_at lw_m6 200 rfl) rfl
theorem q1502 : (Jvm.Cond.laysFinal "Slidingtray$State" "Slidingtray$State" "cost" "I") ∈ lw_all := lw_g (lw_at lw_m6 201 rfl) rfl
theorem q1503 : (Jvm.Cond.soleField "Slidingtray$State" "cost") ∈ lw_all := lw_g (lw_at lw_m6 202 rfl) rfl
theorem q1504 : (Jvm.Cond.laysFinal "Slidingtray$State" "Slidingtray$State" "from" "LSlidingtray$State;") ∈ lw_all := lw_g (lw_at lw_m6 203 rfl) rfl
theorem q1505 : (Jvm.Cond.soleField "Slidingtray$State" "from") ∈ lw_all := lw_g (lw_at lw_m6 204 rfl) rfl
theorem q1506 : (Jvm.Cond.laysFinal "Slidingtray$State" "Slidingtray$State" "direction" "I") ∈ lw_all := lw_g (lw_at lw_m6 205 rfl) rfl
theorem q1507 : (Jvm.Cond.soleField "Slidingtray$State" "direction") ∈ lw_all := lw_g (lw_at lw_m6 206 rfl) rfl
theorem q1508 : (Jvm.Cond.superclass "Slidingtray$State" "java/lang/Object") ∈ lw_all := lw_g (lw_at lw_m6 207 rfl) rfl
theorem q1552 : (Jvm.Cond.castable "Slidingtray$State" "java/lang/Comparable") ∈ lw_tbl := lw_at lw_m7 11 rfl
theorem q1553 : (Jvm.Cond.selects "Slidingtray$State" ({ cls := "java/lang/Comparable", name := "compareTo", desc := "(Ljava/lang/Object;)I" } : Jvm.MethodName) ({ cls := "Slidingtray$State", name := "compareTo", desc := "(Ljava/lang/Object;)I" } : Jvm.MethodName)) ∈ lw_all := lw_g (lw_at lw_m7 12 rfl) rfl
theorem q1554 : (Jvm.Cond.unhidden "Slidingtray$State" "compareTo" "(Ljava/lang/Object;)I") ∈ lw_tbl := lw_at lw_m7 13 rfl
theorem q1555 : (Jvm.Cond.instanceMethod ({ cls := "Slidingtray$State", name := "compareTo", desc := "(Ljava/lang/Object;)I" } : Jvm.MethodName)) ∈ lw_all := lw_g (lw_at lw_m7 14 rfl) rfl
theorem q1556 : (Jvm.Cond.publicMethod ({ cls := "Slidingtray$State", name := "compareTo", desc := "(Ljava/lang/Object;)I" } : Jvm.MethodName)) ∈ lw_tbl := lw_at lw_m7 15 rfl
theorem q1557 : (Jvm.Cond.code ({ cls := "Slidingtray$State", name := "compareTo", desc := "(Ljava/lang/Object;)I" } : Jvm.MethodName) prog_13_method_3_code (2 : Nat) (Option.some Jvm.ClassFile.FieldType.int)) ∈ lw_all := lw_g (lw_at lw_m7 16 rfl) rfl
theorem q1558 : (Jvm.Cond.classLink "Slidingtray$State" (8 : Nat) "Slidingtray$State") ∈ lw_all := lw_g (lw_at lw_m7 17 rfl) rfl
theorem q1559 : (Jvm.Cond.methodLink "Slidingtray$State" (47 : Nat) ({ cls := "Slidingtray$State", name := "compareTo", desc := "(LSlidingtray$State;)I" } : Jvm.MethodName)) ∈ lw_all := lw_g (lw_at lw_m7 18 rfl) rfl
theorem q1560 : (Jvm.Cond.instanceMethod ({ cls := "Slidingtray$State", name := "compareTo", desc := "(LSlidingtray$State;)I" } : Jvm.MethodName)) ∈ lw_all := lw_g (lw_at lw_m7 19 rfl) rfl
theorem q1561 : (Jvm.Cond.selects "Slidingtray$State" ({ cls := "Slidingtray$State", name := "compareTo", desc := "(LSlidingtray$State;)I" } : Jvm.MethodName) ({ cls := "Slidingtray$State", name := "compareTo", desc := "(LSlidingtray$State;)I" } : Jvm.MethodName)) ∈ lw_all := lw_g (lw_at lw_m7 20 rfl) rfl
theorem q1562 : (Jvm.Cond.code ({ cls := "Slidingtray$State", name := "compareTo", desc := "(LSlidingtray$State;)I" } : Jvm.MethodName) prog_13_method_2_code (4 : Nat) (Option.some Jvm.ClassFile.FieldType.int)) ∈ lw_all := lw_g (lw_at lw_m7 21 rfl) rfl
theorem q1563 : (Jvm.Cond.methodLink "Slidingtray$State" (36 : Nat) ({ cls := "java/lang/Integer", name := "compare", desc := "(II)I" } : Jvm.MethodName)) ∈ lw_all := lw_g (lw_at lw_m7 22 rfl) rfl
theorem q1564 : (Jvm.Cond.methodLink "Slidingtray$State" (42 : Nat) ({ cls := "java/lang/Long", name := "compare", desc := "(JJ)I" } : Jvm.MethodName)) ∈ lw_all := lw_g (lw_at lw_m7 23 rfl) rfl
theorem q3316 : (Jvm.Cond.castable "Slidingtray$State" "java/lang/Object") ∈ lw_tbl := lw_at lw_m14 95 rfl
theorem in_X9 : ∀ w ∈ wsX90, w ∈ lw_all := lw_in wsX90 [1496, 1498, 1500, 1502, 1504, 1506] (by decide +kernel) (by decide +kernel)

