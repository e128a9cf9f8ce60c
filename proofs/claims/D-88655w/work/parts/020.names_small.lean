/-! java/lang/Object -/
set_option maxRecDepth 100000
def RJ4 : String := "java/lang/Object"
abbrev cJ4_init : ByteArray := object_method_1_code
def yJ4_init : MethodName := ⟨RJ4, "<init>", "()V"⟩
theorem dJ4_init_0 : decode cJ4_init 0 = .ok (.return_, 1) := by decide +kernel
theorem q61 : (Jvm.Cond.instanceMethod ({ cls := "java/lang/Object", name := "<init>", desc := "()V" } : Jvm.MethodName)) ∈ lw_all := lw_g (lw_at lw_m1 23 rfl) rfl
theorem q62 : (Jvm.Cond.code ({ cls := "java/lang/Object", name := "<init>", desc := "()V" } : Jvm.MethodName) object_method_1_code (1 : Nat) (Option.none : Option Jvm.ClassFile.FieldType)) ∈ lw_all := lw_g (lw_at lw_m1 24 rfl) rfl
/-! java/lang/Throwable -/
set_option maxRecDepth 100000
def RJ0 : String := "java/lang/Throwable"
def TJ0 : u_T := fun k => match k with
  | 0 => ("java/lang/Throwable", "cause", "Ljava/lang/Throwable;", false)
  | 1 => ("java/lang/Throwable", "stackTrace", "[Ljava/lang/StackTraceElement;", false)
  | 2 => ("java/lang/Throwable", "suppressedExceptions", "Ljava/util/List;", false)
  | 3 => ("java/lang/Throwable", "detailMessage", "Ljava/lang/String;", false)
  | _ => ("java/lang/Throwable", "backtrace", "Ljava/lang/Object;", false)
def tyJ0 : Nat → FieldType := fun k => match k with
  | 0 => .object "java/lang/Throwable"
  | 1 => .array (.object "java/lang/StackTraceElement")
  | 2 => .object "java/util/List"
  | 3 => .object "java/lang/String"
  | _ => .object "java/lang/Object"
abbrev wsJ00 : List Cond := u_ws RJ0 TJ0 5
theorem nmJ0 : ∀ a, a < 5 → ∀ b, b < 5 → a ≠ b → (TJ0 a).2.1 ≠ (TJ0 b).2.1 := by decide +kernel
theorem tyJ0_ok : ∀ k, k < 5 → parseFieldDescriptor (TJ0 k).2.2.1 = some (tyJ0 k) := by decide +kernel
abbrev cJ0_init : ByteArray := prog_18_method_1_code
def yJ0_init : MethodName := ⟨RJ0, "<init>", "()V"⟩
theorem dJ0_init_0 : decode cJ0_init 0 = .ok (.aload_n 0, 1) := by decide +kernel
theorem dJ0_init_1 : decode cJ0_init 1 = .ok (.invokespecial 1, 3) := by decide +kernel
theorem dJ0_init_4 : decode cJ0_init 4 = .ok (.aload_n 0, 1) := by decide +kernel
theorem dJ0_init_5 : decode cJ0_init 5 = .ok (.aload_n 0, 1) := by decide +kernel
theorem dJ0_init_6 : decode cJ0_init 6 = .ok (.putfield 7, 3) := by decide +kernel
theorem dJ0_init_9 : decode cJ0_init 9 = .ok (.aload_n 0, 1) := by decide +kernel
theorem dJ0_init_10 : decode cJ0_init 10 = .ok (.getstatic 13, 3) := by decide +kernel
theorem dJ0_init_13 : decode cJ0_init 13 = .ok (.putfield 17, 3) := by decide +kernel
theorem dJ0_init_16 : decode cJ0_init 16 = .ok (.aload_n 0, 1) := by decide +kernel
theorem dJ0_init_17 : decode cJ0_init 17 = .ok (.getstatic 20, 3) := by decide +kernel
theorem dJ0_init_20 : decode cJ0_init 20 = .ok (.putfield 24, 3) := by decide +kernel
theorem dJ0_init_23 : decode cJ0_init 23 = .ok (.aload_n 0, 1) := by decide +kernel
theorem dJ0_init_24 : decode cJ0_init 24 = .ok (.invokevirtual 27, 3) := by decide +kernel
theorem dJ0_init_27 : decode cJ0_init 27 = .ok (.pop, 1) := by decide +kernel
theorem dJ0_init_28 : decode cJ0_init 28 = .ok (.return_, 1) := by decide +kernel
abbrev cJ0_init_2 : ByteArray := prog_18_method_5_code
def yJ0_init_2 : MethodName := ⟨RJ0, "<init>", "(Ljava/lang/String;Ljava/lang/Throwable;ZZ)V"⟩
theorem dJ0_init_2_0 : decode cJ0_init_2 0 = .ok (.aload_n 0, 1) := by decide +kernel
theorem dJ0_init_2_1 : decode cJ0_init_2 1 = .ok (.invokespecial 1, 3) := by decide +kernel
theorem dJ0_init_2_4 : decode cJ0_init_2 4 = .ok (.aload_n 0, 1) := by decide +kernel
theorem dJ0_init_2_5 : decode cJ0_init_2 5 = .ok (.aload_n 0, 1) := by decide +kernel
theorem dJ0_init_2_6 : decode cJ0_init_2 6 = .ok (.putfield 7, 3) := by decide +kernel
theorem dJ0_init_2_9 : decode cJ0_init_2 9 = .ok (.aload_n 0, 1) := by decide +kernel
theorem dJ0_init_2_10 : decode cJ0_init_2 10 = .ok (.getstatic 13, 3) := by decide +kernel
theorem dJ0_init_2_13 : decode cJ0_init_2 13 = .ok (.putfield 17, 3) := by decide +kernel
theorem dJ0_init_2_16 : decode cJ0_init_2 16 = .ok (.aload_n 0, 1) := by decide +kernel
theorem dJ0_init_2_17 : decode cJ0_init_2 17 = .ok (.getstatic 20, 3) := by decide +kernel
theorem dJ0_init_2_20 : decode cJ0_init_2 20 = .ok (.putfield 24, 3) := by decide +kernel
theorem dJ0_init_2_23 : decode cJ0_init_2 23 = .ok (.iload 4, 2) := by decide +kernel
theorem dJ0_init_2_25 : decode cJ0_init_2 25 = .ok (.ifCond .eq 11, 3) := by decide +kernel
theorem dJ0_init_2_28 : decode cJ0_init_2 28 = .ok (.aload_n 0, 1) := by decide +kernel
theorem dJ0_init_2_29 : decode cJ0_init_2 29 = .ok (.invokevirtual 27, 3) := by decide +kernel
theorem dJ0_init_2_32 : decode cJ0_init_2 32 = .ok (.pop, 1) := by decide +kernel
theorem dJ0_init_2_33 : decode cJ0_init_2 33 = .ok (.goto 8, 3) := by decide +kernel
theorem dJ0_init_2_36 : decode cJ0_init_2 36 = .ok (.aload_n 0, 1) := by decide +kernel
theorem dJ0_init_2_37 : decode cJ0_init_2 37 = .ok (.aconst_null, 1) := by decide +kernel
theorem dJ0_init_2_38 : decode cJ0_init_2 38 = .ok (.putfield 17, 3) := by decide +kernel
theorem dJ0_init_2_41 : decode cJ0_init_2 41 = .ok (.aload_n 0, 1) := by decide +kernel
theorem dJ0_init_2_42 : decode cJ0_init_2 42 = .ok (.aload_n 1, 1) := by decide +kernel
theorem dJ0_init_2_43 : decode cJ0_init_2 43 = .ok (.putfield 31, 3) := by decide +kernel
theorem dJ0_init_2_46 : decode cJ0_init_2 46 = .ok (.aload_n 0, 1) := by decide +kernel
theorem dJ0_init_2_47 : decode cJ0_init_2 47 = .ok (.aload_n 2, 1) := by decide +kernel
theorem dJ0_init_2_48 : decode cJ0_init_2 48 = .ok (.putfield 7, 3) := by decide +kernel
theorem dJ0_init_2_51 : decode cJ0_init_2 51 = .ok (.iload_n 3, 1) := by decide +kernel
theorem dJ0_init_2_52 : decode cJ0_init_2 52 = .ok (.ifCond .ne 8, 3) := by decide +kernel
theorem dJ0_init_2_55 : decode cJ0_init_2 55 = .ok (.aload_n 0, 1) := by decide +kernel
theorem dJ0_init_2_56 : decode cJ0_init_2 56 = .ok (.aconst_null, 1) := by decide +kernel
theorem dJ0_init_2_57 : decode cJ0_init_2 57 = .ok (.putfield 24, 3) := by decide +kernel
theorem dJ0_init_2_60 : decode cJ0_init_2 60 = .ok (.return_, 1) := by decide +kernel
theorem q45 : (Jvm.Cond.initialized "java/lang/Throwable") ∈ lw_all := lw_g (lw_at lw_m1 7 rfl) rfl
theorem q235 : (Jvm.Cond.declares ({ cls := "java/lang/Throwable", name := "<init>", desc := "()V" } : Jvm.MethodName)) ∈ lw_tbl := lw_at lw_m1 197 rfl
theorem q236 : (Jvm.Cond.declares ({ cls := "java/lang/Throwable", name := "<init>", desc := "(Ljava/lang/String;)V" } : Jvm.MethodName)) ∈ lw_tbl := lw_at lw_m1 198 rfl
theorem q240 : (Jvm.Cond.lays "java/lang/Throwable" "java/lang/Throwable" "cause" "Ljava/lang/Throwable;") ∈ lw_all := lw_g (lw_at lw_m1 202 rfl) rfl
theorem q242 : (Jvm.Cond.lays "java/lang/Throwable" "java/lang/Throwable" "stackTrace" "[Ljava/lang/StackTraceElement;") ∈ lw_all := lw_g (lw_at lw_m1 204 rfl) rfl
theorem q244 : (Jvm.Cond.lays "java/lang/Throwable" "java/lang/Throwable" "suppressedExceptions" "Ljava/util/List;") ∈ lw_all := lw_g (lw_at lw_m1 206 rfl) rfl
theorem q246 : (Jvm.Cond.lays "java/lang/Throwable" "java/lang/Throwable" "detailMessage" "Ljava/lang/String;") ∈ lw_all := lw_g (lw_at lw_m1 208 rfl) rfl
theorem q248 : (Jvm.Cond.lays "java/lang/Throwable" "java/lang/Throwable" "backtrace" "Ljava/lang/Object;") ∈ lw_all := lw_g (lw_at lw_m1 210 rfl) rfl
theorem q249 : (Jvm.Cond.fieldLink "java/lang/Throwable" (198 : Nat) "java/lang/Throwable" "backtrace" "Ljava/lang/Object;") ∈ lw_all := lw_g (lw_at lw_m1 211 rfl) rfl
theorem q250 : (Jvm.Cond.superclass "java/lang/Throwable" "java/lang/Object") ∈ lw_all := lw_g (lw_at lw_m1 212 rfl) rfl
theorem q251 : (Jvm.Cond.instanceMethod ({ cls := "java/lang/Throwable", name := "<init>", desc := "()V" } : Jvm.MethodName)) ∈ lw_all := lw_g (lw_at lw_m1 213 rfl) rfl
theorem q252 : (Jvm.Cond.code ({ cls := "java/lang/Throwable", name := "<init>", desc := "()V" } : Jvm.MethodName) prog_18_method_1_code (1 : Nat) (Option.none : Option Jvm.ClassFile.FieldType)) ∈ lw_all := lw_g (lw_at lw_m1 214 rfl) rfl
theorem q253 : (Jvm.Cond.methodLink "java/lang/Throwable" (1 : Nat) ({ cls := "java/lang/Object", name := "<init>", desc := "()V" } : Jvm.MethodName)) ∈ lw_all := lw_g (lw_at lw_m1 215 rfl) rfl
theorem q254 : (Jvm.Cond.fieldLink "java/lang/Throwable" (13 : Nat) "java/lang/Throwable" "UNASSIGNED_STACK" "[Ljava/lang/StackTraceElement;") ∈ lw_all := lw_g (lw_at lw_m1 216 rfl) rfl
theorem q255 : (Jvm.Cond.laysStatic "java/lang/Throwable" "UNASSIGNED_STACK" "[Ljava/lang/StackTraceElement;") ∈ lw_tbl := lw_at lw_m1 217 rfl
theorem q256 : (Jvm.Cond.fieldLink "java/lang/Throwable" (20 : Nat) "java/lang/Throwable" "SUPPRESSED_SENTINEL" "Ljava/util/List;") ∈ lw_all := lw_g (lw_at lw_m1 218 rfl) rfl
theorem q257 : (Jvm.Cond.laysStatic "java/lang/Throwable" "SUPPRESSED_SENTINEL" "Ljava/util/List;") ∈ lw_tbl := lw_at lw_m1 219 rfl
theorem q258 : (Jvm.Cond.methodLink "java/lang/Throwable" (27 : Nat) ({ cls := "java/lang/Throwable", name := "fillInStackTrace", desc := "()Ljava/lang/Throwable;" } : Jvm.MethodName)) ∈ lw_all := lw_g (lw_at lw_m1 220 rfl) rfl
theorem q259 : (Jvm.Cond.instanceMethod ({ cls := "java/lang/Throwable", name := "fillInStackTrace", desc := "()Ljava/lang/Throwable;" } : Jvm.MethodName)) ∈ lw_all := lw_g (lw_at lw_m1 221 rfl) rfl
theorem q260 : (Jvm.Cond.sameMethod "java/lang/Throwable" "java/lang/Throwable" "fillInStackTrace" "()Ljava/lang/Throwable;") ∈ lw_all := lw_g (lw_at lw_m1 222 rfl) rfl
theorem q261 : (Jvm.Cond.codeSync ({ cls := "java/lang/Throwable", name := "fillInStackTrace", desc := "()Ljava/lang/Throwable;" } : Jvm.MethodName) prog_18_method_18_code (1 : Nat) (Option.some (Jvm.ClassFile.FieldType.object "java/lang/Throwable"))) ∈ lw_all := lw_g (lw_at lw_m1 223 rfl) rfl
theorem q262 : (Jvm.Cond.methodLink "java/lang/Throwable" (202 : Nat) ({ cls := "java/lang/Throwable", name := "fillInStackTrace", desc := "(I)Ljava/lang/Throwable;" } : Jvm.MethodName)) ∈ lw_all := lw_g (lw_at lw_m1 224 rfl) rfl
theorem q263 : (Jvm.Cond.privateMethod ({ cls := "java/lang/Throwable", name := "fillInStackTrace", desc := "(I)Ljava/lang/Throwable;" } : Jvm.MethodName)) ∈ lw_tbl := lw_at lw_m1 225 rfl
theorem q264 : (Jvm.Cond.instanceMethod ({ cls := "java/lang/Throwable", name := "fillInStackTrace", desc := "(I)Ljava/lang/Throwable;" } : Jvm.MethodName)) ∈ lw_all := lw_g (lw_at lw_m1 226 rfl) rfl
theorem q265 : (Jvm.Cond.instantiable "java/lang/Throwable" (6 : Nat)) ∈ lw_all := lw_g (lw_at lw_m1 227 rfl) rfl
theorem q266 : (Jvm.Cond.native ({ cls := "java/lang/Throwable", name := "fillInStackTrace", desc := "(I)Ljava/lang/Throwable;" } : Jvm.MethodName)) ∈ lw_all := lw_g (lw_at lw_m1 228 rfl) rfl
theorem q277 : (Jvm.Cond.instanceMethod ({ cls := "java/lang/Throwable", name := "<init>", desc := "(Ljava/lang/String;Ljava/lang/Throwable;ZZ)V" } : Jvm.MethodName)) ∈ lw_all := lw_g (lw_at lw_m1 239 rfl) rfl
theorem q278 : (Jvm.Cond.code ({ cls := "java/lang/Throwable", name := "<init>", desc := "(Ljava/lang/String;Ljava/lang/Throwable;ZZ)V" } : Jvm.MethodName) prog_18_method_5_code (5 : Nat) (Option.none : Option Jvm.ClassFile.FieldType)) ∈ lw_all := lw_g (lw_at lw_m2 0 rfl) rfl
theorem q281 : (Jvm.Cond.fieldLink "java/lang/Throwable" (198 : Nat) "java/lang/Throwable" "backtrace" "Ljava/lang/Object;") ∈ lw_all := lw_g (lw_at lw_m2 3 rfl) rfl
theorem q282 : (Jvm.Cond.fieldLink "java/lang/Throwable" (31 : Nat) "java/lang/Throwable" "detailMessage" "Ljava/lang/String;") ∈ lw_all := lw_g (lw_at lw_m2 4 rfl) rfl
theorem q283 : (Jvm.Cond.fieldLink "java/lang/Throwable" (7 : Nat) "java/lang/Throwable" "cause" "Ljava/lang/Throwable;") ∈ lw_all := lw_g (lw_at lw_m2 5 rfl) rfl
theorem q284 : (Jvm.Cond.fieldLink "java/lang/Throwable" (17 : Nat) "java/lang/Throwable" "stackTrace" "[Ljava/lang/StackTraceElement;") ∈ lw_all := lw_g (lw_at lw_m2 6 rfl) rfl
theorem q285 : (Jvm.Cond.fieldLink "java/lang/Throwable" (24 : Nat) "java/lang/Throwable" "suppressedExceptions" "Ljava/util/List;") ∈ lw_all := lw_g (lw_at lw_m2 7 rfl) rfl
theorem q288 : (Jvm.Cond.soleField "java/lang/Throwable" "backtrace") ∈ lw_all := lw_g (lw_at lw_m2 10 rfl) rfl
theorem q289 : (Jvm.Cond.soleField "java/lang/Throwable" "detailMessage") ∈ lw_all := lw_g (lw_at lw_m2 11 rfl) rfl
theorem q290 : (Jvm.Cond.soleField "java/lang/Throwable" "cause") ∈ lw_all := lw_g (lw_at lw_m2 12 rfl) rfl
theorem q291 : (Jvm.Cond.soleField "java/lang/Throwable" "stackTrace") ∈ lw_all := lw_g (lw_at lw_m2 13 rfl) rfl
theorem q293 : (Jvm.Cond.soleField "java/lang/Throwable" "depth") ∈ lw_all := lw_g (lw_at lw_m2 15 rfl) rfl
theorem q294 : (Jvm.Cond.soleField "java/lang/Throwable" "suppressedExceptions") ∈ lw_all := lw_g (lw_at lw_m2 16 rfl) rfl
theorem q933 : (Jvm.Cond.sameMethod "java/lang/Throwable" "java/lang/Throwable" "fillInStackTrace" "(I)Ljava/lang/Throwable;") ∈ lw_all := lw_g (lw_at lw_m4 175 rfl) rfl
theorem in_J0 : ∀ w ∈ wsJ00, w ∈ lw_all := lw_in wsJ00 [240, 242, 244, 246, 248] (by decide +kernel) (by decide +kernel)
/-! java/lang/Exception -/
set_option maxRecDepth 100000
def RJ1 : String := "java/lang/Exception"
abbrev cJ1_init : ByteArray := prog_14_method_5_code
def yJ1_init : MethodName := ⟨RJ1, "<init>", "(Ljava/lang/String;Ljava/lang/Throwable;ZZ)V"⟩
theorem dJ1_init_0 : decode cJ1_init 0 = .ok (.aload_n 0, 1) := by decide +kernel
theorem dJ1_init_1 : decode cJ1_init 1 = .ok (.aload_n 1, 1) := by decide +kernel
theorem dJ1_init_2 : decode cJ1_init 2 = .ok (.aload_n 2, 1) := by decide +kernel
theorem dJ1_init_3 : decode cJ1_init 3 = .ok (.iload_n 3, 1) := by decide +kernel
theorem dJ1_init_4 : decode cJ1_init 4 = .ok (.iload 4, 2) := by decide +kernel
theorem dJ1_init_6 : decode cJ1_init 6 = .ok (.invokespecial 16, 3) := by decide +kernel
theorem dJ1_init_9 : decode cJ1_init 9 = .ok (.return_, 1) := by decide +kernel
theorem q46 : (Jvm.Cond.initialized "java/lang/Exception") ∈ lw_all := lw_g (lw_at lw_m1 8 rfl) rfl
theorem q233 : (Jvm.Cond.declares ({ cls := "java/lang/Exception", name := "<init>", desc := "()V" } : Jvm.MethodName)) ∈ lw_tbl := lw_at lw_m1 195 rfl
theorem q234 : (Jvm.Cond.declares ({ cls := "java/lang/Exception", name := "<init>", desc := "(Ljava/lang/String;)V" } : Jvm.MethodName)) ∈ lw_tbl := lw_at lw_m1 196 rfl
theorem q274 : (Jvm.Cond.instanceMethod ({ cls := "java/lang/Exception", name := "<init>", desc := "(Ljava/lang/String;Ljava/lang/Throwable;ZZ)V" } : Jvm.MethodName)) ∈ lw_all := lw_g (lw_at lw_m1 236 rfl) rfl
theorem q275 : (Jvm.Cond.code ({ cls := "java/lang/Exception", name := "<init>", desc := "(Ljava/lang/String;Ljava/lang/Throwable;ZZ)V" } : Jvm.MethodName) prog_14_method_5_code (5 : Nat) (Option.none : Option Jvm.ClassFile.FieldType)) ∈ lw_all := lw_g (lw_at lw_m1 237 rfl) rfl
theorem q276 : (Jvm.Cond.methodLink "java/lang/Exception" (16 : Nat) ({ cls := "java/lang/Throwable", name := "<init>", desc := "(Ljava/lang/String;Ljava/lang/Throwable;ZZ)V" } : Jvm.MethodName)) ∈ lw_all := lw_g (lw_at lw_m1 238 rfl) rfl
/-! java/lang/RuntimeException -/
set_option maxRecDepth 100000
def RJ2 : String := "java/lang/RuntimeException"
abbrev cJ2_init : ByteArray := prog_16_method_5_code
def yJ2_init : MethodName := ⟨RJ2, "<init>", "(Ljava/lang/String;Ljava/lang/Throwable;ZZ)V"⟩
theorem dJ2_init_0 : decode cJ2_init 0 = .ok (.aload_n 0, 1) := by decide +kernel
theorem dJ2_init_1 : decode cJ2_init 1 = .ok (.aload_n 1, 1) := by decide +kernel
theorem dJ2_init_2 : decode cJ2_init 2 = .ok (.aload_n 2, 1) := by decide +kernel
theorem dJ2_init_3 : decode cJ2_init 3 = .ok (.iload_n 3, 1) := by decide +kernel
theorem dJ2_init_4 : decode cJ2_init 4 = .ok (.iload 4, 2) := by decide +kernel
theorem dJ2_init_6 : decode cJ2_init 6 = .ok (.invokespecial 16, 3) := by decide +kernel
theorem dJ2_init_9 : decode cJ2_init 9 = .ok (.return_, 1) := by decide +kernel
theorem q47 : (Jvm.Cond.initialized "java/lang/RuntimeException") ∈ lw_all := lw_g (lw_at lw_m1 9 rfl) rfl
theorem q231 : (Jvm.Cond.declares ({ cls := "java/lang/RuntimeException", name := "<init>", desc := "()V" } : Jvm.MethodName)) ∈ lw_tbl := lw_at lw_m1 193 rfl
theorem q232 : (Jvm.Cond.declares ({ cls := "java/lang/RuntimeException", name := "<init>", desc := "(Ljava/lang/String;)V" } : Jvm.MethodName)) ∈ lw_tbl := lw_at lw_m1 194 rfl
theorem q271 : (Jvm.Cond.instanceMethod ({ cls := "java/lang/RuntimeException", name := "<init>", desc := "(Ljava/lang/String;Ljava/lang/Throwable;ZZ)V" } : Jvm.MethodName)) ∈ lw_all := lw_g (lw_at lw_m1 233 rfl) rfl
theorem q272 : (Jvm.Cond.code ({ cls := "java/lang/RuntimeException", name := "<init>", desc := "(Ljava/lang/String;Ljava/lang/Throwable;ZZ)V" } : Jvm.MethodName) prog_16_method_5_code (5 : Nat) (Option.none : Option Jvm.ClassFile.FieldType)) ∈ lw_all := lw_g (lw_at lw_m1 234 rfl) rfl
theorem q273 : (Jvm.Cond.methodLink "java/lang/RuntimeException" (16 : Nat) ({ cls := "java/lang/Exception", name := "<init>", desc := "(Ljava/lang/String;Ljava/lang/Throwable;ZZ)V" } : Jvm.MethodName)) ∈ lw_all := lw_g (lw_at lw_m1 235 rfl) rfl
/-! java/lang/Math -/
set_option maxRecDepth 100000
def RJ3 : String := "java/lang/Math"
abbrev cJ3_abs : ByteArray := prog_15_method_59_code
def yJ3_abs : MethodName := ⟨RJ3, "abs", "(I)I"⟩
theorem dJ3_abs_0 : decode cJ3_abs 0 = .ok (.iload_n 0, 1) := by decide +kernel
theorem dJ3_abs_1 : decode cJ3_abs 1 = .ok (.ifCond .ge 8, 3) := by decide +kernel
theorem dJ3_abs_4 : decode cJ3_abs 4 = .ok (.iload_n 0, 1) := by decide +kernel
theorem dJ3_abs_5 : decode cJ3_abs 5 = .ok (.ineg, 1) := by decide +kernel
theorem dJ3_abs_6 : decode cJ3_abs 6 = .ok (.goto 4, 3) := by decide +kernel
theorem dJ3_abs_9 : decode cJ3_abs 9 = .ok (.iload_n 0, 1) := by decide +kernel
theorem dJ3_abs_10 : decode cJ3_abs 10 = .ok (.ireturn, 1) := by decide +kernel
abbrev cJ3_max : ByteArray := prog_15_method_65_code
def yJ3_max : MethodName := ⟨RJ3, "max", "(II)I"⟩
theorem dJ3_max_0 : decode cJ3_max 0 = .ok (.iload_n 0, 1) := by decide +kernel
theorem dJ3_max_1 : decode cJ3_max 1 = .ok (.iload_n 1, 1) := by decide +kernel
theorem dJ3_max_2 : decode cJ3_max 2 = .ok (.if_icmp .lt 7, 3) := by decide +kernel
theorem dJ3_max_5 : decode cJ3_max 5 = .ok (.iload_n 0, 1) := by decide +kernel
theorem dJ3_max_6 : decode cJ3_max 6 = .ok (.goto 4, 3) := by decide +kernel
theorem dJ3_max_9 : decode cJ3_max 9 = .ok (.iload_n 1, 1) := by decide +kernel
theorem dJ3_max_10 : decode cJ3_max 10 = .ok (.ireturn, 1) := by decide +kernel
abbrev cJ3_min : ByteArray := prog_15_method_69_code
def yJ3_min : MethodName := ⟨RJ3, "min", "(II)I"⟩
theorem dJ3_min_0 : decode cJ3_min 0 = .ok (.iload_n 0, 1) := by decide +kernel
theorem dJ3_min_1 : decode cJ3_min 1 = .ok (.iload_n 1, 1) := by decide +kernel
theorem dJ3_min_2 : decode cJ3_min 2 = .ok (.if_icmp .gt 7, 3) := by decide +kernel
theorem dJ3_min_5 : decode cJ3_min 5 = .ok (.iload_n 0, 1) := by decide +kernel
theorem dJ3_min_6 : decode cJ3_min 6 = .ok (.goto 4, 3) := by decide +kernel
theorem dJ3_min_9 : decode cJ3_min 9 = .ok (.iload_n 1, 1) := by decide +kernel
theorem dJ3_min_10 : decode cJ3_min 10 = .ok (.ireturn, 1) := by decide +kernel
abbrev cJ3_floorDiv : ByteArray := prog_15_method_47_code
def yJ3_floorDiv : MethodName := ⟨RJ3, "floorDiv", "(II)I"⟩
theorem dJ3_floorDiv_0 : decode cJ3_floorDiv 0 = .ok (.iload_n 0, 1) := by decide +kernel
theorem dJ3_floorDiv_1 : decode cJ3_floorDiv 1 = .ok (.iload_n 1, 1) := by decide +kernel
theorem dJ3_floorDiv_2 : decode cJ3_floorDiv 2 = .ok (.idiv, 1) := by decide +kernel
theorem dJ3_floorDiv_3 : decode cJ3_floorDiv 3 = .ok (.istore_n 2, 1) := by decide +kernel
theorem dJ3_floorDiv_4 : decode cJ3_floorDiv 4 = .ok (.iload_n 0, 1) := by decide +kernel
theorem dJ3_floorDiv_5 : decode cJ3_floorDiv 5 = .ok (.iload_n 1, 1) := by decide +kernel
theorem dJ3_floorDiv_6 : decode cJ3_floorDiv 6 = .ok (.ixor, 1) := by decide +kernel
theorem dJ3_floorDiv_7 : decode cJ3_floorDiv 7 = .ok (.ifCond .ge 14, 3) := by decide +kernel
theorem dJ3_floorDiv_10 : decode cJ3_floorDiv 10 = .ok (.iload_n 2, 1) := by decide +kernel
theorem dJ3_floorDiv_11 : decode cJ3_floorDiv 11 = .ok (.iload_n 1, 1) := by decide +kernel
theorem dJ3_floorDiv_12 : decode cJ3_floorDiv 12 = .ok (.imul, 1) := by decide +kernel
theorem dJ3_floorDiv_13 : decode cJ3_floorDiv 13 = .ok (.iload_n 0, 1) := by decide +kernel
theorem dJ3_floorDiv_14 : decode cJ3_floorDiv 14 = .ok (.if_icmp .eq 7, 3) := by decide +kernel
theorem dJ3_floorDiv_17 : decode cJ3_floorDiv 17 = .ok (.iload_n 2, 1) := by decide +kernel
theorem dJ3_floorDiv_18 : decode cJ3_floorDiv 18 = .ok (.iconst 1, 1) := by decide +kernel
theorem dJ3_floorDiv_19 : decode cJ3_floorDiv 19 = .ok (.isub, 1) := by decide +kernel
theorem dJ3_floorDiv_20 : decode cJ3_floorDiv 20 = .ok (.ireturn, 1) := by decide +kernel
theorem dJ3_floorDiv_21 : decode cJ3_floorDiv 21 = .ok (.iload_n 2, 1) := by decide +kernel
theorem dJ3_floorDiv_22 : decode cJ3_floorDiv 22 = .ok (.ireturn, 1) := by decide +kernel
theorem q50 : (Jvm.Cond.initialized "java/lang/Math") ∈ lw_all := lw_g (lw_at lw_m1 12 rfl) rfl
theorem q348 : (Jvm.Cond.static ({ cls := "java/lang/Math", name := "abs", desc := "(I)I" } : Jvm.MethodName)) ∈ lw_all := lw_g (lw_at lw_m2 70 rfl) rfl
theorem q349 : (Jvm.Cond.code ({ cls := "java/lang/Math", name := "abs", desc := "(I)I" } : Jvm.MethodName) prog_15_method_59_code (1 : Nat) (Option.some Jvm.ClassFile.FieldType.int)) ∈ lw_all := lw_g (lw_at lw_m2 71 rfl) rfl
theorem q351 : (Jvm.Cond.static ({ cls := "java/lang/Math", name := "max", desc := "(II)I" } : Jvm.MethodName)) ∈ lw_all := lw_g (lw_at lw_m2 73 rfl) rfl
theorem q352 : (Jvm.Cond.code ({ cls := "java/lang/Math", name := "max", desc := "(II)I" } : Jvm.MethodName) prog_15_method_65_code (2 : Nat) (Option.some Jvm.ClassFile.FieldType.int)) ∈ lw_all := lw_g (lw_at lw_m2 74 rfl) rfl
theorem q386 : (Jvm.Cond.static ({ cls := "java/lang/Math", name := "min", desc := "(II)I" } : Jvm.MethodName)) ∈ lw_all := lw_g (lw_at lw_m2 108 rfl) rfl
theorem q387 : (Jvm.Cond.code ({ cls := "java/lang/Math", name := "min", desc := "(II)I" } : Jvm.MethodName) prog_15_method_69_code (2 : Nat) (Option.some Jvm.ClassFile.FieldType.int)) ∈ lw_all := lw_g (lw_at lw_m2 109 rfl) rfl
theorem q510 : (Jvm.Cond.static ({ cls := "java/lang/Math", name := "floorDiv", desc := "(II)I" } : Jvm.MethodName)) ∈ lw_all := lw_g (lw_at lw_m2 232 rfl) rfl
theorem q511 : (Jvm.Cond.code ({ cls := "java/lang/Math", name := "floorDiv", desc := "(II)I" } : Jvm.MethodName) prog_15_method_47_code (3 : Nat) (Option.some Jvm.ClassFile.FieldType.int)) ∈ lw_all := lw_g (lw_at lw_m2 233 rfl) rfl
/-! CamFigures$Part -/
set_option maxRecDepth 100000
def RX1 : String := "CamFigures$Part"
abbrev cX1_init : ByteArray := prog_8_method_1_code
def yX1_init : MethodName := ⟨RX1, "<init>", "()V"⟩
theorem dX1_init_0 : decode cX1_init 0 = .ok (.aload_n 0, 1) := by decide +kernel
theorem dX1_init_1 : decode cX1_init 1 = .ok (.invokespecial 1, 3) := by decide +kernel
theorem dX1_init_4 : decode cX1_init 4 = .ok (.return_, 1) := by decide +kernel
abbrev cX1_isWritten : ByteArray := prog_8_method_3_code
def yX1_isWritten : MethodName := ⟨RX1, "isWritten", "(I)Z"⟩
theorem dX1_isWritten_0 : decode cX1_isWritten 0 = .ok (.iconst 1, 1) := by decide +kernel
theorem dX1_isWritten_1 : decode cX1_isWritten 1 = .ok (.ireturn, 1) := by decide +kernel
abbrev cX1_height : ByteArray := prog_8_method_2_code
def yX1_height : MethodName := ⟨RX1, "height", "(II)I"⟩
theorem dX1_height_0 : decode cX1_height 0 = .ok (.iload_n 2, 1) := by decide +kernel
theorem dX1_height_1 : decode cX1_height 1 = .ok (.ireturn, 1) := by decide +kernel
abbrev cX1_across : ByteArray := prog_8_method_4_code
def yX1_across : MethodName := ⟨RX1, "across", "(I)I"⟩
theorem dX1_across_0 : decode cX1_across 0 = .ok (.iload_n 1, 1) := by decide +kernel
theorem dX1_across_1 : decode cX1_across 1 = .ok (.ireturn, 1) := by decide +kernel
abbrev cX1_up : ByteArray := prog_8_method_5_code
def yX1_up : MethodName := ⟨RX1, "up", "(I)I"⟩
theorem dX1_up_0 : decode cX1_up 0 = .ok (.iload_n 1, 1) := by decide +kernel
theorem dX1_up_1 : decode cX1_up 1 = .ok (.ireturn, 1) := by decide +kernel
theorem q40 : (Jvm.Cond.initialized "CamFigures$Part") ∈ lw_all := lw_g (lw_at lw_m1 2 rfl) rfl
theorem q68 : (Jvm.Cond.instantiable "CamFigures$Part" (0 : Nat)) ∈ lw_all := lw_g (lw_at lw_m1 30 rfl) rfl
theorem q70 : (Jvm.Cond.instanceMethod ({ cls := "CamFigures$Part", name := "<init>", desc := "()V" } : Jvm.MethodName)) ∈ lw_all := lw_g (lw_at lw_m1 32 rfl) rfl
theorem q71 : (Jvm.Cond.code ({ cls := "CamFigures$Part", name := "<init>", desc := "()V" } : Jvm.MethodName) prog_8_method_1_code (1 : Nat) (Option.none : Option Jvm.ClassFile.FieldType)) ∈ lw_all := lw_g (lw_at lw_m1 33 rfl) rfl
theorem q72 : (Jvm.Cond.methodLink "CamFigures$Part" (1 : Nat) ({ cls := "java/lang/Object", name := "<init>", desc := "()V" } : Jvm.MethodName)) ∈ lw_all := lw_g (lw_at lw_m1 34 rfl) rfl
theorem q73 : (Jvm.Cond.superclass "CamFigures$Part" "java/lang/Object") ∈ lw_all := lw_g (lw_at lw_m1 35 rfl) rfl
theorem q436 : (Jvm.Cond.instanceMethod ({ cls := "CamFigures$Part", name := "isWritten", desc := "(I)Z" } : Jvm.MethodName)) ∈ lw_all := lw_g (lw_at lw_m2 158 rfl) rfl
theorem q437 : (Jvm.Cond.selects "CamFigures$Part" ({ cls := "CamFigures$Part", name := "isWritten", desc := "(I)Z" } : Jvm.MethodName) ({ cls := "CamFigures$Part", name := "isWritten", desc := "(I)Z" } : Jvm.MethodName)) ∈ lw_all := lw_g (lw_at lw_m2 159 rfl) rfl
theorem q438 : (Jvm.Cond.sameMethod "CamFigures$Part" "CamFigures$Part" "isWritten" "(I)Z") ∈ lw_all := lw_g (lw_at lw_m2 160 rfl) rfl
theorem q446 : (Jvm.Cond.code ({ cls := "CamFigures$Part", name := "isWritten", desc := "(I)Z" } : Jvm.MethodName) prog_8_method_3_code (2 : Nat) (Option.some Jvm.ClassFile.FieldType.boolean)) ∈ lw_all := lw_g (lw_at lw_m2 168 rfl) rfl
theorem q461 : (Jvm.Cond.instanceMethod ({ cls := "CamFigures$Part", name := "height", desc := "(II)I" } : Jvm.MethodName)) ∈ lw_all := lw_g (lw_at lw_m2 183 rfl) rfl
theorem q462 : (Jvm.Cond.selects "CamFigures$Part" ({ cls := "CamFigures$Part", name := "height", desc := "(II)I" } : Jvm.MethodName) ({ cls := "CamFigures$Part", name := "height", desc := "(II)I" } : Jvm.MethodName)) ∈ lw_all := lw_g (lw_at lw_m2 184 rfl) rfl
theorem q463 : (Jvm.Cond.sameMethod "CamFigures$Part" "CamFigures$Part" "height" "(II)I") ∈ lw_all := lw_g (lw_at lw_m2 185 rfl) rfl
theorem q471 : (Jvm.Cond.code ({ cls := "CamFigures$Part", name := "height", desc := "(II)I" } : Jvm.MethodName) prog_8_method_2_code (3 : Nat) (Option.some Jvm.ClassFile.FieldType.int)) ∈ lw_all := lw_g (lw_at lw_m2 193 rfl) rfl
theorem q473 : (Jvm.Cond.instanceMethod ({ cls := "CamFigures$Part", name := "across", desc := "(I)I" } : Jvm.MethodName)) ∈ lw_all := lw_g (lw_at lw_m2 195 rfl) rfl
theorem q474 : (Jvm.Cond.selects "CamFigures$Part" ({ cls := "CamFigures$Part", name := "across", desc := "(I)I" } : Jvm.MethodName) ({ cls := "CamFigures$Part", name := "across", desc := "(I)I" } : Jvm.MethodName)) ∈ lw_all := lw_g (lw_at lw_m2 196 rfl) rfl
theorem q475 : (Jvm.Cond.sameMethod "CamFigures$Part" "CamFigures$Part" "across" "(I)I") ∈ lw_all := lw_g (lw_at lw_m2 197 rfl) rfl
theorem q481 : (Jvm.Cond.code ({ cls := "CamFigures$Part", name := "across", desc := "(I)I" } : Jvm.MethodName) prog_8_method_4_code (2 : Nat) (Option.some Jvm.ClassFile.FieldType.int)) ∈ lw_all := lw_g (lw_at lw_m2 203 rfl) rfl
theorem q483 : (Jvm.Cond.instanceMethod ({ cls := "CamFigures$Part", name := "up", desc := "(I)I" } : Jvm.MethodName)) ∈ lw_all := lw_g (lw_at lw_m2 205 rfl) rfl
theorem q484 : (Jvm.Cond.selects "CamFigures$Part" ({ cls := "CamFigures$Part", name := "up", desc := "(I)I" } : Jvm.MethodName) ({ cls := "CamFigures$Part", name := "up", desc := "(I)I" } : Jvm.MethodName)) ∈ lw_all := lw_g (lw_at lw_m2 206 rfl) rfl
theorem q485 : (Jvm.Cond.sameMethod "CamFigures$Part" "CamFigures$Part" "up" "(I)I") ∈ lw_all := lw_g (lw_at lw_m2 207 rfl) rfl
theorem q492 : (Jvm.Cond.code ({ cls := "CamFigures$Part", name := "up", desc := "(I)I" } : Jvm.MethodName) prog_8_method_5_code (2 : Nat) (Option.some Jvm.ClassFile.FieldType.int)) ∈ lw_all := lw_g (lw_at lw_m2 214 rfl) rfl
/-! CamFigures$Paper -/
set_option maxRecDepth 100000
def RX2 : String := "CamFigures$Paper"
def TX2 : u_T := fun k => match k with
  | 0 => ("CamFigures$Paper", "isMarked", "[Z", true)
  | _ => ("CamFigures$Paper", "firsts", "[I", true)
def tyX2 : Nat → FieldType := fun k => match k with
  | 0 => .array .boolean
  | _ => .array .int
abbrev wsX20 : List Cond := u_ws RX2 TX2 2
theorem nmX2 : ∀ a, a < 2 → ∀ b, b < 2 → a ≠ b → (TX2 a).2.1 ≠ (TX2 b).2.1 := by decide +kernel
theorem tyX2_ok : ∀ k, k < 2 → parseFieldDescriptor (TX2 k).2.2.1 = some (tyX2 k) := by decide +kernel
abbrev cX2_init : ByteArray := prog_7_method_1_code
def yX2_init : MethodName := ⟨RX2, "<init>", "()V"⟩
theorem dX2_init_0 : decode cX2_init 0 = .ok (.aload_n 0, 1) := by decide +kernel
theorem dX2_init_1 : decode cX2_init 1 = .ok (.invokespecial 3, 3) := by decide +kernel
theorem dX2_init_4 : decode cX2_init 4 = .ok (.aload_n 0, 1) := by decide +kernel
theorem dX2_init_5 : decode cX2_init 5 = .ok (.sipush 1200, 3) := by decide +kernel
theorem dX2_init_8 : decode cX2_init 8 = .ok (.newarray .boolean, 2) := by decide +kernel
theorem dX2_init_10 : decode cX2_init 10 = .ok (.putfield 9, 3) := by decide +kernel
theorem dX2_init_13 : decode cX2_init 13 = .ok (.aload_n 0, 1) := by decide +kernel
theorem dX2_init_14 : decode cX2_init 14 = .ok (.sipush 1200, 3) := by decide +kernel
theorem dX2_init_17 : decode cX2_init 17 = .ok (.newarray .int, 2) := by decide +kernel
theorem dX2_init_19 : decode cX2_init 19 = .ok (.putfield 15, 3) := by decide +kernel
theorem dX2_init_22 : decode cX2_init 22 = .ok (.return_, 1) := by decide +kernel
abbrev cX2_clear : ByteArray := prog_7_method_3_code
def yX2_clear : MethodName := ⟨RX2, "clear", "()V"⟩
theorem dX2_clear_0 : decode cX2_clear 0 = .ok (.iconst 0, 1) := by decide +kernel
theorem dX2_clear_1 : decode cX2_clear 1 = .ok (.istore_n 1, 1) := by decide +kernel
theorem dX2_clear_2 : decode cX2_clear 2 = .ok (.iload_n 1, 1) := by decide +kernel
theorem dX2_clear_3 : decode cX2_clear 3 = .ok (.aload_n 0, 1) := by decide +kernel
theorem dX2_clear_4 : decode cX2_clear 4 = .ok (.getfield 9, 3) := by decide +kernel
theorem dX2_clear_7 : decode cX2_clear 7 = .ok (.arraylength, 1) := by decide +kernel
theorem dX2_clear_8 : decode cX2_clear 8 = .ok (.if_icmp .ge 16, 3) := by decide +kernel
theorem dX2_clear_11 : decode cX2_clear 11 = .ok (.aload_n 0, 1) := by decide +kernel
theorem dX2_clear_12 : decode cX2_clear 12 = .ok (.getfield 9, 3) := by decide +kernel
theorem dX2_clear_15 : decode cX2_clear 15 = .ok (.iload_n 1, 1) := by decide +kernel
theorem dX2_clear_16 : decode cX2_clear 16 = .ok (.iconst 0, 1) := by decide +kernel
theorem dX2_clear_17 : decode cX2_clear 17 = .ok (.bastore, 1) := by decide +kernel
theorem dX2_clear_18 : decode cX2_clear 18 = .ok (.iinc 1 1, 3) := by decide +kernel
theorem dX2_clear_21 : decode cX2_clear 21 = .ok (.goto (-19), 3) := by decide +kernel
theorem dX2_clear_24 : decode cX2_clear 24 = .ok (.return_, 1) := by decide +kernel
abbrev cX2_mark : ByteArray := prog_7_method_2_code
def yX2_mark : MethodName := ⟨RX2, "mark", "(IIII)V"⟩
theorem dX2_mark_0 : decode cX2_mark 0 = .ok (.bipush 10, 2) := by decide +kernel
theorem dX2_mark_2 : decode cX2_mark 2 = .ok (.iload_n 1, 1) := by decide +kernel
theorem dX2_mark_3 : decode cX2_mark 3 = .ok (.imul, 1) := by decide +kernel
theorem dX2_mark_4 : decode cX2_mark 4 = .ok (.iload_n 2, 1) := by decide +kernel
theorem dX2_mark_5 : decode cX2_mark 5 = .ok (.iadd, 1) := by decide +kernel
theorem dX2_mark_6 : decode cX2_mark 6 = .ok (.istore 5, 2) := by decide +kernel
theorem dX2_mark_8 : decode cX2_mark 8 = .ok (.aload_n 0, 1) := by decide +kernel
theorem dX2_mark_9 : decode cX2_mark 9 = .ok (.getfield 9, 3) := by decide +kernel
theorem dX2_mark_12 : decode cX2_mark 12 = .ok (.iload 5, 2) := by decide +kernel
theorem dX2_mark_14 : decode cX2_mark 14 = .ok (.baload, 1) := by decide +kernel
theorem dX2_mark_15 : decode cX2_mark 15 = .ok (.ifCond .eq 4, 3) := by decide +kernel
theorem dX2_mark_18 : decode cX2_mark 18 = .ok (.return_, 1) := by decide +kernel
theorem dX2_mark_19 : decode cX2_mark 19 = .ok (.aload_n 0, 1) := by decide +kernel
theorem dX2_mark_20 : decode cX2_mark 20 = .ok (.getfield 9, 3) := by decide +kernel
theorem dX2_mark_23 : decode cX2_mark 23 = .ok (.iload 5, 2) := by decide +kernel
theorem dX2_mark_25 : decode cX2_mark 25 = .ok (.iconst 1, 1) := by decide +kernel
theorem dX2_mark_26 : decode cX2_mark 26 = .ok (.bastore, 1) := by decide +kernel
theorem dX2_mark_27 : decode cX2_mark 27 = .ok (.aload_n 0, 1) := by decide +kernel
theorem dX2_mark_28 : decode cX2_mark 28 = .ok (.getfield 15, 3) := by decide +kernel
theorem dX2_mark_31 : decode cX2_mark 31 = .ok (.iload 5, 2) := by decide +kernel
theorem dX2_mark_33 : decode cX2_mark 33 = .ok (.bipush 100, 2) := by decide +kernel
theorem dX2_mark_35 : decode cX2_mark 35 = .ok (.iload_n 3, 1) := by decide +kernel
theorem dX2_mark_36 : decode cX2_mark 36 = .ok (.imul, 1) := by decide +kernel
theorem dX2_mark_37 : decode cX2_mark 37 = .ok (.iload 4, 2) := by decide +kernel
theorem dX2_mark_39 : decode cX2_mark 39 = .ok (.iadd, 1) := by decide +kernel
theorem dX2_mark_40 : decode cX2_mark 40 = .ok (.iastore, 1) := by decide +kernel
theorem dX2_mark_41 : decode cX2_mark 41 = .ok (.return_, 1) := by decide +kernel
abbrev cX2_isLike : ByteArray := prog_7_method_4_code
def yX2_isLike : MethodName := ⟨RX2, "isLike", "(LCamFigures$Paper;)Z"⟩
theorem dX2_isLike_0 : decode cX2_isLike 0 = .ok (.iconst 1, 1) := by decide +kernel
theorem dX2_isLike_1 : decode cX2_isLike 1 = .ok (.istore_n 2, 1) := by decide +kernel
theorem dX2_isLike_2 : decode cX2_isLike 2 = .ok (.iconst 0, 1) := by decide +kernel
theorem dX2_isLike_3 : decode cX2_isLike 3 = .ok (.istore_n 3, 1) := by decide +kernel
theorem dX2_isLike_4 : decode cX2_isLike 4 = .ok (.iload_n 3, 1) := by decide +kernel
theorem dX2_isLike_5 : decode cX2_isLike 5 = .ok (.aload_n 0, 1) := by decide +kernel
theorem dX2_isLike_6 : decode cX2_isLike 6 = .ok (.getfield 9, 3) := by decide +kernel
theorem dX2_isLike_9 : decode cX2_isLike 9 = .ok (.arraylength, 1) := by decide +kernel
theorem dX2_isLike_10 : decode cX2_isLike 10 = .ok (.if_icmp .ge 34, 3) := by decide +kernel
theorem dX2_isLike_13 : decode cX2_isLike 13 = .ok (.iload_n 2, 1) := by decide +kernel
theorem dX2_isLike_14 : decode cX2_isLike 14 = .ok (.ifCond .eq 30, 3) := by decide +kernel
theorem dX2_isLike_17 : decode cX2_isLike 17 = .ok (.aload_n 0, 1) := by decide +kernel
theorem dX2_isLike_18 : decode cX2_isLike 18 = .ok (.getfield 9, 3) := by decide +kernel
theorem dX2_isLike_21 : decode cX2_isLike 21 = .ok (.iload_n 3, 1) := by decide +kernel
theorem dX2_isLike_22 : decode cX2_isLike 22 = .ok (.baload, 1) := by decide +kernel
theorem dX2_isLike_23 : decode cX2_isLike 23 = .ok (.aload_n 1, 1) := by decide +kernel
theorem dX2_isLike_24 : decode cX2_isLike 24 = .ok (.getfield 9, 3) := by decide +kernel
theorem dX2_isLike_27 : decode cX2_isLike 27 = .ok (.iload_n 3, 1) := by decide +kernel
theorem dX2_isLike_28 : decode cX2_isLike 28 = .ok (.baload, 1) := by decide +kernel
theorem dX2_isLike_29 : decode cX2_isLike 29 = .ok (.if_icmp .ne 7, 3) := by decide +kernel
theorem dX2_isLike_32 : decode cX2_isLike 32 = .ok (.iconst 1, 1) := by decide +kernel
theorem dX2_isLike_33 : decode cX2_isLike 33 = .ok (.goto 4, 3) := by decide +kernel
theorem dX2_isLike_36 : decode cX2_isLike 36 = .ok (.iconst 0, 1) := by decide +kernel
theorem dX2_isLike_37 : decode cX2_isLike 37 = .ok (.istore_n 2, 1) := by decide +kernel
theorem dX2_isLike_38 : decode cX2_isLike 38 = .ok (.iinc 3 1, 3) := by decide +kernel
theorem dX2_isLike_41 : decode cX2_isLike 41 = .ok (.goto (-37), 3) := by decide +kernel
theorem dX2_isLike_44 : decode cX2_isLike 44 = .ok (.iload_n 2, 1) := by decide +kernel
theorem dX2_isLike_45 : decode cX2_isLike 45 = .ok (.ireturn, 1) := by decide +kernel
theorem q41 : (Jvm.Cond.initialized "CamFigures$Paper") ∈ lw_all := lw_g (lw_at lw_m1 3 rfl) rfl
theorem q77 : (Jvm.Cond.instantiable "CamFigures$Paper" (2 : Nat)) ∈ lw_all := lw_g (lw_at lw_m1 39 rfl) rfl
theorem q79 : (Jvm.Cond.instanceMethod ({ cls := "CamFigures$Paper", name := "<init>", desc := "()V" } : Jvm.MethodName)) ∈ lw_all := lw_g (lw_at lw_m1 41 rfl) rfl
theorem q80 : (Jvm.Cond.code ({ cls := "CamFigures$Paper", name := "<init>", desc := "()V" } : Jvm.MethodName) prog_7_method_1_code (1 : Nat) (Option.none : Option Jvm.ClassFile.FieldType)) ∈ lw_all := lw_g (lw_at lw_m1 42 rfl) rfl
theorem q81 : (Jvm.Cond.methodLink "CamFigures$Paper" (3 : Nat) ({ cls := "java/lang/Object", name := "<init>", desc := "()V" } : Jvm.MethodName)) ∈ lw_all := lw_g (lw_at lw_m1 43 rfl) rfl
theorem q82 : (Jvm.Cond.fieldLink "CamFigures$Paper" (9 : Nat) "CamFigures$Paper" "isMarked" "[Z") ∈ lw_all := lw_g (lw_at lw_m1 44 rfl) rfl
theorem q84 : (Jvm.Cond.fieldLink "CamFigures$Paper" (15 : Nat) "CamFigures$Paper" "firsts" "[I") ∈ lw_all := lw_g (lw_at lw_m1 46 rfl) rfl
theorem q86 : (Jvm.Cond.laysFinal "CamFigures$Paper" "CamFigures$Paper" "isMarked" "[Z") ∈ lw_all := lw_g (lw_at lw_m1 48 rfl) rfl
theorem q87 : (Jvm.Cond.soleField "CamFigures$Paper" "isMarked") ∈ lw_all := lw_g (lw_at lw_m1 49 rfl) rfl
theorem q88 : (Jvm.Cond.laysFinal "CamFigures$Paper" "CamFigures$Paper" "firsts" "[I") ∈ lw_all := lw_g (lw_at lw_m1 50 rfl) rfl
theorem q89 : (Jvm.Cond.soleField "CamFigures$Paper" "firsts") ∈ lw_all := lw_g (lw_at lw_m1 51 rfl) rfl
theorem q90 : (Jvm.Cond.superclass "CamFigures$Paper" "java/lang/Object") ∈ lw_all := lw_g (lw_at lw_m1 52 rfl) rfl
theorem q200 : (Jvm.Cond.instanceMethod ({ cls := "CamFigures$Paper", name := "clear", desc := "()V" } : Jvm.MethodName)) ∈ lw_all := lw_g (lw_at lw_m1 162 rfl) rfl
theorem q201 : (Jvm.Cond.selects "CamFigures$Paper" ({ cls := "CamFigures$Paper", name := "clear", desc := "()V" } : Jvm.MethodName) ({ cls := "CamFigures$Paper", name := "clear", desc := "()V" } : Jvm.MethodName)) ∈ lw_all := lw_g (lw_at lw_m1 163 rfl) rfl
theorem q202 : (Jvm.Cond.code ({ cls := "CamFigures$Paper", name := "clear", desc := "()V" } : Jvm.MethodName) prog_7_method_3_code (2 : Nat) (Option.none : Option Jvm.ClassFile.FieldType)) ∈ lw_all := lw_g (lw_at lw_m1 164 rfl) rfl
theorem q497 : (Jvm.Cond.castable "CamFigures$Paper" "CamFigures$Marks") ∈ lw_tbl := lw_at lw_m2 219 rfl
theorem q498 : (Jvm.Cond.selects "CamFigures$Paper" ({ cls := "CamFigures$Marks", name := "mark", desc := "(IIII)V" } : Jvm.MethodName) ({ cls := "CamFigures$Paper", name := "mark", desc := "(IIII)V" } : Jvm.MethodName)) ∈ lw_all := lw_g (lw_at lw_m2 220 rfl) rfl
theorem q499 : (Jvm.Cond.unhidden "CamFigures$Paper" "mark" "(IIII)V") ∈ lw_tbl := lw_at lw_m2 221 rfl
theorem q500 : (Jvm.Cond.instanceMethod ({ cls := "CamFigures$Paper", name := "mark", desc := "(IIII)V" } : Jvm.MethodName)) ∈ lw_all := lw_g (lw_at lw_m2 222 rfl) rfl
theorem q501 : (Jvm.Cond.publicMethod ({ cls := "CamFigures$Paper", name := "mark", desc := "(IIII)V" } : Jvm.MethodName)) ∈ lw_tbl := lw_at lw_m2 223 rfl
theorem q502 : (Jvm.Cond.code ({ cls := "CamFigures$Paper", name := "mark", desc := "(IIII)V" } : Jvm.MethodName) prog_7_method_2_code (6 : Nat) (Option.none : Option Jvm.ClassFile.FieldType)) ∈ lw_all := lw_g (lw_at lw_m2 224 rfl) rfl
theorem q590 : (Jvm.Cond.instanceMethod ({ cls := "CamFigures$Paper", name := "isLike", desc := "(LCamFigures$Paper;)Z" } : Jvm.MethodName)) ∈ lw_all := lw_g (lw_at lw_m3 72 rfl) rfl
theorem q591 : (Jvm.Cond.selects "CamFigures$Paper" ({ cls := "CamFigures$Paper", name := "isLike", desc := "(LCamFigures$Paper;)Z" } : Jvm.MethodName) ({ cls := "CamFigures$Paper", name := "isLike", desc := "(LCamFigures$Paper;)Z" } : Jvm.MethodName)) ∈ lw_all := lw_g (lw_at lw_m3 73 rfl) rfl
theorem q592 : (Jvm.Cond.code ({ cls := "CamFigures$Paper", name := "isLike", desc := "(LCamFigures$Paper;)Z" } : Jvm.MethodName) prog_7_method_4_code (4 : Nat) (Option.some Jvm.ClassFile.FieldType.boolean)) ∈ lw_all := lw_g (lw_at lw_m3 74 rfl) rfl
theorem in_X2 : ∀ w ∈ wsX20, w ∈ lw_all := lw_in wsX20 [86, 88] (by decide +kernel) (by decide +kernel)
/-! CamFigures$Letter -/
set_option maxRecDepth 100000
def RX3 : String := "CamFigures$Letter"
def TX3 : u_T := fun k => match k with
  | 0 => ("CamFigures$Letter", "across", "I", false)
  | 1 => ("CamFigures$Letter", "up", "I", false)
  | _ => ("CamFigures$Letter", "lift", "I", false)
def tyX3 : Nat → FieldType := fun k => match k with
  | 0 => .int
  | 1 => .int
  | _ => .int
abbrev wsX30 : List Cond := u_ws RX3 TX3 3
theorem nmX3 : ∀ a, a < 3 → ∀ b, b < 3 → a ≠ b → (TX3 a).2.1 ≠ (TX3 b).2.1 := by decide +kernel
theorem tyX3_ok : ∀ k, k < 3 → parseFieldDescriptor (TX3 k).2.2.1 = some (tyX3 k) := by decide +kernel
abbrev cX3_init : ByteArray := prog_4_method_1_code
def yX3_init : MethodName := ⟨RX3, "<init>", "()V"⟩
theorem dX3_init_0 : decode cX3_init 0 = .ok (.aload_n 0, 1) := by decide +kernel
theorem dX3_init_1 : decode cX3_init 1 = .ok (.invokespecial 1, 3) := by decide +kernel
theorem dX3_init_4 : decode cX3_init 4 = .ok (.return_, 1) := by decide +kernel
theorem q42 : (Jvm.Cond.initialized "CamFigures$Letter") ∈ lw_all := lw_g (lw_at lw_m1 4 rfl) rfl
theorem q94 : (Jvm.Cond.instantiable "CamFigures$Letter" (3 : Nat)) ∈ lw_all := lw_g (lw_at lw_m1 56 rfl) rfl
theorem q96 : (Jvm.Cond.instanceMethod ({ cls := "CamFigures$Letter", name := "<init>", desc := "()V" } : Jvm.MethodName)) ∈ lw_all := lw_g (lw_at lw_m1 58 rfl) rfl
theorem q97 : (Jvm.Cond.code ({ cls := "CamFigures$Letter", name := "<init>", desc := "()V" } : Jvm.MethodName) prog_4_method_1_code (1 : Nat) (Option.none : Option Jvm.ClassFile.FieldType)) ∈ lw_all := lw_g (lw_at lw_m1 59 rfl) rfl
theorem q98 : (Jvm.Cond.methodLink "CamFigures$Letter" (1 : Nat) ({ cls := "java/lang/Object", name := "<init>", desc := "()V" } : Jvm.MethodName)) ∈ lw_all := lw_g (lw_at lw_m1 60 rfl) rfl
theorem q105 : (Jvm.Cond.lays "CamFigures$Letter" "CamFigures$Letter" "across" "I") ∈ lw_all := lw_g (lw_at lw_m1 67 rfl) rfl
theorem q106 : (Jvm.Cond.soleField "CamFigures$Letter" "across") ∈ lw_all := lw_g (lw_at lw_m1 68 rfl) rfl
theorem q107 : (Jvm.Cond.lays "CamFigures$Letter" "CamFigures$Letter" "up" "I") ∈ lw_all := lw_g (lw_at lw_m1 69 rfl) rfl
theorem q108 : (Jvm.Cond.soleField "CamFigures$Letter" "up") ∈ lw_all := lw_g (lw_at lw_m1 70 rfl) rfl
theorem q109 : (Jvm.Cond.lays "CamFigures$Letter" "CamFigures$Letter" "lift" "I") ∈ lw_all := lw_g (lw_at lw_m1 71 rfl) rfl
theorem q110 : (Jvm.Cond.soleField "CamFigures$Letter" "lift") ∈ lw_all := lw_g (lw_at lw_m1 72 rfl) rfl
theorem q111 : (Jvm.Cond.superclass "CamFigures$Letter" "java/lang/Object") ∈ lw_all := lw_g (lw_at lw_m1 73 rfl) rfl
theorem in_X3 : ∀ w ∈ wsX30, w ∈ lw_all := lw_in wsX30 [105, 107, 109] (by decide +kernel) (by decide +kernel)
/-! CamFigures$Cam -/
set_option maxRecDepth 100000
def RX5 : String := "CamFigures$Cam"
def TX5 : u_T := fun k => match k with
  | _ => ("CamFigures$Cam", "heights", "[I", true)
def tyX5 : Nat → FieldType := fun k => match k with
  | _ => .array .int
abbrev wsX50 : List Cond := u_ws RX5 TX5 1
theorem nmX5 : ∀ a, a < 1 → ∀ b, b < 1 → a ≠ b → (TX5 a).2.1 ≠ (TX5 b).2.1 := by decide +kernel
theorem tyX5_ok : ∀ k, k < 1 → parseFieldDescriptor (TX5 k).2.2.1 = some (tyX5 k) := by decide +kernel
abbrev cX5_init : ByteArray := prog_3_method_1_code
def yX5_init : MethodName := ⟨RX5, "<init>", "(I)V"⟩
theorem dX5_init_0 : decode cX5_init 0 = .ok (.aload_n 0, 1) := by decide +kernel
theorem dX5_init_1 : decode cX5_init 1 = .ok (.invokespecial 3, 3) := by decide +kernel
theorem dX5_init_4 : decode cX5_init 4 = .ok (.aload_n 0, 1) := by decide +kernel
theorem dX5_init_5 : decode cX5_init 5 = .ok (.iload_n 1, 1) := by decide +kernel
theorem dX5_init_6 : decode cX5_init 6 = .ok (.newarray .int, 2) := by decide +kernel
theorem dX5_init_8 : decode cX5_init 8 = .ok (.putfield 9, 3) := by decide +kernel
theorem dX5_init_11 : decode cX5_init 11 = .ok (.return_, 1) := by decide +kernel
abbrev cX5_at : ByteArray := prog_3_method_2_code
def yX5_at : MethodName := ⟨RX5, "at", "(I)I"⟩
theorem dX5_at_0 : decode cX5_at 0 = .ok (.aload_n 0, 1) := by decide +kernel
theorem dX5_at_1 : decode cX5_at 1 = .ok (.getfield 9, 3) := by decide +kernel
theorem dX5_at_4 : decode cX5_at 4 = .ok (.iload_n 1, 1) := by decide +kernel
theorem dX5_at_5 : decode cX5_at 5 = .ok (.iaload, 1) := by decide +kernel
theorem dX5_at_6 : decode cX5_at 6 = .ok (.ireturn, 1) := by decide +kernel
abbrev cX5_turnsTo : ByteArray := prog_3_method_3_code
def yX5_turnsTo : MethodName := ⟨RX5, "turnsTo", "(LCamFigures$Cam;)I"⟩
theorem dX5_turnsTo_0 : decode cX5_turnsTo 0 = .ok (.aload_n 0, 1) := by decide +kernel
theorem dX5_turnsTo_1 : decode cX5_turnsTo 1 = .ok (.getfield 9, 3) := by decide +kernel
theorem dX5_turnsTo_4 : decode cX5_turnsTo 4 = .ok (.arraylength, 1) := by decide +kernel
theorem dX5_turnsTo_5 : decode cX5_turnsTo 5 = .ok (.istore_n 2, 1) := by decide +kernel
theorem dX5_turnsTo_6 : decode cX5_turnsTo 6 = .ok (.iconst 0, 1) := by decide +kernel
theorem dX5_turnsTo_7 : decode cX5_turnsTo 7 = .ok (.istore_n 3, 1) := by decide +kernel
theorem dX5_turnsTo_8 : decode cX5_turnsTo 8 = .ok (.iload_n 3, 1) := by decide +kernel
theorem dX5_turnsTo_9 : decode cX5_turnsTo 9 = .ok (.iload_n 2, 1) := by decide +kernel
theorem dX5_turnsTo_10 : decode cX5_turnsTo 10 = .ok (.if_icmp .ge 67, 3) := by decide +kernel
theorem dX5_turnsTo_13 : decode cX5_turnsTo 13 = .ok (.iconst 1, 1) := by decide +kernel
theorem dX5_turnsTo_14 : decode cX5_turnsTo 14 = .ok (.istore 4, 2) := by decide +kernel
theorem dX5_turnsTo_16 : decode cX5_turnsTo 16 = .ok (.iconst 0, 1) := by decide +kernel
theorem dX5_turnsTo_17 : decode cX5_turnsTo 17 = .ok (.istore 5, 2) := by decide +kernel
theorem dX5_turnsTo_19 : decode cX5_turnsTo 19 = .ok (.iload 5, 2) := by decide +kernel
theorem dX5_turnsTo_21 : decode cX5_turnsTo 21 = .ok (.iload_n 2, 1) := by decide +kernel
theorem dX5_turnsTo_22 : decode cX5_turnsTo 22 = .ok (.if_icmp .ge 42, 3) := by decide +kernel
theorem dX5_turnsTo_25 : decode cX5_turnsTo 25 = .ok (.iload 4, 2) := by decide +kernel
theorem dX5_turnsTo_27 : decode cX5_turnsTo 27 = .ok (.ifCond .eq 37, 3) := by decide +kernel
theorem dX5_turnsTo_30 : decode cX5_turnsTo 30 = .ok (.aload_n 0, 1) := by decide +kernel
theorem dX5_turnsTo_31 : decode cX5_turnsTo 31 = .ok (.getfield 9, 3) := by decide +kernel
theorem dX5_turnsTo_34 : decode cX5_turnsTo 34 = .ok (.iload 5, 2) := by decide +kernel
theorem dX5_turnsTo_36 : decode cX5_turnsTo 36 = .ok (.iaload, 1) := by decide +kernel
theorem dX5_turnsTo_37 : decode cX5_turnsTo 37 = .ok (.aload_n 1, 1) := by decide +kernel
theorem dX5_turnsTo_38 : decode cX5_turnsTo 38 = .ok (.getfield 9, 3) := by decide +kernel
theorem dX5_turnsTo_41 : decode cX5_turnsTo 41 = .ok (.iload 5, 2) := by decide +kernel
theorem dX5_turnsTo_43 : decode cX5_turnsTo 43 = .ok (.iload_n 3, 1) := by decide +kernel
theorem dX5_turnsTo_44 : decode cX5_turnsTo 44 = .ok (.iadd, 1) := by decide +kernel
theorem dX5_turnsTo_45 : decode cX5_turnsTo 45 = .ok (.iload_n 2, 1) := by decide +kernel
theorem dX5_turnsTo_46 : decode cX5_turnsTo 46 = .ok (.irem, 1) := by decide +kernel
theorem dX5_turnsTo_47 : decode cX5_turnsTo 47 = .ok (.iaload, 1) := by decide +kernel
theorem dX5_turnsTo_48 : decode cX5_turnsTo 48 = .ok (.if_icmp .ne 7, 3) := by decide +kernel
theorem dX5_turnsTo_51 : decode cX5_turnsTo 51 = .ok (.iconst 1, 1) := by decide +kernel
theorem dX5_turnsTo_52 : decode cX5_turnsTo 52 = .ok (.goto 4, 3) := by decide +kernel
theorem dX5_turnsTo_55 : decode cX5_turnsTo 55 = .ok (.iconst 0, 1) := by decide +kernel
theorem dX5_turnsTo_56 : decode cX5_turnsTo 56 = .ok (.istore 4, 2) := by decide +kernel
theorem dX5_turnsTo_58 : decode cX5_turnsTo 58 = .ok (.iinc 5 1, 3) := by decide +kernel
theorem dX5_turnsTo_61 : decode cX5_turnsTo 61 = .ok (.goto (-42), 3) := by decide +kernel
theorem dX5_turnsTo_64 : decode cX5_turnsTo 64 = .ok (.iload 4, 2) := by decide +kernel
theorem dX5_turnsTo_66 : decode cX5_turnsTo 66 = .ok (.ifCond .eq 5, 3) := by decide +kernel
theorem dX5_turnsTo_69 : decode cX5_turnsTo 69 = .ok (.iload_n 3, 1) := by decide +kernel
theorem dX5_turnsTo_70 : decode cX5_turnsTo 70 = .ok (.ireturn, 1) := by decide +kernel
theorem dX5_turnsTo_71 : decode cX5_turnsTo 71 = .ok (.iinc 3 1, 3) := by decide +kernel
theorem dX5_turnsTo_74 : decode cX5_turnsTo 74 = .ok (.goto (-66), 3) := by decide +kernel
theorem dX5_turnsTo_77 : decode cX5_turnsTo 77 = .ok (.bipush (-9), 2) := by decide +kernel
theorem dX5_turnsTo_79 : decode cX5_turnsTo 79 = .ok (.ireturn, 1) := by decide +kernel
abbrev cX5_smooth : ByteArray := prog_3_method_4_code
def yX5_smooth : MethodName := ⟨RX5, "smooth", "()I"⟩
theorem dX5_smooth_0 : decode cX5_smooth 0 = .ok (.iconst 0, 1) := by decide +kernel
theorem dX5_smooth_1 : decode cX5_smooth 1 = .ok (.istore_n 1, 1) := by decide +kernel
theorem dX5_smooth_2 : decode cX5_smooth 2 = .ok (.iconst 0, 1) := by decide +kernel
theorem dX5_smooth_3 : decode cX5_smooth 3 = .ok (.istore_n 2, 1) := by decide +kernel
theorem dX5_smooth_4 : decode cX5_smooth 4 = .ok (.iload_n 2, 1) := by decide +kernel
theorem dX5_smooth_5 : decode cX5_smooth 5 = .ok (.aload_n 0, 1) := by decide +kernel
theorem dX5_smooth_6 : decode cX5_smooth 6 = .ok (.getfield 9, 3) := by decide +kernel
theorem dX5_smooth_9 : decode cX5_smooth 9 = .ok (.arraylength, 1) := by decide +kernel
theorem dX5_smooth_10 : decode cX5_smooth 10 = .ok (.if_icmp .ge 38, 3) := by decide +kernel
theorem dX5_smooth_13 : decode cX5_smooth 13 = .ok (.iload_n 1, 1) := by decide +kernel
theorem dX5_smooth_14 : decode cX5_smooth 14 = .ok (.aload_n 0, 1) := by decide +kernel
theorem dX5_smooth_15 : decode cX5_smooth 15 = .ok (.getfield 9, 3) := by decide +kernel
theorem dX5_smooth_18 : decode cX5_smooth 18 = .ok (.iload_n 2, 1) := by decide +kernel
theorem dX5_smooth_19 : decode cX5_smooth 19 = .ok (.iaload, 1) := by decide +kernel
theorem dX5_smooth_20 : decode cX5_smooth 20 = .ok (.aload_n 0, 1) := by decide +kernel
theorem dX5_smooth_21 : decode cX5_smooth 21 = .ok (.getfield 9, 3) := by decide +kernel
theorem dX5_smooth_24 : decode cX5_smooth 24 = .ok (.iload_n 2, 1) := by decide +kernel
theorem dX5_smooth_25 : decode cX5_smooth 25 = .ok (.iconst 1, 1) := by decide +kernel
theorem dX5_smooth_26 : decode cX5_smooth 26 = .ok (.iadd, 1) := by decide +kernel
theorem dX5_smooth_27 : decode cX5_smooth 27 = .ok (.aload_n 0, 1) := by decide +kernel
theorem dX5_smooth_28 : decode cX5_smooth 28 = .ok (.getfield 9, 3) := by decide +kernel
theorem dX5_smooth_31 : decode cX5_smooth 31 = .ok (.arraylength, 1) := by decide +kernel
theorem dX5_smooth_32 : decode cX5_smooth 32 = .ok (.irem, 1) := by decide +kernel
theorem dX5_smooth_33 : decode cX5_smooth 33 = .ok (.iaload, 1) := by decide +kernel
theorem dX5_smooth_34 : decode cX5_smooth 34 = .ok (.isub, 1) := by decide +kernel
theorem dX5_smooth_35 : decode cX5_smooth 35 = .ok (.invokestatic 15, 3) := by decide +kernel
theorem dX5_smooth_38 : decode cX5_smooth 38 = .ok (.invokestatic 21, 3) := by decide +kernel
theorem dX5_smooth_41 : decode cX5_smooth 41 = .ok (.istore_n 1, 1) := by decide +kernel
theorem dX5_smooth_42 : decode cX5_smooth 42 = .ok (.iinc 2 1, 3) := by decide +kernel
theorem dX5_smooth_45 : decode cX5_smooth 45 = .ok (.goto (-41), 3) := by decide +kernel
theorem dX5_smooth_48 : decode cX5_smooth 48 = .ok (.iload_n 1, 1) := by decide +kernel
theorem dX5_smooth_49 : decode cX5_smooth 49 = .ok (.ireturn, 1) := by decide +kernel
abbrev cX5_times : ByteArray := prog_3_method_5_code
def yX5_times : MethodName := ⟨RX5, "times", "(I)I"⟩
theorem dX5_times_0 : decode cX5_times 0 = .ok (.iconst 0, 1) := by decide +kernel
theorem dX5_times_1 : decode cX5_times 1 = .ok (.istore_n 2, 1) := by decide +kernel
theorem dX5_times_2 : decode cX5_times 2 = .ok (.iconst 0, 1) := by decide +kernel
theorem dX5_times_3 : decode cX5_times 3 = .ok (.istore_n 3, 1) := by decide +kernel
theorem dX5_times_4 : decode cX5_times 4 = .ok (.iload_n 3, 1) := by decide +kernel
theorem dX5_times_5 : decode cX5_times 5 = .ok (.aload_n 0, 1) := by decide +kernel
theorem dX5_times_6 : decode cX5_times 6 = .ok (.getfield 9, 3) := by decide +kernel
theorem dX5_times_9 : decode cX5_times 9 = .ok (.arraylength, 1) := by decide +kernel
theorem dX5_times_10 : decode cX5_times 10 = .ok (.if_icmp .ge 27, 3) := by decide +kernel
theorem dX5_times_13 : decode cX5_times 13 = .ok (.iload_n 2, 1) := by decide +kernel
theorem dX5_times_14 : decode cX5_times 14 = .ok (.aload_n 0, 1) := by decide +kernel
theorem dX5_times_15 : decode cX5_times 15 = .ok (.getfield 9, 3) := by decide +kernel
theorem dX5_times_18 : decode cX5_times 18 = .ok (.iload_n 3, 1) := by decide +kernel
theorem dX5_times_19 : decode cX5_times 19 = .ok (.iaload, 1) := by decide +kernel
theorem dX5_times_20 : decode cX5_times 20 = .ok (.iload_n 1, 1) := by decide +kernel
theorem dX5_times_21 : decode cX5_times 21 = .ok (.if_icmp .ne 7, 3) := by decide +kernel
theorem dX5_times_24 : decode cX5_times 24 = .ok (.iconst 1, 1) := by decide +kernel
theorem dX5_times_25 : decode cX5_times 25 = .ok (.goto 4, 3) := by decide +kernel
theorem dX5_times_28 : decode cX5_times 28 = .ok (.iconst 0, 1) := by decide +kernel
theorem dX5_times_29 : decode cX5_times 29 = .ok (.iadd, 1) := by decide +kernel
theorem dX5_times_30 : decode cX5_times 30 = .ok (.istore_n 2, 1) := by decide +kernel
theorem dX5_times_31 : decode cX5_times 31 = .ok (.iinc 3 1, 3) := by decide +kernel
theorem dX5_times_34 : decode cX5_times 34 = .ok (.goto (-30), 3) := by decide +kernel
theorem dX5_times_37 : decode cX5_times 37 = .ok (.iload_n 2, 1) := by decide +kernel
theorem dX5_times_38 : decode cX5_times 38 = .ok (.ireturn, 1) := by decide +kernel
theorem q44 : (Jvm.Cond.initialized "CamFigures$Cam") ∈ lw_all := lw_g (lw_at lw_m1 6 rfl) rfl
theorem q210 : (Jvm.Cond.instantiable "CamFigures$Cam" (1 : Nat)) ∈ lw_all := lw_g (lw_at lw_m1 172 rfl) rfl
theorem q212 : (Jvm.Cond.instanceMethod ({ cls := "CamFigures$Cam", name := "<init>", desc := "(I)V" } : Jvm.MethodName)) ∈ lw_all := lw_g (lw_at lw_m1 174 rfl) rfl
theorem q213 : (Jvm.Cond.code ({ cls := "CamFigures$Cam", name := "<init>", desc := "(I)V" } : Jvm.MethodName) prog_3_method_1_code (2 : Nat) (Option.none : Option Jvm.ClassFile.FieldType)) ∈ lw_all := lw_g (lw_at lw_m1 175 rfl) rfl
theorem q214 : (Jvm.Cond.methodLink "CamFigures$Cam" (3 : Nat) ({ cls := "java/lang/Object", name := "<init>", desc := "()V" } : Jvm.MethodName)) ∈ lw_all := lw_g (lw_at lw_m1 176 rfl) rfl
theorem q215 : (Jvm.Cond.fieldLink "CamFigures$Cam" (9 : Nat) "CamFigures$Cam" "heights" "[I") ∈ lw_all := lw_g (lw_at lw_m1 177 rfl) rfl
theorem q217 : (Jvm.Cond.laysFinal "CamFigures$Cam" "CamFigures$Cam" "heights" "[I") ∈ lw_all := lw_g (lw_at lw_m1 179 rfl) rfl
theorem q218 : (Jvm.Cond.soleField "CamFigures$Cam" "heights") ∈ lw_all := lw_g (lw_at lw_m1 180 rfl) rfl
theorem q219 : (Jvm.Cond.superclass "CamFigures$Cam" "java/lang/Object") ∈ lw_all := lw_g (lw_at lw_m1 181 rfl) rfl
theorem q309 : (Jvm.Cond.instanceMethod ({ cls := "CamFigures$Cam", name := "at", desc := "(I)I" } : Jvm.MethodName)) ∈ lw_all := lw_g (lw_at lw_m2 31 rfl) rfl
theorem q310 : (Jvm.Cond.selects "CamFigures$Cam" ({ cls := "CamFigures$Cam", name := "at", desc := "(I)I" } : Jvm.MethodName) ({ cls := "CamFigures$Cam", name := "at", desc := "(I)I" } : Jvm.MethodName)) ∈ lw_all := lw_g (lw_at lw_m2 32 rfl) rfl
theorem q311 : (Jvm.Cond.code ({ cls := "CamFigures$Cam", name := "at", desc := "(I)I" } : Jvm.MethodName) prog_3_method_2_code (2 : Nat) (Option.some Jvm.ClassFile.FieldType.int)) ∈ lw_all := lw_g (lw_at lw_m2 33 rfl) rfl
theorem q336 : (Jvm.Cond.instanceMethod ({ cls := "CamFigures$Cam", name := "turnsTo", desc := "(LCamFigures$Cam;)I" } : Jvm.MethodName)) ∈ lw_all := lw_g (lw_at lw_m2 58 rfl) rfl
theorem q337 : (Jvm.Cond.selects "CamFigures$Cam" ({ cls := "CamFigures$Cam", name := "turnsTo", desc := "(LCamFigures$Cam;)I" } : Jvm.MethodName) ({ cls := "CamFigures$Cam", name := "turnsTo", desc := "(LCamFigures$Cam;)I" } : Jvm.MethodName)) ∈ lw_all := lw_g (lw_at lw_m2 59 rfl) rfl
theorem q338 : (Jvm.Cond.code ({ cls := "CamFigures$Cam", name := "turnsTo", desc := "(LCamFigures$Cam;)I" } : Jvm.MethodName) prog_3_method_3_code (6 : Nat) (Option.some Jvm.ClassFile.FieldType.int)) ∈ lw_all := lw_g (lw_at lw_m2 60 rfl) rfl
theorem q344 : (Jvm.Cond.instanceMethod ({ cls := "CamFigures$Cam", name := "smooth", desc := "()I" } : Jvm.MethodName)) ∈ lw_all := lw_g (lw_at lw_m2 66 rfl) rfl
theorem q345 : (Jvm.Cond.selects "CamFigures$Cam" ({ cls := "CamFigures$Cam", name := "smooth", desc := "()I" } : Jvm.MethodName) ({ cls := "CamFigures$Cam", name := "smooth", desc := "()I" } : Jvm.MethodName)) ∈ lw_all := lw_g (lw_at lw_m2 67 rfl) rfl
theorem q346 : (Jvm.Cond.code ({ cls := "CamFigures$Cam", name := "smooth", desc := "()I" } : Jvm.MethodName) prog_3_method_4_code (3 : Nat) (Option.some Jvm.ClassFile.FieldType.int)) ∈ lw_all := lw_g (lw_at lw_m2 68 rfl) rfl
theorem q347 : (Jvm.Cond.methodLink "CamFigures$Cam" (15 : Nat) ({ cls := "java/lang/Math", name := "abs", desc := "(I)I" } : Jvm.MethodName)) ∈ lw_all := lw_g (lw_at lw_m2 69 rfl) rfl
theorem q350 : (Jvm.Cond.methodLink "CamFigures$Cam" (21 : Nat) ({ cls := "java/lang/Math", name := "max", desc := "(II)I" } : Jvm.MethodName)) ∈ lw_all := lw_g (lw_at lw_m2 72 rfl) rfl
theorem q602 : (Jvm.Cond.instanceMethod ({ cls := "CamFigures$Cam", name := "times", desc := "(I)I" } : Jvm.MethodName)) ∈ lw_all := lw_g (lw_at lw_m3 84 rfl) rfl
theorem q603 : (Jvm.Cond.selects "CamFigures$Cam" ({ cls := "CamFigures$Cam", name := "times", desc := "(I)I" } : Jvm.MethodName) ({ cls := "CamFigures$Cam", name := "times", desc := "(I)I" } : Jvm.MethodName)) ∈ lw_all := lw_g (lw_at lw_m3 85 rfl) rfl
theorem q604 : (Jvm.Cond.code ({ cls := "CamFigures$Cam", name := "times", desc := "(I)I" } : Jvm.MethodName) prog_3_method_5_code (4 : Nat) (Option.some Jvm.ClassFile.FieldType.int)) ∈ lw_all := lw_g (lw_at lw_m3 86 rfl) rfl
theorem in_X5 : ∀ w ∈ wsX50, w ∈ lw_all := lw_in wsX50 [217] (by decide +kernel) (by decide +kernel)
/-! CamFigures$Refused -/
set_option maxRecDepth 100000
def RX6 : String := "CamFigures$Refused"
def TX6 : u_T := fun k => match k with
  | 0 => ("java/lang/Throwable", "cause", "Ljava/lang/Throwable;", false)
  | 1 => ("java/lang/Throwable", "stackTrace", "[Ljava/lang/StackTraceElement;", false)
  | 2 => ("java/lang/Throwable", "suppressedExceptions", "Ljava/util/List;", false)
  | 3 => ("java/lang/Throwable", "detailMessage", "Ljava/lang/String;", false)
  | 4 => ("java/lang/Throwable", "backtrace", "Ljava/lang/Object;", false)
  | 5 => ("java/lang/Throwable", "depth", "I", false)
  | _ => ("CamFigures$Refused", "code", "I", true)
def tyX6 : Nat → FieldType := fun k => match k with
  | 0 => .object "java/lang/Throwable"
  | 1 => .array (.object "java/lang/StackTraceElement")
  | 2 => .object "java/util/List"
  | 3 => .object "java/lang/String"
  | 4 => .object "java/lang/Object"
  | 5 => .int
  | _ => .int
abbrev wsX60 : List Cond := u_ws RX6 TX6 7
theorem nmX6 : ∀ a, a < 7 → ∀ b, b < 7 → a ≠ b → (TX6 a).2.1 ≠ (TX6 b).2.1 := by decide +kernel
theorem tyX6_ok : ∀ k, k < 7 → parseFieldDescriptor (TX6 k).2.2.1 = some (tyX6 k) := by decide +kernel
abbrev cX6_init : ByteArray := prog_10_method_1_code
def yX6_init : MethodName := ⟨RX6, "<init>", "(I)V"⟩
theorem dX6_init_0 : decode cX6_init 0 = .ok (.aload_n 0, 1) := by decide +kernel
theorem dX6_init_1 : decode cX6_init 1 = .ok (.aconst_null, 1) := by decide +kernel
theorem dX6_init_2 : decode cX6_init 2 = .ok (.aconst_null, 1) := by decide +kernel
theorem dX6_init_3 : decode cX6_init 3 = .ok (.iconst 0, 1) := by decide +kernel
theorem dX6_init_4 : decode cX6_init 4 = .ok (.iconst 0, 1) := by decide +kernel
theorem dX6_init_5 : decode cX6_init 5 = .ok (.invokespecial 1, 3) := by decide +kernel
theorem dX6_init_8 : decode cX6_init 8 = .ok (.aload_n 0, 1) := by decide +kernel
theorem dX6_init_9 : decode cX6_init 9 = .ok (.iload_n 1, 1) := by decide +kernel
theorem dX6_init_10 : decode cX6_init 10 = .ok (.putfield 7, 3) := by decide +kernel
theorem dX6_init_13 : decode cX6_init 13 = .ok (.return_, 1) := by decide +kernel
theorem q48 : (Jvm.Cond.initialized "CamFigures$Refused") ∈ lw_all := lw_g (lw_at lw_m1 10 rfl) rfl
theorem q229 : (Jvm.Cond.instantiable "CamFigures$Refused" (7 : Nat)) ∈ lw_all := lw_g (lw_at lw_m1 191 rfl) rfl
theorem q230 : (Jvm.Cond.castable "CamFigures$Refused" "CamFigures$Refused") ∈ lw_tbl := lw_at lw_m1 192 rfl
theorem q237 : (Jvm.Cond.selects "CamFigures$Refused" ({ cls := "java/lang/Throwable", name := "fillInStackTrace", desc := "(I)Ljava/lang/Throwable;" } : Jvm.MethodName) ({ cls := "java/lang/Throwable", name := "fillInStackTrace", desc := "(I)Ljava/lang/Throwable;" } : Jvm.MethodName)) ∈ lw_all := lw_g (lw_at lw_m1 199 rfl) rfl
theorem q238 : (Jvm.Cond.selects "CamFigures$Refused" ({ cls := "java/lang/Throwable", name := "fillInStackTrace", desc := "()Ljava/lang/Throwable;" } : Jvm.MethodName) ({ cls := "java/lang/Throwable", name := "fillInStackTrace", desc := "()Ljava/lang/Throwable;" } : Jvm.MethodName)) ∈ lw_all := lw_g (lw_at lw_m1 200 rfl) rfl
theorem q239 : (Jvm.Cond.lays "CamFigures$Refused" "java/lang/Throwable" "cause" "Ljava/lang/Throwable;") ∈ lw_all := lw_g (lw_at lw_m1 201 rfl) rfl
theorem q241 : (Jvm.Cond.lays "CamFigures$Refused" "java/lang/Throwable" "stackTrace" "[Ljava/lang/StackTraceElement;") ∈ lw_all := lw_g (lw_at lw_m1 203 rfl) rfl
theorem q243 : (Jvm.Cond.lays "CamFigures$Refused" "java/lang/Throwable" "suppressedExceptions" "Ljava/util/List;") ∈ lw_all := lw_g (lw_at lw_m1 205 rfl) rfl
theorem q245 : (Jvm.Cond.lays "CamFigures$Refused" "java/lang/Throwable" "detailMessage" "Ljava/lang/String;") ∈ lw_all := lw_g (lw_at lw_m1 207 rfl) rfl
theorem q247 : (Jvm.Cond.lays "CamFigures$Refused" "java/lang/Throwable" "backtrace" "Ljava/lang/Object;") ∈ lw_all := lw_g (lw_at lw_m1 209 rfl) rfl
theorem q268 : (Jvm.Cond.instanceMethod ({ cls := "CamFigures$Refused", name := "<init>", desc := "(I)V" } : Jvm.MethodName)) ∈ lw_all := lw_g (lw_at lw_m1 230 rfl) rfl
theorem q269 : (Jvm.Cond.code ({ cls := "CamFigures$Refused", name := "<init>", desc := "(I)V" } : Jvm.MethodName) prog_10_method_1_code (2 : Nat) (Option.none : Option Jvm.ClassFile.FieldType)) ∈ lw_all := lw_g (lw_at lw_m1 231 rfl) rfl
theorem q270 : (Jvm.Cond.methodLink "CamFigures$Refused" (1 : Nat) ({ cls := "java/lang/RuntimeException", name := "<init>", desc := "(Ljava/lang/String;Ljava/lang/Throwable;ZZ)V" } : Jvm.MethodName)) ∈ lw_all := lw_g (lw_at lw_m1 232 rfl) rfl
theorem q279 : (Jvm.Cond.fieldLink "CamFigures$Refused" (7 : Nat) "CamFigures$Refused" "code" "I") ∈ lw_all := lw_g (lw_at lw_m2 1 rfl) rfl
theorem q286 : (Jvm.Cond.laysFinal "CamFigures$Refused" "CamFigures$Refused" "code" "I") ∈ lw_all := lw_g (lw_at lw_m2 8 rfl) rfl
theorem q287 : (Jvm.Cond.soleField "CamFigures$Refused" "code") ∈ lw_all := lw_g (lw_at lw_m2 9 rfl) rfl
theorem q292 : (Jvm.Cond.lays "CamFigures$Refused" "java/lang/Throwable" "depth" "I") ∈ lw_all := lw_g (lw_at lw_m2 14 rfl) rfl
theorem q295 : (Jvm.Cond.superclass "CamFigures$Refused" "java/lang/RuntimeException") ∈ lw_all := lw_g (lw_at lw_m2 17 rfl) rfl
theorem in_X6 : ∀ w ∈ wsX60, w ∈ lw_all := lw_in wsX60 [239, 241, 243, 245, 247, 292, 286] (by decide +kernel) (by decide +kernel)
/-! CamFigures$Pen -/
set_option maxRecDepth 100000
def RX7 : String := "CamFigures$Pen"
def TX7 : u_T := fun k => match k with
  | 0 => ("CamFigures$Pen", "on", "LCamFigures$Marks;", true)
  | 1 => ("CamFigures$Pen", "worn", "LCamFigures$Part;", true)
  | 2 => ("CamFigures$Pen", "loose", "LCamFigures$Part;", true)
  | 3 => ("CamFigures$Pen", "bent", "LCamFigures$Part;", true)
  | 4 => ("CamFigures$Pen", "x", "I", false)
  | 5 => ("CamFigures$Pen", "y", "I", false)
  | 6 => ("CamFigures$Pen", "isDown", "Z", false)
  | _ => ("CamFigures$Pen", "this$0", "LCamFigures;", true)
def tyX7 : Nat → FieldType := fun k => match k with
  | 0 => .object "CamFigures$Marks"
  | 1 => .object "CamFigures$Part"
  | 2 => .object "CamFigures$Part"
  | 3 => .object "CamFigures$Part"
  | 4 => .int
  | 5 => .int
  | 6 => .boolean
  | _ => .object "CamFigures"
abbrev wsX70 : List Cond := u_ws RX7 TX7 8
theorem nmX7 : ∀ a, a < 8 → ∀ b, b < 8 → a ≠ b → (TX7 a).2.1 ≠ (TX7 b).2.1 := by decide +kernel
theorem tyX7_ok : ∀ k, k < 8 → parseFieldDescriptor (TX7 k).2.2.1 = some (tyX7 k) := by decide +kernel
abbrev cX7_init : ByteArray := prog_9_method_1_code
def yX7_init : MethodName := ⟨RX7, "<init>", "(LCamFigures;LCamFigures$Marks;LCamFigures$Part;LCamFigures$Part;LCamFigures$Part;)V"⟩
theorem dX7_init_0 : decode cX7_init 0 = .ok (.aload_n 0, 1) := by decide +kernel
theorem dX7_init_1 : decode cX7_init 1 = .ok (.aload_n 1, 1) := by decide +kernel
theorem dX7_init_2 : decode cX7_init 2 = .ok (.putfield 1, 3) := by decide +kernel
theorem dX7_init_5 : decode cX7_init 5 = .ok (.aload_n 0, 1) := by decide +kernel
theorem dX7_init_6 : decode cX7_init 6 = .ok (.invokespecial 7, 3) := by decide +kernel
theorem dX7_init_9 : decode cX7_init 9 = .ok (.aload_n 0, 1) := by decide +kernel
theorem dX7_init_10 : decode cX7_init 10 = .ok (.aload_n 2, 1) := by decide +kernel
theorem dX7_init_11 : decode cX7_init 11 = .ok (.putfield 13, 3) := by decide +kernel
theorem dX7_init_14 : decode cX7_init 14 = .ok (.aload_n 0, 1) := by decide +kernel
theorem dX7_init_15 : decode cX7_init 15 = .ok (.aload_n 3, 1) := by decide +kernel
theorem dX7_init_16 : decode cX7_init 16 = .ok (.putfield 17, 3) := by decide +kernel
theorem dX7_init_19 : decode cX7_init 19 = .ok (.aload_n 0, 1) := by decide +kernel
theorem dX7_init_20 : decode cX7_init 20 = .ok (.aload 4, 2) := by decide +kernel
theorem dX7_init_22 : decode cX7_init 22 = .ok (.putfield 21, 3) := by decide +kernel
theorem dX7_init_25 : decode cX7_init 25 = .ok (.aload_n 0, 1) := by decide +kernel
theorem dX7_init_26 : decode cX7_init 26 = .ok (.aload 5, 2) := by decide +kernel
theorem dX7_init_28 : decode cX7_init 28 = .ok (.putfield 24, 3) := by decide +kernel
theorem dX7_init_31 : decode cX7_init 31 = .ok (.return_, 1) := by decide +kernel
abbrev cX7_writes : ByteArray := prog_9_method_3_code
def yX7_writes : MethodName := ⟨RX7, "writes", "(I)Z"⟩
theorem dX7_writes_0 : decode cX7_writes 0 = .ok (.aload_n 0, 1) := by decide +kernel
theorem dX7_writes_1 : decode cX7_writes 1 = .ok (.getfield 21, 3) := by decide +kernel
theorem dX7_writes_4 : decode cX7_writes 4 = .ok (.iload_n 1, 1) := by decide +kernel
theorem dX7_writes_5 : decode cX7_writes 5 = .ok (.invokevirtual 45, 3) := by decide +kernel
theorem dX7_writes_8 : decode cX7_writes 8 = .ok (.ireturn, 1) := by decide +kernel
abbrev cX7_step : ByteArray := prog_9_method_4_code
def yX7_step : MethodName := ⟨RX7, "step", "(II)V"⟩
theorem dX7_step_0 : decode cX7_step 0 = .ok (.aload_n 0, 1) := by decide +kernel
theorem dX7_step_1 : decode cX7_step 1 = .ok (.getfield 1, 3) := by decide +kernel
theorem dX7_step_4 : decode cX7_step 4 = .ok (.getfield 49, 3) := by decide +kernel
theorem dX7_step_7 : decode cX7_step 7 = .ok (.aload_n 0, 1) := by decide +kernel
theorem dX7_step_8 : decode cX7_step 8 = .ok (.getfield 1, 3) := by decide +kernel
theorem dX7_step_11 : decode cX7_step 11 = .ok (.getfield 53, 3) := by decide +kernel
theorem dX7_step_14 : decode cX7_step 14 = .ok (.iload_n 1, 1) := by decide +kernel
theorem dX7_step_15 : decode cX7_step 15 = .ok (.iaload, 1) := by decide +kernel
theorem dX7_step_16 : decode cX7_step 16 = .ok (.aaload, 1) := by decide +kernel
theorem dX7_step_17 : decode cX7_step 17 = .ok (.astore_n 3, 1) := by decide +kernel
theorem dX7_step_18 : decode cX7_step 18 = .ok (.aload_n 0, 1) := by decide +kernel
theorem dX7_step_19 : decode cX7_step 19 = .ok (.getfield 24, 3) := by decide +kernel
theorem dX7_step_22 : decode cX7_step 22 = .ok (.iload_n 1, 1) := by decide +kernel
theorem dX7_step_23 : decode cX7_step 23 = .ok (.aload_n 0, 1) := by decide +kernel
theorem dX7_step_24 : decode cX7_step 24 = .ok (.getfield 1, 3) := by decide +kernel
theorem dX7_step_27 : decode cX7_step 27 = .ok (.getfield 57, 3) := by decide +kernel
theorem dX7_step_30 : decode cX7_step 30 = .ok (.imul, 1) := by decide +kernel
theorem dX7_step_31 : decode cX7_step 31 = .ok (.aload_n 0, 1) := by decide +kernel
theorem dX7_step_32 : decode cX7_step 32 = .ok (.aload_n 3, 1) := by decide +kernel
theorem dX7_step_33 : decode cX7_step 33 = .ok (.getfield 61, 3) := by decide +kernel
theorem dX7_step_36 : decode cX7_step 36 = .ok (.iload_n 2, 1) := by decide +kernel
theorem dX7_step_37 : decode cX7_step 37 = .ok (.invokevirtual 66, 3) := by decide +kernel
theorem dX7_step_40 : decode cX7_step 40 = .ok (.iadd, 1) := by decide +kernel
theorem dX7_step_41 : decode cX7_step 41 = .ok (.invokevirtual 69, 3) := by decide +kernel
theorem dX7_step_44 : decode cX7_step 44 = .ok (.istore 4, 2) := by decide +kernel
theorem dX7_step_46 : decode cX7_step 46 = .ok (.aload_n 0, 1) := by decide +kernel
theorem dX7_step_47 : decode cX7_step 47 = .ok (.getfield 24, 3) := by decide +kernel
theorem dX7_step_50 : decode cX7_step 50 = .ok (.aload_n 0, 1) := by decide +kernel
theorem dX7_step_51 : decode cX7_step 51 = .ok (.aload_n 3, 1) := by decide +kernel
theorem dX7_step_52 : decode cX7_step 52 = .ok (.getfield 71, 3) := by decide +kernel
theorem dX7_step_55 : decode cX7_step 55 = .ok (.iload_n 2, 1) := by decide +kernel
theorem dX7_step_56 : decode cX7_step 56 = .ok (.invokevirtual 66, 3) := by decide +kernel
theorem dX7_step_59 : decode cX7_step 59 = .ok (.invokevirtual 74, 3) := by decide +kernel
theorem dX7_step_62 : decode cX7_step 62 = .ok (.istore 5, 2) := by decide +kernel
theorem dX7_step_64 : decode cX7_step 64 = .ok (.aload_n 0, 1) := by decide +kernel
theorem dX7_step_65 : decode cX7_step 65 = .ok (.aload_n 3, 1) := by decide +kernel
theorem dX7_step_66 : decode cX7_step 66 = .ok (.getfield 76, 3) := by decide +kernel
theorem dX7_step_69 : decode cX7_step 69 = .ok (.iload_n 2, 1) := by decide +kernel
theorem dX7_step_70 : decode cX7_step 70 = .ok (.invokevirtual 66, 3) := by decide +kernel
theorem dX7_step_73 : decode cX7_step 73 = .ok (.ifCond .ne 7, 3) := by decide +kernel
theorem dX7_step_76 : decode cX7_step 76 = .ok (.iconst 1, 1) := by decide +kernel
theorem dX7_step_77 : decode cX7_step 77 = .ok (.goto 4, 3) := by decide +kernel
theorem dX7_step_80 : decode cX7_step 80 = .ok (.iconst 0, 1) := by decide +kernel
theorem dX7_step_81 : decode cX7_step 81 = .ok (.istore 6, 2) := by decide +kernel
theorem dX7_step_83 : decode cX7_step 83 = .ok (.iload 6, 2) := by decide +kernel
theorem dX7_step_85 : decode cX7_step 85 = .ok (.ifCond .eq 39, 3) := by decide +kernel
theorem dX7_step_88 : decode cX7_step 88 = .ok (.aload_n 0, 1) := by decide +kernel
theorem dX7_step_89 : decode cX7_step 89 = .ok (.getfield 13, 3) := by decide +kernel
theorem dX7_step_92 : decode cX7_step 92 = .ok (.iload 4, 2) := by decide +kernel
theorem dX7_step_94 : decode cX7_step 94 = .ok (.iload 5, 2) := by decide +kernel
theorem dX7_step_96 : decode cX7_step 96 = .ok (.iload_n 1, 1) := by decide +kernel
theorem dX7_step_97 : decode cX7_step 97 = .ok (.iload_n 2, 1) := by decide +kernel
theorem dX7_step_98 : decode cX7_step 98 = .ok (.invokeinterface 79 5, 5) := by decide +kernel
theorem dX7_step_103 : decode cX7_step 103 = .ok (.aload_n 0, 1) := by decide +kernel
theorem dX7_step_104 : decode cX7_step 104 = .ok (.getfield 85, 3) := by decide +kernel
theorem dX7_step_107 : decode cX7_step 107 = .ok (.ifCond .eq 17, 3) := by decide +kernel
theorem dX7_step_110 : decode cX7_step 110 = .ok (.iload_n 2, 1) := by decide +kernel
theorem dX7_step_111 : decode cX7_step 111 = .ok (.ifCond .le 13, 3) := by decide +kernel
theorem dX7_step_114 : decode cX7_step 114 = .ok (.aload_n 0, 1) := by decide +kernel
theorem dX7_step_115 : decode cX7_step 115 = .ok (.iload 4, 2) := by decide +kernel
theorem dX7_step_117 : decode cX7_step 117 = .ok (.iload 5, 2) := by decide +kernel
theorem dX7_step_119 : decode cX7_step 119 = .ok (.iload_n 1, 1) := by decide +kernel
theorem dX7_step_120 : decode cX7_step 120 = .ok (.iload_n 2, 1) := by decide +kernel
theorem dX7_step_121 : decode cX7_step 121 = .ok (.invokevirtual 89, 3) := by decide +kernel
theorem dX7_step_124 : decode cX7_step 124 = .ok (.aload_n 0, 1) := by decide +kernel
theorem dX7_step_125 : decode cX7_step 125 = .ok (.iload 4, 2) := by decide +kernel
theorem dX7_step_127 : decode cX7_step 127 = .ok (.putfield 92, 3) := by decide +kernel
theorem dX7_step_130 : decode cX7_step 130 = .ok (.aload_n 0, 1) := by decide +kernel
theorem dX7_step_131 : decode cX7_step 131 = .ok (.iload 5, 2) := by decide +kernel
theorem dX7_step_133 : decode cX7_step 133 = .ok (.putfield 95, 3) := by decide +kernel
theorem dX7_step_136 : decode cX7_step 136 = .ok (.aload_n 0, 1) := by decide +kernel
theorem dX7_step_137 : decode cX7_step 137 = .ok (.iload 6, 2) := by decide +kernel
theorem dX7_step_139 : decode cX7_step 139 = .ok (.putfield 85, 3) := by decide +kernel
theorem dX7_step_142 : decode cX7_step 142 = .ok (.return_, 1) := by decide +kernel
abbrev cX7_read : ByteArray := prog_9_method_2_code
def yX7_read : MethodName := ⟨RX7, "read", "(II)I"⟩
theorem dX7_read_0 : decode cX7_read 0 = .ok (.aload_n 0, 1) := by decide +kernel
theorem dX7_read_1 : decode cX7_read 1 = .ok (.getfield 17, 3) := by decide +kernel
theorem dX7_read_4 : decode cX7_read 4 = .ok (.iload_n 1, 1) := by decide +kernel
theorem dX7_read_5 : decode cX7_read 5 = .ok (.aload_n 0, 1) := by decide +kernel
theorem dX7_read_6 : decode cX7_read 6 = .ok (.getfield 1, 3) := by decide +kernel
theorem dX7_read_9 : decode cX7_read 9 = .ok (.getfield 27, 3) := by decide +kernel
theorem dX7_read_12 : decode cX7_read 12 = .ok (.iload_n 1, 1) := by decide +kernel
theorem dX7_read_13 : decode cX7_read 13 = .ok (.aaload, 1) := by decide +kernel
theorem dX7_read_14 : decode cX7_read 14 = .ok (.iload_n 2, 1) := by decide +kernel
theorem dX7_read_15 : decode cX7_read 15 = .ok (.invokevirtual 33, 3) := by decide +kernel
theorem dX7_read_18 : decode cX7_read 18 = .ok (.invokevirtual 39, 3) := by decide +kernel
theorem dX7_read_21 : decode cX7_read 21 = .ok (.ireturn, 1) := by decide +kernel
abbrev cX7_line : ByteArray := prog_9_method_5_code
def yX7_line : MethodName := ⟨RX7, "line", "(IIII)V"⟩
theorem dX7_line_0 : decode cX7_line 0 = .ok (.iload_n 1, 1) := by decide +kernel
theorem dX7_line_1 : decode cX7_line 1 = .ok (.aload_n 0, 1) := by decide +kernel
theorem dX7_line_2 : decode cX7_line 2 = .ok (.getfield 92, 3) := by decide +kernel
theorem dX7_line_5 : decode cX7_line 5 = .ok (.isub, 1) := by decide +kernel
theorem dX7_line_6 : decode cX7_line 6 = .ok (.invokestatic 98, 3) := by decide +kernel
theorem dX7_line_9 : decode cX7_line 9 = .ok (.iload_n 2, 1) := by decide +kernel
theorem dX7_line_10 : decode cX7_line 10 = .ok (.aload_n 0, 1) := by decide +kernel
theorem dX7_line_11 : decode cX7_line 11 = .ok (.getfield 95, 3) := by decide +kernel
theorem dX7_line_14 : decode cX7_line 14 = .ok (.isub, 1) := by decide +kernel
theorem dX7_line_15 : decode cX7_line 15 = .ok (.invokestatic 98, 3) := by decide +kernel
theorem dX7_line_18 : decode cX7_line 18 = .ok (.invokestatic 103, 3) := by decide +kernel
theorem dX7_line_21 : decode cX7_line 21 = .ok (.istore 5, 2) := by decide +kernel
theorem dX7_line_23 : decode cX7_line 23 = .ok (.iconst 1, 1) := by decide +kernel
theorem dX7_line_24 : decode cX7_line 24 = .ok (.istore 6, 2) := by decide +kernel
theorem dX7_line_26 : decode cX7_line 26 = .ok (.iload 6, 2) := by decide +kernel
theorem dX7_line_28 : decode cX7_line 28 = .ok (.iload 5, 2) := by decide +kernel
theorem dX7_line_30 : decode cX7_line 30 = .ok (.if_icmp .ge 73, 3) := by decide +kernel
theorem dX7_line_33 : decode cX7_line 33 = .ok (.aload_n 0, 1) := by decide +kernel
theorem dX7_line_34 : decode cX7_line 34 = .ok (.getfield 13, 3) := by decide +kernel
theorem dX7_line_37 : decode cX7_line 37 = .ok (.aload_n 0, 1) := by decide +kernel
theorem dX7_line_38 : decode cX7_line 38 = .ok (.getfield 92, 3) := by decide +kernel
theorem dX7_line_41 : decode cX7_line 41 = .ok (.iconst 2, 1) := by decide +kernel
theorem dX7_line_42 : decode cX7_line 42 = .ok (.iload 6, 2) := by decide +kernel
theorem dX7_line_44 : decode cX7_line 44 = .ok (.imul, 1) := by decide +kernel
theorem dX7_line_45 : decode cX7_line 45 = .ok (.iload_n 1, 1) := by decide +kernel
theorem dX7_line_46 : decode cX7_line 46 = .ok (.aload_n 0, 1) := by decide +kernel
theorem dX7_line_47 : decode cX7_line 47 = .ok (.getfield 92, 3) := by decide +kernel
theorem dX7_line_50 : decode cX7_line 50 = .ok (.isub, 1) := by decide +kernel
theorem dX7_line_51 : decode cX7_line 51 = .ok (.imul, 1) := by decide +kernel
theorem dX7_line_52 : decode cX7_line 52 = .ok (.iload 5, 2) := by decide +kernel
theorem dX7_line_54 : decode cX7_line 54 = .ok (.iadd, 1) := by decide +kernel
theorem dX7_line_55 : decode cX7_line 55 = .ok (.iconst 2, 1) := by decide +kernel
theorem dX7_line_56 : decode cX7_line 56 = .ok (.iload 5, 2) := by decide +kernel
theorem dX7_line_58 : decode cX7_line 58 = .ok (.imul, 1) := by decide +kernel
theorem dX7_line_59 : decode cX7_line 59 = .ok (.invokestatic 106, 3) := by decide +kernel
theorem dX7_line_62 : decode cX7_line 62 = .ok (.iadd, 1) := by decide +kernel
theorem dX7_line_63 : decode cX7_line 63 = .ok (.aload_n 0, 1) := by decide +kernel
theorem dX7_line_64 : decode cX7_line 64 = .ok (.getfield 95, 3) := by decide +kernel
theorem dX7_line_67 : decode cX7_line 67 = .ok (.iconst 2, 1) := by decide +kernel
theorem dX7_line_68 : decode cX7_line 68 = .ok (.iload 6, 2) := by decide +kernel
theorem dX7_line_70 : decode cX7_line 70 = .ok (.imul, 1) := by decide +kernel
theorem dX7_line_71 : decode cX7_line 71 = .ok (.iload_n 2, 1) := by decide +kernel
theorem dX7_line_72 : decode cX7_line 72 = .ok (.aload_n 0, 1) := by decide +kernel
theorem dX7_line_73 : decode cX7_line 73 = .ok (.getfield 95, 3) := by decide +kernel
theorem dX7_line_76 : decode cX7_line 76 = .ok (.isub, 1) := by decide +kernel
theorem dX7_line_77 : decode cX7_line 77 = .ok (.imul, 1) := by decide +kernel
theorem dX7_line_78 : decode cX7_line 78 = .ok (.iload 5, 2) := by decide +kernel
theorem dX7_line_80 : decode cX7_line 80 = .ok (.iadd, 1) := by decide +kernel
theorem dX7_line_81 : decode cX7_line 81 = .ok (.iconst 2, 1) := by decide +kernel
theorem dX7_line_82 : decode cX7_line 82 = .ok (.iload 5, 2) := by decide +kernel
theorem dX7_line_84 : decode cX7_line 84 = .ok (.imul, 1) := by decide +kernel
theorem dX7_line_85 : decode cX7_line 85 = .ok (.invokestatic 106, 3) := by decide +kernel
theorem dX7_line_88 : decode cX7_line 88 = .ok (.iadd, 1) := by decide +kernel
theorem dX7_line_89 : decode cX7_line 89 = .ok (.iload_n 3, 1) := by decide +kernel
theorem dX7_line_90 : decode cX7_line 90 = .ok (.iload 4, 2) := by decide +kernel
theorem dX7_line_92 : decode cX7_line 92 = .ok (.invokeinterface 79 5, 5) := by decide +kernel
theorem dX7_line_97 : decode cX7_line 97 = .ok (.iinc 6 1, 3) := by decide +kernel
theorem dX7_line_100 : decode cX7_line 100 = .ok (.goto (-74), 3) := by decide +kernel
theorem dX7_line_103 : decode cX7_line 103 = .ok (.return_, 1) := by decide +kernel
abbrev cX7_all : ByteArray := prog_9_method_6_code
def yX7_all : MethodName := ⟨RX7, "all", "()V"⟩
theorem dX7_all_0 : decode cX7_all 0 = .ok (.iconst 0, 1) := by decide +kernel
theorem dX7_all_1 : decode cX7_all 1 = .ok (.istore_n 1, 1) := by decide +kernel
theorem dX7_all_2 : decode cX7_all 2 = .ok (.iload_n 1, 1) := by decide +kernel
theorem dX7_all_3 : decode cX7_all 3 = .ok (.aload_n 0, 1) := by decide +kernel
theorem dX7_all_4 : decode cX7_all 4 = .ok (.getfield 1, 3) := by decide +kernel
theorem dX7_all_7 : decode cX7_all 7 = .ok (.getfield 109, 3) := by decide +kernel
theorem dX7_all_10 : decode cX7_all 10 = .ok (.if_icmp .ge 42, 3) := by decide +kernel
theorem dX7_all_13 : decode cX7_all 13 = .ok (.iconst 0, 1) := by decide +kernel
theorem dX7_all_14 : decode cX7_all 14 = .ok (.istore_n 2, 1) := by decide +kernel
theorem dX7_all_15 : decode cX7_all 15 = .ok (.iload_n 2, 1) := by decide +kernel
theorem dX7_all_16 : decode cX7_all 16 = .ok (.aload_n 0, 1) := by decide +kernel
theorem dX7_all_17 : decode cX7_all 17 = .ok (.getfield 1, 3) := by decide +kernel
theorem dX7_all_20 : decode cX7_all 20 = .ok (.getfield 112, 3) := by decide +kernel
theorem dX7_all_23 : decode cX7_all 23 = .ok (.if_icmp .ge 23, 3) := by decide +kernel
theorem dX7_all_26 : decode cX7_all 26 = .ok (.aload_n 0, 1) := by decide +kernel
theorem dX7_all_27 : decode cX7_all 27 = .ok (.iload_n 1, 1) := by decide +kernel
theorem dX7_all_28 : decode cX7_all 28 = .ok (.invokevirtual 115, 3) := by decide +kernel
theorem dX7_all_31 : decode cX7_all 31 = .ok (.ifCond .eq 15, 3) := by decide +kernel
theorem dX7_all_34 : decode cX7_all 34 = .ok (.aload_n 0, 1) := by decide +kernel
theorem dX7_all_35 : decode cX7_all 35 = .ok (.iload_n 1, 1) := by decide +kernel
theorem dX7_all_36 : decode cX7_all 36 = .ok (.iload_n 2, 1) := by decide +kernel
theorem dX7_all_37 : decode cX7_all 37 = .ok (.invokevirtual 118, 3) := by decide +kernel
theorem dX7_all_40 : decode cX7_all 40 = .ok (.iinc 2 1, 3) := by decide +kernel
theorem dX7_all_43 : decode cX7_all 43 = .ok (.goto (-28), 3) := by decide +kernel
theorem dX7_all_46 : decode cX7_all 46 = .ok (.iinc 1 1, 3) := by decide +kernel
theorem dX7_all_49 : decode cX7_all 49 = .ok (.goto (-47), 3) := by decide +kernel
theorem dX7_all_52 : decode cX7_all 52 = .ok (.return_, 1) := by decide +kernel
theorem q51 : (Jvm.Cond.initialized "CamFigures$Pen") ∈ lw_all := lw_g (lw_at lw_m1 13 rfl) rfl
theorem q100 : (Jvm.Cond.fieldLinkNest "CamFigures$Pen" (61 : Nat) "CamFigures$Letter" "across" "I" "CamFigures") ∈ lw_tbl := lw_at lw_m1 62 rfl
theorem q102 : (Jvm.Cond.fieldLinkNest "CamFigures$Pen" (71 : Nat) "CamFigures$Letter" "up" "I" "CamFigures") ∈ lw_tbl := lw_at lw_m1 64 rfl
theorem q104 : (Jvm.Cond.fieldLinkNest "CamFigures$Pen" (76 : Nat) "CamFigures$Letter" "lift" "I" "CamFigures") ∈ lw_tbl := lw_at lw_m1 66 rfl
theorem q113 : (Jvm.Cond.fieldLinkNest "CamFigures$Pen" (27 : Nat) "CamFigures" "cams" "[LCamFigures$Cam;" "CamFigures") ∈ lw_tbl := lw_at lw_m1 75 rfl
theorem q115 : (Jvm.Cond.fieldLinkNest "CamFigures$Pen" (112 : Nat) "CamFigures" "length" "I" "CamFigures") ∈ lw_tbl := lw_at lw_m1 77 rfl
theorem q116 : (Jvm.Cond.fieldLinkNest "CamFigures$Pen" (49 : Nat) "CamFigures" "letters" "[LCamFigures$Letter;" "CamFigures") ∈ lw_tbl := lw_at lw_m1 78 rfl
theorem q118 : (Jvm.Cond.fieldLinkNest "CamFigures$Pen" (53 : Nat) "CamFigures" "pegs" "[I" "CamFigures") ∈ lw_tbl := lw_at lw_m1 80 rfl
theorem q121 : (Jvm.Cond.fieldLinkNest "CamFigures$Pen" (109 : Nat) "CamFigures" "pegMany" "I" "CamFigures") ∈ lw_tbl := lw_at lw_m1 83 rfl
theorem q122 : (Jvm.Cond.fieldLinkNest "CamFigures$Pen" (57 : Nat) "CamFigures" "advance" "I" "CamFigures") ∈ lw_tbl := lw_at lw_m1 84 rfl
theorem q397 : (Jvm.Cond.instantiable "CamFigures$Pen" (8 : Nat)) ∈ lw_all := lw_g (lw_at lw_m2 119 rfl) rfl
theorem q403 : (Jvm.Cond.instanceMethod ({ cls := "CamFigures$Pen", name := "<init>", desc := "(LCamFigures;LCamFigures$Marks;LCamFigures$Part;LCamFigures$Part;LCamFigures$Part;)V" } : Jvm.MethodName)) ∈ lw_all := lw_g (lw_at lw_m2 125 rfl) rfl
theorem q404 : (Jvm.Cond.code ({ cls := "CamFigures$Pen", name := "<init>", desc := "(LCamFigures;LCamFigures$Marks;LCamFigures$Part;LCamFigures$Part;LCamFigures$Part;)V" } : Jvm.MethodName) prog_9_method_1_code (6 : Nat) (Option.none : Option Jvm.ClassFile.FieldType)) ∈ lw_all := lw_g (lw_at lw_m2 126 rfl) rfl
theorem q405 : (Jvm.Cond.methodLink "CamFigures$Pen" (7 : Nat) ({ cls := "java/lang/Object", name := "<init>", desc := "()V" } : Jvm.MethodName)) ∈ lw_all := lw_g (lw_at lw_m2 127 rfl) rfl
theorem q406 : (Jvm.Cond.fieldLink "CamFigures$Pen" (13 : Nat) "CamFigures$Pen" "on" "LCamFigures$Marks;") ∈ lw_all := lw_g (lw_at lw_m2 128 rfl) rfl
theorem q407 : (Jvm.Cond.fieldLink "CamFigures$Pen" (17 : Nat) "CamFigures$Pen" "worn" "LCamFigures$Part;") ∈ lw_all := lw_g (lw_at lw_m2 129 rfl) rfl
theorem q408 : (Jvm.Cond.fieldLink "CamFigures$Pen" (21 : Nat) "CamFigures$Pen" "loose" "LCamFigures$Part;") ∈ lw_all := lw_g (lw_at lw_m2 130 rfl) rfl
theorem q409 : (Jvm.Cond.fieldLink "CamFigures$Pen" (24 : Nat) "CamFigures$Pen" "bent" "LCamFigures$Part;") ∈ lw_all := lw_g (lw_at lw_m2 131 rfl) rfl
theorem q410 : (Jvm.Cond.fieldLink "CamFigures$Pen" (92 : Nat) "CamFigures$Pen" "x" "I") ∈ lw_all := lw_g (lw_at lw_m2 132 rfl) rfl
theorem q411 : (Jvm.Cond.fieldLink "CamFigures$Pen" (95 : Nat) "CamFigures$Pen" "y" "I") ∈ lw_all := lw_g (lw_at lw_m2 133 rfl) rfl
theorem q412 : (Jvm.Cond.fieldLink "CamFigures$Pen" (85 : Nat) "CamFigures$Pen" "isDown" "Z") ∈ lw_all := lw_g (lw_at lw_m2 134 rfl) rfl
theorem q413 : (Jvm.Cond.fieldLink "CamFigures$Pen" (1 : Nat) "CamFigures$Pen" "this$0" "LCamFigures;") ∈ lw_all := lw_g (lw_at lw_m2 135 rfl) rfl
theorem q414 : (Jvm.Cond.laysFinal "CamFigures$Pen" "CamFigures$Pen" "on" "LCamFigures$Marks;") ∈ lw_all := lw_g (lw_at lw_m2 136 rfl) rfl
theorem q415 : (Jvm.Cond.soleField "CamFigures$Pen" "on") ∈ lw_all := lw_g (lw_at lw_m2 137 rfl) rfl
theorem q416 : (Jvm.Cond.laysFinal "CamFigures$Pen" "CamFigures$Pen" "worn" "LCamFigures$Part;") ∈ lw_all := lw_g (lw_at lw_m2 138 rfl) rfl
theorem q417 : (Jvm.Cond.soleField "CamFigures$Pen" "worn") ∈ lw_all := lw_g (lw_at lw_m2 139 rfl) rfl
theorem q418 : (Jvm.Cond.laysFinal "CamFigures$Pen" "CamFigures$Pen" "loose" "LCamFigures$Part;") ∈ lw_all := lw_g (lw_at lw_m2 140 rfl) rfl
theorem q419 : (Jvm.Cond.soleField "CamFigures$Pen" "loose") ∈ lw_all := lw_g (lw_at lw_m2 141 rfl) rfl
theorem q420 : (Jvm.Cond.laysFinal "CamFigures$Pen" "CamFigures$Pen" "bent" "LCamFigures$Part;") ∈ lw_all := lw_g (lw_at lw_m2 142 rfl) rfl
theorem q421 : (Jvm.Cond.soleField "CamFigures$Pen" "bent") ∈ lw_all := lw_g (lw_at lw_m2 143 rfl) rfl
theorem q422 : (Jvm.Cond.lays "CamFigures$Pen" "CamFigures$Pen" "x" "I") ∈ lw_all := lw_g (lw_at lw_m2 144 rfl) rfl
theorem q423 : (Jvm.Cond.soleField "CamFigures$Pen" "x") ∈ lw_all := lw_g (lw_at lw_m2 145 rfl) rfl
theorem q424 : (Jvm.Cond.lays "CamFigures$Pen" "CamFigures$Pen" "y" "I") ∈ lw_all := lw_g (lw_at lw_m2 146 rfl) rfl
theorem q425 : (Jvm.Cond.soleField "CamFigures$Pen" "y") ∈ lw_all := lw_g (lw_at lw_m2 147 rfl) rfl
theorem q426 : (Jvm.Cond.lays "CamFigures$Pen" "CamFigures$Pen" "isDown" "Z") ∈ lw_all := lw_g (lw_at lw_m2 148 rfl) rfl
theorem q427 : (Jvm.Cond.soleField "CamFigures$Pen" "isDown") ∈ lw_all := lw_g (lw_at lw_m2 149 rfl) rfl
theorem q428 : (Jvm.Cond.laysFinal "CamFigures$Pen" "CamFigures$Pen" "this$0" "LCamFigures;") ∈ lw_all := lw_g (lw_at lw_m2 150 rfl) rfl
theorem q429 : (Jvm.Cond.soleField "CamFigures$Pen" "this$0") ∈ lw_all := lw_g (lw_at lw_m2 151 rfl) rfl
theorem q430 : (Jvm.Cond.superclass "CamFigures$Pen" "java/lang/Object") ∈ lw_all := lw_g (lw_at lw_m2 152 rfl) rfl
theorem q432 : (Jvm.Cond.instanceMethod ({ cls := "CamFigures$Pen", name := "writes", desc := "(I)Z" } : Jvm.MethodName)) ∈ lw_all := lw_g (lw_at lw_m2 154 rfl) rfl
theorem q433 : (Jvm.Cond.selects "CamFigures$Pen" ({ cls := "CamFigures$Pen", name := "writes", desc := "(I)Z" } : Jvm.MethodName) ({ cls := "CamFigures$Pen", name := "writes", desc := "(I)Z" } : Jvm.MethodName)) ∈ lw_all := lw_g (lw_at lw_m2 155 rfl) rfl
theorem q434 : (Jvm.Cond.code ({ cls := "CamFigures$Pen", name := "writes", desc := "(I)Z" } : Jvm.MethodName) prog_9_method_3_code (2 : Nat) (Option.some Jvm.ClassFile.FieldType.boolean)) ∈ lw_all := lw_g (lw_at lw_m2 156 rfl) rfl
theorem q435 : (Jvm.Cond.methodLink "CamFigures$Pen" (45 : Nat) ({ cls := "CamFigures$Part", name := "isWritten", desc := "(I)Z" } : Jvm.MethodName)) ∈ lw_all := lw_g (lw_at lw_m2 157 rfl) rfl
theorem q452 : (Jvm.Cond.instanceMethod ({ cls := "CamFigures$Pen", name := "step", desc := "(II)V" } : Jvm.MethodName)) ∈ lw_all := lw_g (lw_at lw_m2 174 rfl) rfl
theorem q453 : (Jvm.Cond.selects "CamFigures$Pen" ({ cls := "CamFigures$Pen", name := "step", desc := "(II)V" } : Jvm.MethodName) ({ cls := "CamFigures$Pen", name := "step", desc := "(II)V" } : Jvm.MethodName)) ∈ lw_all := lw_g (lw_at lw_m2 175 rfl) rfl
theorem q454 : (Jvm.Cond.code ({ cls := "CamFigures$Pen", name := "step", desc := "(II)V" } : Jvm.MethodName) prog_9_method_4_code (7 : Nat) (Option.none : Option Jvm.ClassFile.FieldType)) ∈ lw_all := lw_g (lw_at lw_m2 176 rfl) rfl
theorem q455 : (Jvm.Cond.methodLink "CamFigures$Pen" (66 : Nat) ({ cls := "CamFigures$Pen", name := "read", desc := "(II)I" } : Jvm.MethodName)) ∈ lw_all := lw_g (lw_at lw_m2 177 rfl) rfl
theorem q456 : (Jvm.Cond.privateMethod ({ cls := "CamFigures$Pen", name := "read", desc := "(II)I" } : Jvm.MethodName)) ∈ lw_tbl := lw_at lw_m2 178 rfl
theorem q457 : (Jvm.Cond.instanceMethod ({ cls := "CamFigures$Pen", name := "read", desc := "(II)I" } : Jvm.MethodName)) ∈ lw_all := lw_g (lw_at lw_m2 179 rfl) rfl
theorem q458 : (Jvm.Cond.code ({ cls := "CamFigures$Pen", name := "read", desc := "(II)I" } : Jvm.MethodName) prog_9_method_2_code (3 : Nat) (Option.some Jvm.ClassFile.FieldType.int)) ∈ lw_all := lw_g (lw_at lw_m2 180 rfl) rfl
theorem q459 : (Jvm.Cond.methodLink "CamFigures$Pen" (33 : Nat) ({ cls := "CamFigures$Cam", name := "at", desc := "(I)I" } : Jvm.MethodName)) ∈ lw_all := lw_g (lw_at lw_m2 181 rfl) rfl
theorem q460 : (Jvm.Cond.methodLink "CamFigures$Pen" (39 : Nat) ({ cls := "CamFigures$Part", name := "height", desc := "(II)I" } : Jvm.MethodName)) ∈ lw_all := lw_g (lw_at lw_m2 182 rfl) rfl
theorem q472 : (Jvm.Cond.methodLink "CamFigures$Pen" (69 : Nat) ({ cls := "CamFigures$Part", name := "across", desc := "(I)I" } : Jvm.MethodName)) ∈ lw_all := lw_g (lw_at lw_m2 194 rfl) rfl
theorem q482 : (Jvm.Cond.methodLink "CamFigures$Pen" (74 : Nat) ({ cls := "CamFigures$Part", name := "up", desc := "(I)I" } : Jvm.MethodName)) ∈ lw_all := lw_g (lw_at lw_m2 204 rfl) rfl
theorem q493 : (Jvm.Cond.interfaceEntry "CamFigures$Pen" (79 : Nat)) ∈ lw_tbl := lw_at lw_m2 215 rfl
theorem q494 : (Jvm.Cond.methodLink "CamFigures$Pen" (79 : Nat) ({ cls := "CamFigures$Marks", name := "mark", desc := "(IIII)V" } : Jvm.MethodName)) ∈ lw_all := lw_g (lw_at lw_m2 216 rfl) rfl
theorem q503 : (Jvm.Cond.methodLink "CamFigures$Pen" (89 : Nat) ({ cls := "CamFigures$Pen", name := "line", desc := "(IIII)V" } : Jvm.MethodName)) ∈ lw_all := lw_g (lw_at lw_m2 225 rfl) rfl
theorem q504 : (Jvm.Cond.privateMethod ({ cls := "CamFigures$Pen", name := "line", desc := "(IIII)V" } : Jvm.MethodName)) ∈ lw_tbl := lw_at lw_m2 226 rfl
theorem q505 : (Jvm.Cond.instanceMethod ({ cls := "CamFigures$Pen", name := "line", desc := "(IIII)V" } : Jvm.MethodName)) ∈ lw_all := lw_g (lw_at lw_m2 227 rfl) rfl
theorem q506 : (Jvm.Cond.code ({ cls := "CamFigures$Pen", name := "line", desc := "(IIII)V" } : Jvm.MethodName) prog_9_method_5_code (7 : Nat) (Option.none : Option Jvm.ClassFile.FieldType)) ∈ lw_all := lw_g (lw_at lw_m2 228 rfl) rfl
theorem q507 : (Jvm.Cond.methodLink "CamFigures$Pen" (98 : Nat) ({ cls := "java/lang/Math", name := "abs", desc := "(I)I" } : Jvm.MethodName)) ∈ lw_all := lw_g (lw_at lw_m2 229 rfl) rfl
theorem q508 : (Jvm.Cond.methodLink "CamFigures$Pen" (103 : Nat) ({ cls := "java/lang/Math", name := "max", desc := "(II)I" } : Jvm.MethodName)) ∈ lw_all := lw_g (lw_at lw_m2 230 rfl) rfl
theorem q509 : (Jvm.Cond.methodLink "CamFigures$Pen" (106 : Nat) ({ cls := "java/lang/Math", name := "floorDiv", desc := "(II)I" } : Jvm.MethodName)) ∈ lw_all := lw_g (lw_at lw_m2 231 rfl) rfl
theorem q584 : (Jvm.Cond.instanceMethod ({ cls := "CamFigures$Pen", name := "all", desc := "()V" } : Jvm.MethodName)) ∈ lw_all := lw_g (lw_at lw_m3 66 rfl) rfl
theorem q585 : (Jvm.Cond.selects "CamFigures$Pen" ({ cls := "CamFigures$Pen", name := "all", desc := "()V" } : Jvm.MethodName) ({ cls := "CamFigures$Pen", name := "all", desc := "()V" } : Jvm.MethodName)) ∈ lw_all := lw_g (lw_at lw_m3 67 rfl) rfl
theorem q586 : (Jvm.Cond.code ({ cls := "CamFigures$Pen", name := "all", desc := "()V" } : Jvm.MethodName) prog_9_method_6_code (3 : Nat) (Option.none : Option Jvm.ClassFile.FieldType)) ∈ lw_all := lw_g (lw_at lw_m3 68 rfl) rfl
theorem q587 : (Jvm.Cond.methodLink "CamFigures$Pen" (115 : Nat) ({ cls := "CamFigures$Pen", name := "writes", desc := "(I)Z" } : Jvm.MethodName)) ∈ lw_all := lw_g (lw_at lw_m3 69 rfl) rfl
theorem q588 : (Jvm.Cond.methodLink "CamFigures$Pen" (118 : Nat) ({ cls := "CamFigures$Pen", name := "step", desc := "(II)V" } : Jvm.MethodName)) ∈ lw_all := lw_g (lw_at lw_m3 70 rfl) rfl
theorem in_X7 : ∀ w ∈ wsX70, w ∈ lw_all := lw_in wsX70 [414, 416, 418, 420, 422, 424, 426, 428] (by decide +kernel) (by decide +kernel)
/-! CamFigures$Worn -/
set_option maxRecDepth 100000
def RX8 : String := "CamFigures$Worn"
def TX8 : u_T := fun k => match k with
  | _ => ("CamFigures$Worn", "cam", "I", true)
def tyX8 : Nat → FieldType := fun k => match k with
  | _ => .int
abbrev wsX80 : List Cond := u_ws RX8 TX8 1
theorem nmX8 : ∀ a, a < 1 → ∀ b, b < 1 → a ≠ b → (TX8 a).2.1 ≠ (TX8 b).2.1 := by decide +kernel
theorem tyX8_ok : ∀ k, k < 1 → parseFieldDescriptor (TX8 k).2.2.1 = some (tyX8 k) := by decide +kernel
abbrev cX8_height : ByteArray := prog_11_method_2_code
def yX8_height : MethodName := ⟨RX8, "height", "(II)I"⟩
theorem dX8_height_0 : decode cX8_height 0 = .ok (.iload_n 1, 1) := by decide +kernel
theorem dX8_height_1 : decode cX8_height 1 = .ok (.aload_n 0, 1) := by decide +kernel
theorem dX8_height_2 : decode cX8_height 2 = .ok (.getfield 7, 3) := by decide +kernel
theorem dX8_height_5 : decode cX8_height 5 = .ok (.if_icmp .ne 18, 3) := by decide +kernel
theorem dX8_height_8 : decode cX8_height 8 = .ok (.iload_n 2, 1) := by decide +kernel
theorem dX8_height_9 : decode cX8_height 9 = .ok (.ifCond .le 14, 3) := by decide +kernel
theorem dX8_height_12 : decode cX8_height 12 = .ok (.aload_n 0, 1) := by decide +kernel
theorem dX8_height_13 : decode cX8_height 13 = .ok (.iload_n 1, 1) := by decide +kernel
theorem dX8_height_14 : decode cX8_height 14 = .ok (.iload_n 2, 1) := by decide +kernel
theorem dX8_height_15 : decode cX8_height 15 = .ok (.invokespecial 13, 3) := by decide +kernel
theorem dX8_height_18 : decode cX8_height 18 = .ok (.iconst 1, 1) := by decide +kernel
theorem dX8_height_19 : decode cX8_height 19 = .ok (.isub, 1) := by decide +kernel
theorem dX8_height_20 : decode cX8_height 20 = .ok (.goto 9, 3) := by decide +kernel
theorem dX8_height_23 : decode cX8_height 23 = .ok (.aload_n 0, 1) := by decide +kernel
theorem dX8_height_24 : decode cX8_height 24 = .ok (.iload_n 1, 1) := by decide +kernel
theorem dX8_height_25 : decode cX8_height 25 = .ok (.iload_n 2, 1) := by decide +kernel
theorem dX8_height_26 : decode cX8_height 26 = .ok (.invokespecial 13, 3) := by decide +kernel
theorem dX8_height_29 : decode cX8_height 29 = .ok (.ireturn, 1) := by decide +kernel
abbrev cX8_init : ByteArray := prog_11_method_1_code
def yX8_init : MethodName := ⟨RX8, "<init>", "(I)V"⟩
theorem dX8_init_0 : decode cX8_init 0 = .ok (.aload_n 0, 1) := by decide +kernel
theorem dX8_init_1 : decode cX8_init 1 = .ok (.invokespecial 1, 3) := by decide +kernel
theorem dX8_init_4 : decode cX8_init 4 = .ok (.aload_n 0, 1) := by decide +kernel
theorem dX8_init_5 : decode cX8_init 5 = .ok (.iload_n 1, 1) := by decide +kernel
theorem dX8_init_6 : decode cX8_init 6 = .ok (.putfield 7, 3) := by decide +kernel
theorem dX8_init_9 : decode cX8_init 9 = .ok (.return_, 1) := by decide +kernel
theorem q52 : (Jvm.Cond.initialized "CamFigures$Worn") ∈ lw_all := lw_g (lw_at lw_m1 14 rfl) rfl
theorem q445 : (Jvm.Cond.selects "CamFigures$Worn" ({ cls := "CamFigures$Part", name := "isWritten", desc := "(I)Z" } : Jvm.MethodName) ({ cls := "CamFigures$Part", name := "isWritten", desc := "(I)Z" } : Jvm.MethodName)) ∈ lw_all := lw_g (lw_at lw_m2 167 rfl) rfl
theorem q466 : (Jvm.Cond.selects "CamFigures$Worn" ({ cls := "CamFigures$Part", name := "height", desc := "(II)I" } : Jvm.MethodName) ({ cls := "CamFigures$Worn", name := "height", desc := "(II)I" } : Jvm.MethodName)) ∈ lw_all := lw_g (lw_at lw_m2 188 rfl) rfl
theorem q467 : (Jvm.Cond.instanceMethod ({ cls := "CamFigures$Worn", name := "height", desc := "(II)I" } : Jvm.MethodName)) ∈ lw_all := lw_g (lw_at lw_m2 189 rfl) rfl
theorem q468 : (Jvm.Cond.code ({ cls := "CamFigures$Worn", name := "height", desc := "(II)I" } : Jvm.MethodName) prog_11_method_2_code (3 : Nat) (Option.some Jvm.ClassFile.FieldType.int)) ∈ lw_all := lw_g (lw_at lw_m2 190 rfl) rfl
theorem q469 : (Jvm.Cond.methodLink "CamFigures$Worn" (13 : Nat) ({ cls := "CamFigures$Part", name := "height", desc := "(II)I" } : Jvm.MethodName)) ∈ lw_all := lw_g (lw_at lw_m2 191 rfl) rfl
theorem q470 : (Jvm.Cond.superclass "CamFigures$Worn" "CamFigures$Part") ∈ lw_all := lw_g (lw_at lw_m2 192 rfl) rfl
theorem q480 : (Jvm.Cond.selects "CamFigures$Worn" ({ cls := "CamFigures$Part", name := "across", desc := "(I)I" } : Jvm.MethodName) ({ cls := "CamFigures$Part", name := "across", desc := "(I)I" } : Jvm.MethodName)) ∈ lw_all := lw_g (lw_at lw_m2 202 rfl) rfl
theorem q491 : (Jvm.Cond.selects "CamFigures$Worn" ({ cls := "CamFigures$Part", name := "up", desc := "(I)I" } : Jvm.MethodName) ({ cls := "CamFigures$Part", name := "up", desc := "(I)I" } : Jvm.MethodName)) ∈ lw_all := lw_g (lw_at lw_m2 213 rfl) rfl
theorem q536 : (Jvm.Cond.instantiable "CamFigures$Worn" (1 : Nat)) ∈ lw_all := lw_g (lw_at lw_m3 18 rfl) rfl
theorem q538 : (Jvm.Cond.instanceMethod ({ cls := "CamFigures$Worn", name := "<init>", desc := "(I)V" } : Jvm.MethodName)) ∈ lw_all := lw_g (lw_at lw_m3 20 rfl) rfl
theorem q539 : (Jvm.Cond.code ({ cls := "CamFigures$Worn", name := "<init>", desc := "(I)V" } : Jvm.MethodName) prog_11_method_1_code (2 : Nat) (Option.none : Option Jvm.ClassFile.FieldType)) ∈ lw_all := lw_g (lw_at lw_m3 21 rfl) rfl
theorem q540 : (Jvm.Cond.methodLinkNest "CamFigures$Worn" (1 : Nat) ({ cls := "CamFigures$Part", name := "<init>", desc := "()V" } : Jvm.MethodName) "CamFigures") ∈ lw_tbl := lw_at lw_m3 22 rfl
theorem q541 : (Jvm.Cond.fieldLink "CamFigures$Worn" (7 : Nat) "CamFigures$Worn" "cam" "I") ∈ lw_all := lw_g (lw_at lw_m3 23 rfl) rfl
theorem q542 : (Jvm.Cond.laysFinal "CamFigures$Worn" "CamFigures$Worn" "cam" "I") ∈ lw_all := lw_g (lw_at lw_m3 24 rfl) rfl
theorem q543 : (Jvm.Cond.soleField "CamFigures$Worn" "cam") ∈ lw_all := lw_g (lw_at lw_m3 25 rfl) rfl
theorem q934 : (Jvm.Cond.castable "CamFigures$Worn" "CamFigures$Part") ∈ lw_tbl := lw_at lw_m4 176 rfl
theorem in_X8 : ∀ w ∈ wsX80, w ∈ lw_all := lw_in wsX80 [542] (by decide +kernel) (by decide +kernel)
/-! CamFigures$Loose -/
set_option maxRecDepth 100000
def RX9 : String := "CamFigures$Loose"
def TX9 : u_T := fun k => match k with
  | _ => ("CamFigures$Loose", "peg", "I", true)
def tyX9 : Nat → FieldType := fun k => match k with
  | _ => .int
abbrev wsX90 : List Cond := u_ws RX9 TX9 1
theorem nmX9 : ∀ a, a < 1 → ∀ b, b < 1 → a ≠ b → (TX9 a).2.1 ≠ (TX9 b).2.1 := by decide +kernel
theorem tyX9_ok : ∀ k, k < 1 → parseFieldDescriptor (TX9 k).2.2.1 = some (tyX9 k) := by decide +kernel
abbrev cX9_isWritten : ByteArray := prog_5_method_2_code
def yX9_isWritten : MethodName := ⟨RX9, "isWritten", "(I)Z"⟩
theorem dX9_isWritten_0 : decode cX9_isWritten 0 = .ok (.aload_n 0, 1) := by decide +kernel
theorem dX9_isWritten_1 : decode cX9_isWritten 1 = .ok (.iload_n 1, 1) := by decide +kernel
theorem dX9_isWritten_2 : decode cX9_isWritten 2 = .ok (.invokespecial 13, 3) := by decide +kernel
theorem dX9_isWritten_5 : decode cX9_isWritten 5 = .ok (.ifCond .eq 15, 3) := by decide +kernel
theorem dX9_isWritten_8 : decode cX9_isWritten 8 = .ok (.iload_n 1, 1) := by decide +kernel
theorem dX9_isWritten_9 : decode cX9_isWritten 9 = .ok (.aload_n 0, 1) := by decide +kernel
theorem dX9_isWritten_10 : decode cX9_isWritten 10 = .ok (.getfield 7, 3) := by decide +kernel
theorem dX9_isWritten_13 : decode cX9_isWritten 13 = .ok (.if_icmp .eq 7, 3) := by decide +kernel
theorem dX9_isWritten_16 : decode cX9_isWritten 16 = .ok (.iconst 1, 1) := by decide +kernel
theorem dX9_isWritten_17 : decode cX9_isWritten 17 = .ok (.goto 4, 3) := by decide +kernel
theorem dX9_isWritten_20 : decode cX9_isWritten 20 = .ok (.iconst 0, 1) := by decide +kernel
theorem dX9_isWritten_21 : decode cX9_isWritten 21 = .ok (.ireturn, 1) := by decide +kernel
abbrev cX9_init : ByteArray := prog_5_method_1_code
def yX9_init : MethodName := ⟨RX9, "<init>", "(I)V"⟩
theorem dX9_init_0 : decode cX9_init 0 = .ok (.aload_n 0, 1) := by decide +kernel
theorem dX9_init_1 : decode cX9_init 1 = .ok (.invokespecial 1, 3) := by decide +kernel
theorem dX9_init_4 : decode cX9_init 4 = .ok (.aload_n 0, 1) := by decide +kernel
theorem dX9_init_5 : decode cX9_init 5 = .ok (.iload_n 1, 1) := by decide +kernel
theorem dX9_init_6 : decode cX9_init 6 = .ok (.putfield 7, 3) := by decide +kernel
theorem dX9_init_9 : decode cX9_init 9 = .ok (.return_, 1) := by decide +kernel
theorem q53 : (Jvm.Cond.initialized "CamFigures$Loose") ∈ lw_all := lw_g (lw_at lw_m1 15 rfl) rfl
theorem q440 : (Jvm.Cond.selects "CamFigures$Loose" ({ cls := "CamFigures$Part", name := "isWritten", desc := "(I)Z" } : Jvm.MethodName) ({ cls := "CamFigures$Loose", name := "isWritten", desc := "(I)Z" } : Jvm.MethodName)) ∈ lw_all := lw_g (lw_at lw_m2 162 rfl) rfl
theorem q441 : (Jvm.Cond.instanceMethod ({ cls := "CamFigures$Loose", name := "isWritten", desc := "(I)Z" } : Jvm.MethodName)) ∈ lw_all := lw_g (lw_at lw_m2 163 rfl) rfl
theorem q442 : (Jvm.Cond.code ({ cls := "CamFigures$Loose", name := "isWritten", desc := "(I)Z" } : Jvm.MethodName) prog_5_method_2_code (2 : Nat) (Option.some Jvm.ClassFile.FieldType.boolean)) ∈ lw_all := lw_g (lw_at lw_m2 164 rfl) rfl
theorem q443 : (Jvm.Cond.methodLink "CamFigures$Loose" (13 : Nat) ({ cls := "CamFigures$Part", name := "isWritten", desc := "(I)Z" } : Jvm.MethodName)) ∈ lw_all := lw_g (lw_at lw_m2 165 rfl) rfl
theorem q444 : (Jvm.Cond.superclass "CamFigures$Loose" "CamFigures$Part") ∈ lw_all := lw_g (lw_at lw_m2 166 rfl) rfl
theorem q465 : (Jvm.Cond.selects "CamFigures$Loose" ({ cls := "CamFigures$Part", name := "height", desc := "(II)I" } : Jvm.MethodName) ({ cls := "CamFigures$Part", name := "height", desc := "(II)I" } : Jvm.MethodName)) ∈ lw_all := lw_g (lw_at lw_m2 187 rfl) rfl
theorem q479 : (Jvm.Cond.selects "CamFigures$Loose" ({ cls := "CamFigures$Part", name := "across", desc := "(I)I" } : Jvm.MethodName) ({ cls := "CamFigures$Part", name := "across", desc := "(I)I" } : Jvm.MethodName)) ∈ lw_all := lw_g (lw_at lw_m2 201 rfl) rfl
theorem q490 : (Jvm.Cond.selects "CamFigures$Loose" ({ cls := "CamFigures$Part", name := "up", desc := "(I)I" } : Jvm.MethodName) ({ cls := "CamFigures$Part", name := "up", desc := "(I)I" } : Jvm.MethodName)) ∈ lw_all := lw_g (lw_at lw_m2 212 rfl) rfl
theorem q545 : (Jvm.Cond.instantiable "CamFigures$Loose" (1 : Nat)) ∈ lw_all := lw_g (lw_at lw_m3 27 rfl) rfl
theorem q547 : (Jvm.Cond.instanceMethod ({ cls := "CamFigures$Loose", name := "<init>", desc := "(I)V" } : Jvm.MethodName)) ∈ lw_all := lw_g (lw_at lw_m3 29 rfl) rfl
theorem q548 : (Jvm.Cond.code ({ cls := "CamFigures$Loose", name := "<init>", desc := "(I)V" } : Jvm.MethodName) prog_5_method_1_code (2 : Nat) (Option.none : Option Jvm.ClassFile.FieldType)) ∈ lw_all := lw_g (lw_at lw_m3 30 rfl) rfl
theorem q549 : (Jvm.Cond.methodLinkNest "CamFigures$Loose" (1 : Nat) ({ cls := "CamFigures$Part", name := "<init>", desc := "()V" } : Jvm.MethodName) "CamFigures") ∈ lw_tbl := lw_at lw_m3 31 rfl
theorem q550 : (Jvm.Cond.fieldLink "CamFigures$Loose" (7 : Nat) "CamFigures$Loose" "peg" "I") ∈ lw_all := lw_g (lw_at lw_m3 32 rfl) rfl
theorem q551 : (Jvm.Cond.laysFinal "CamFigures$Loose" "CamFigures$Loose" "peg" "I") ∈ lw_all := lw_g (lw_at lw_m3 33 rfl) rfl
theorem q552 : (Jvm.Cond.soleField "CamFigures$Loose" "peg") ∈ lw_all := lw_g (lw_at lw_m3 34 rfl) rfl
theorem q935 : (Jvm.Cond.castable "CamFigures$Loose" "CamFigures$Part") ∈ lw_tbl := lw_at lw_m4 177 rfl
theorem in_X9 : ∀ w ∈ wsX90, w ∈ lw_all := lw_in wsX90 [551] (by decide +kernel) (by decide +kernel)
/-! CamFigures$Bent -/
set_option maxRecDepth 100000
def RX10 : String := "CamFigures$Bent"
def TX10 : u_T := fun k => match k with
  | _ => ("CamFigures$Bent", "way", "I", true)
def tyX10 : Nat → FieldType := fun k => match k with
  | _ => .int
abbrev wsX100 : List Cond := u_ws RX10 TX10 1
theorem nmX10 : ∀ a, a < 1 → ∀ b, b < 1 → a ≠ b → (TX10 a).2.1 ≠ (TX10 b).2.1 := by decide +kernel
theorem tyX10_ok : ∀ k, k < 1 → parseFieldDescriptor (TX10 k).2.2.1 = some (tyX10 k) := by decide +kernel
abbrev cX10_across : ByteArray := prog_2_method_2_code
def yX10_across : MethodName := ⟨RX10, "across", "(I)I"⟩
theorem dX10_across_0 : decode cX10_across 0 = .ok (.aload_n 0, 1) := by decide +kernel
theorem dX10_across_1 : decode cX10_across 1 = .ok (.getfield 9, 3) := by decide +kernel
theorem dX10_across_4 : decode cX10_across 4 = .ok (.ifCond .ne 9, 3) := by decide +kernel
theorem dX10_across_7 : decode cX10_across 7 = .ok (.iload_n 1, 1) := by decide +kernel
theorem dX10_across_8 : decode cX10_across 8 = .ok (.iconst 1, 1) := by decide +kernel
theorem dX10_across_9 : decode cX10_across 9 = .ok (.iadd, 1) := by decide +kernel
theorem dX10_across_10 : decode cX10_across 10 = .ok (.goto 4, 3) := by decide +kernel
theorem dX10_across_13 : decode cX10_across 13 = .ok (.iload_n 1, 1) := by decide +kernel
theorem dX10_across_14 : decode cX10_across 14 = .ok (.ireturn, 1) := by decide +kernel
abbrev cX10_up : ByteArray := prog_2_method_3_code
def yX10_up : MethodName := ⟨RX10, "up", "(I)I"⟩
theorem dX10_up_0 : decode cX10_up 0 = .ok (.aload_n 0, 1) := by decide +kernel
theorem dX10_up_1 : decode cX10_up 1 = .ok (.getfield 9, 3) := by decide +kernel
theorem dX10_up_4 : decode cX10_up 4 = .ok (.iconst 1, 1) := by decide +kernel
theorem dX10_up_5 : decode cX10_up 5 = .ok (.if_icmp .ne 14, 3) := by decide +kernel
theorem dX10_up_8 : decode cX10_up 8 = .ok (.bipush 9, 2) := by decide +kernel
theorem dX10_up_10 : decode cX10_up 10 = .ok (.iload_n 1, 1) := by decide +kernel
theorem dX10_up_11 : decode cX10_up 11 = .ok (.iconst 1, 1) := by decide +kernel
theorem dX10_up_12 : decode cX10_up 12 = .ok (.iadd, 1) := by decide +kernel
theorem dX10_up_13 : decode cX10_up 13 = .ok (.invokestatic 15, 3) := by decide +kernel
theorem dX10_up_16 : decode cX10_up 16 = .ok (.goto 4, 3) := by decide +kernel
theorem dX10_up_19 : decode cX10_up 19 = .ok (.iload_n 1, 1) := by decide +kernel
theorem dX10_up_20 : decode cX10_up 20 = .ok (.ireturn, 1) := by decide +kernel
abbrev cX10_init : ByteArray := prog_2_method_1_code
def yX10_init : MethodName := ⟨RX10, "<init>", "(I)V"⟩
theorem dX10_init_0 : decode cX10_init 0 = .ok (.aload_n 0, 1) := by decide +kernel
theorem dX10_init_1 : decode cX10_init 1 = .ok (.invokespecial 3, 3) := by decide +kernel
theorem dX10_init_4 : decode cX10_init 4 = .ok (.aload_n 0, 1) := by decide +kernel
theorem dX10_init_5 : decode cX10_init 5 = .ok (.iload_n 1, 1) := by decide +kernel
theorem dX10_init_6 : decode cX10_init 6 = .ok (.putfield 9, 3) := by decide +kernel
theorem dX10_init_9 : decode cX10_init 9 = .ok (.return_, 1) := by decide +kernel
theorem q54 : (Jvm.Cond.initialized "CamFigures$Bent") ∈ lw_all := lw_g (lw_at lw_m1 16 rfl) rfl
theorem q439 : (Jvm.Cond.selects "CamFigures$Bent" ({ cls := "CamFigures$Part", name := "isWritten", desc := "(I)Z" } : Jvm.MethodName) ({ cls := "CamFigures$Part", name := "isWritten", desc := "(I)Z" } : Jvm.MethodName)) ∈ lw_all := lw_g (lw_at lw_m2 161 rfl) rfl
theorem q464 : (Jvm.Cond.selects "CamFigures$Bent" ({ cls := "CamFigures$Part", name := "height", desc := "(II)I" } : Jvm.MethodName) ({ cls := "CamFigures$Part", name := "height", desc := "(II)I" } : Jvm.MethodName)) ∈ lw_all := lw_g (lw_at lw_m2 186 rfl) rfl
theorem q476 : (Jvm.Cond.selects "CamFigures$Bent" ({ cls := "CamFigures$Part", name := "across", desc := "(I)I" } : Jvm.MethodName) ({ cls := "CamFigures$Bent", name := "across", desc := "(I)I" } : Jvm.MethodName)) ∈ lw_all := lw_g (lw_at lw_m2 198 rfl) rfl
theorem q477 : (Jvm.Cond.instanceMethod ({ cls := "CamFigures$Bent", name := "across", desc := "(I)I" } : Jvm.MethodName)) ∈ lw_all := lw_g (lw_at lw_m2 199 rfl) rfl
theorem q478 : (Jvm.Cond.code ({ cls := "CamFigures$Bent", name := "across", desc := "(I)I" } : Jvm.MethodName) prog_2_method_2_code (2 : Nat) (Option.some Jvm.ClassFile.FieldType.int)) ∈ lw_all := lw_g (lw_at lw_m2 200 rfl) rfl
theorem q486 : (Jvm.Cond.selects "CamFigures$Bent" ({ cls := "CamFigures$Part", name := "up", desc := "(I)I" } : Jvm.MethodName) ({ cls := "CamFigures$Bent", name := "up", desc := "(I)I" } : Jvm.MethodName)) ∈ lw_all := lw_g (lw_at lw_m2 208 rfl) rfl
theorem q487 : (Jvm.Cond.instanceMethod ({ cls := "CamFigures$Bent", name := "up", desc := "(I)I" } : Jvm.MethodName)) ∈ lw_all := lw_g (lw_at lw_m2 209 rfl) rfl
theorem q488 : (Jvm.Cond.code ({ cls := "CamFigures$Bent", name := "up", desc := "(I)I" } : Jvm.MethodName) prog_2_method_3_code (2 : Nat) (Option.some Jvm.ClassFile.FieldType.int)) ∈ lw_all := lw_g (lw_at lw_m2 210 rfl) rfl
theorem q489 : (Jvm.Cond.methodLink "CamFigures$Bent" (15 : Nat) ({ cls := "java/lang/Math", name := "min", desc := "(II)I" } : Jvm.MethodName)) ∈ lw_all := lw_g (lw_at lw_m2 211 rfl) rfl
theorem q554 : (Jvm.Cond.instantiable "CamFigures$Bent" (1 : Nat)) ∈ lw_all := lw_g (lw_at lw_m3 36 rfl) rfl
theorem q556 : (Jvm.Cond.instanceMethod ({ cls := "CamFigures$Bent", name := "<init>", desc := "(I)V" } : Jvm.MethodName)) ∈ lw_all := lw_g (lw_at lw_m3 38 rfl) rfl
theorem q557 : (Jvm.Cond.code ({ cls := "CamFigures$Bent", name := "<init>", desc := "(I)V" } : Jvm.MethodName) prog_2_method_1_code (2 : Nat) (Option.none : Option Jvm.ClassFile.FieldType)) ∈ lw_all := lw_g (lw_at lw_m3 39 rfl) rfl
theorem q558 : (Jvm.Cond.methodLinkNest "CamFigures$Bent" (3 : Nat) ({ cls := "CamFigures$Part", name := "<init>", desc := "()V" } : Jvm.MethodName) "CamFigures") ∈ lw_tbl := lw_at lw_m3 40 rfl
theorem q559 : (Jvm.Cond.fieldLink "CamFigures$Bent" (9 : Nat) "CamFigures$Bent" "way" "I") ∈ lw_all := lw_g (lw_at lw_m3 41 rfl) rfl
theorem q560 : (Jvm.Cond.laysFinal "CamFigures$Bent" "CamFigures$Bent" "way" "I") ∈ lw_all := lw_g (lw_at lw_m3 42 rfl) rfl
theorem q561 : (Jvm.Cond.soleField "CamFigures$Bent" "way") ∈ lw_all := lw_g (lw_at lw_m3 43 rfl) rfl
theorem q562 : (Jvm.Cond.superclass "CamFigures$Bent" "CamFigures$Part") ∈ lw_all := lw_g (lw_at lw_m3 44 rfl) rfl
theorem q936 : (Jvm.Cond.castable "CamFigures$Bent" "CamFigures$Part") ∈ lw_tbl := lw_at lw_m4 178 rfl
theorem in_X10 : ∀ w ∈ wsX100, w ∈ lw_all := lw_in wsX100 [560] (by decide +kernel) (by decide +kernel)
theorem q64 : (Jvm.Cond.arrayOver (Jvm.ClassFile.FieldType.object "CamFigures$Cam")) ∈ lw_tbl := lw_at lw_m1 26 rfl
set_option maxRecDepth 100000
theorem q66 : (Jvm.Cond.arrayOver (Jvm.ClassFile.FieldType.object "CamFigures$Letter")) ∈ lw_tbl := lw_at lw_m1 28 rfl
theorem q74 : (Jvm.Cond.arrayClass Jvm.ClassFile.FieldType.int) ∈ lw_all := lw_g (lw_at lw_m1 36 rfl) rfl
theorem q75 : (Jvm.Cond.arrayOver (Jvm.ClassFile.FieldType.object "CamFigures$Part")) ∈ lw_tbl := lw_at lw_m1 37 rfl
theorem q91 : (Jvm.Cond.arrayClass Jvm.ClassFile.FieldType.boolean) ∈ lw_all := lw_g (lw_at lw_m1 53 rfl) rfl
theorem q93 : (Jvm.Cond.arrayOver (Jvm.ClassFile.FieldType.array Jvm.ClassFile.FieldType.int)) ∈ lw_tbl := lw_at lw_m1 55 rfl
theorem q495 : (Jvm.Cond.interfaceMethod "CamFigures$Marks" "CamFigures$Marks" "mark" "(IIII)V") ∈ lw_tbl := lw_at lw_m2 217 rfl
set_option maxRecDepth 100000
theorem q496 : (Jvm.Cond.declares ({ cls := "CamFigures$Marks", name := "mark", desc := "(IIII)V" } : Jvm.MethodName)) ∈ lw_tbl := lw_at lw_m2 218 rfl
theorem q49 : (Jvm.Cond.initialized "java/lang/System") ∈ lw_all := lw_g (lw_at lw_m1 11 rfl) rfl
set_option maxRecDepth 100000
theorem q317 : (Jvm.Cond.static ({ cls := "java/lang/System", name := "arraycopy", desc := "(Ljava/lang/Object;ILjava/lang/Object;II)V" } : Jvm.MethodName)) ∈ lw_all := lw_g (lw_at lw_m2 39 rfl) rfl
theorem q318 : (Jvm.Cond.native ({ cls := "java/lang/System", name := "arraycopy", desc := "(Ljava/lang/Object;ILjava/lang/Object;II)V" } : Jvm.MethodName)) ∈ lw_all := lw_g (lw_at lw_m2 40 rfl) rfl
