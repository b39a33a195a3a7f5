/-! java/lang/Throwable -/
set_option maxRecDepth 100000
def RJ0 : String := "java/lang/Throwable"
def TJ0 : u_T := fun k => match k with
  | 0 => ("java/lang/Throwable", "cause", "Ljava/lang/Throwable;", false)
  | 1 => ("java/lang/Throwable", "stackTrace", "[Ljava/lang/StackTraceElement;", false)
  | 2 => ("java/lang/Throwable", "suppressedExceptions", "Ljava/util/List;", false)
  | 3 => ("java/lang/Throwable", "detailMessage", "Ljava/lang/String;", false)
  | _ => ("java/lang/Throwable", "backtrace", "Ljava/lang/Object;", false)
def tyJ0 : Nat → FieldType := fun k => match k with
  | 0 => .object "java/lang/Throwable"
  | 1 => .array (.object "java/lang/StackTraceElement")
  | 2 => .object "java/util/List"
  | 3 => .object "java/lang/String"
  | _ => .object "java/lang/Object"
abbrev wsJ00 : List Cond := u_ws RJ0 TJ0 5
theorem nmJ0 : ∀ a, a < 5 → ∀ b, b < 5 → a ≠ b → (TJ0 a).2.1 ≠ (TJ0 b).2.1 := by decide +kernel
theorem tyJ0_ok : ∀ k, k < 5 → parseFieldDescriptor (TJ0 k).2.2.1 = some (tyJ0 k) := by decide +kernel
abbrev cJ0_init : ByteArray := prog_11_method_1_code
def yJ0_init : MethodName := ⟨RJ0, "<init>", "()V"⟩
theorem q63 : (Jvm.Cond.initialized "java/lang/Throwable") ∈ lw_all := lw_g (lw_at lw_m1 3 rfl) rfl
theorem q274 : (Jvm.Cond.declares ({ cls := "java/lang/Throwable", name := "<init>", desc := "()V" } : Jvm.MethodName)) ∈ lw_tbl := lw_at lw_m1 214 rfl
theorem q275 : (Jvm.Cond.declares ({ cls := "java/lang/Throwable", name := "<init>", desc := "(Ljava/lang/String;)V" } : Jvm.MethodName)) ∈ lw_tbl := lw_at lw_m1 215 rfl
theorem q279 : (Jvm.Cond.lays "java/lang/Throwable" "java/lang/Throwable" "cause" "Ljava/lang/Throwable;") ∈ lw_all := lw_g (lw_at lw_m1 219 rfl) rfl
theorem q281 : (Jvm.Cond.lays "java/lang/Throwable" "java/lang/Throwable" "stackTrace" "[Ljava/lang/StackTraceElement;") ∈ lw_all := lw_g (lw_at lw_m1 221 rfl) rfl
theorem q283 : (Jvm.Cond.lays "java/lang/Throwable" "java/lang/Throwable" "suppressedExceptions" "Ljava/util/List;") ∈ lw_all := lw_g (lw_at lw_m1 223 rfl) rfl
theorem q285 : (Jvm.Cond.lays "java/lang/Throwable" "java/lang/Throwable" "detailMessage" "Ljava/lang/String;") ∈ lw_all := lw_g (lw_at lw_m1 225 rfl) rfl
theorem q287 : (Jvm.Cond.lays "java/lang/Throwable" "java/lang/Throwable" "backtrace" "Ljava/lang/Object;") ∈ lw_all := lw_g (lw_at lw_m1 227 rfl) rfl
theorem q288 : (Jvm.Cond.fieldLink "java/lang/Throwable" (198 : Nat) "java/lang/Throwable" "backtrace" "Ljava/lang/Object;") ∈ lw_all := lw_g (lw_at lw_m1 228 rfl) rfl
theorem q289 : (Jvm.Cond.superclass "java/lang/Throwable" "java/lang/Object") ∈ lw_all := lw_g (lw_at lw_m1 229 rfl) rfl
theorem q290 : (Jvm.Cond.instanceMethod ({ cls := "java/lang/Throwable", name := "<init>", desc := "()V" } : Jvm.MethodName)) ∈ lw_all := lw_g (lw_at lw_m1 230 rfl) rfl
theorem q291 : (Jvm.Cond.code ({ cls := "java/lang/Throwable", name := "<init>", desc := "()V" } : Jvm.MethodName) prog_11_method_1_code (1 : Nat) (Option.none : Option Jvm.ClassFile.FieldType)) ∈ lw_all := lw_g (lw_at lw_m1 231 rfl) rfl
theorem q292 : (Jvm.Cond.methodLink "java/lang/Throwable" (1 : Nat) ({ cls := "java/lang/Object", name := "<init>", desc := "()V" } : Jvm.MethodName)) ∈ lw_all := lw_g (lw_at lw_m1 232 rfl) rfl
theorem q293 : (Jvm.Cond.fieldLink "java/lang/Throwable" (13 : Nat) "java/lang/Throwable" "UNASSIGNED_STACK" "[Ljava/lang/StackTraceElement;") ∈ lw_all := lw_g (lw_at lw_m1 233 rfl) rfl
theorem q294 : (Jvm.Cond.laysStatic "java/lang/Throwable" "UNASSIGNED_STACK" "[Ljava/lang/StackTraceElement;") ∈ lw_tbl := lw_at lw_m1 234 rfl
theorem q295 : (Jvm.Cond.fieldLink "java/lang/Throwable" (20 : Nat) "java/lang/Throwable" "SUPPRESSED_SENTINEL" "Ljava/util/List;") ∈ lw_all := lw_g (lw_at lw_m1 235 rfl) rfl
theorem q296 : (Jvm.Cond.laysStatic "java/lang/Throwable" "SUPPRESSED_SENTINEL" "Ljava/util/List;") ∈ lw_tbl := lw_at lw_m1 236 rfl
theorem q297 : (Jvm.Cond.methodLink "java/lang/Throwable" (27 : Nat) ({ cls := "java/lang/Throwable", name := "fillInStackTrace", desc := "()Ljava/lang/Throwable;" } : Jvm.MethodName)) ∈ lw_all := lw_g (lw_at lw_m1 237 rfl) rfl
theorem q298 : (Jvm.Cond.instanceMethod ({ cls := "java/lang/Throwable", name := "fillInStackTrace", desc := "()Ljava/lang/Throwable;" } : Jvm.MethodName)) ∈ lw_all := lw_g (lw_at lw_m1 238 rfl) rfl
theorem q299 : (Jvm.Cond.sameMethod "java/lang/Throwable" "java/lang/Throwable" "fillInStackTrace" "()Ljava/lang/Throwable;") ∈ lw_all := lw_g (lw_at lw_m1 239 rfl) rfl
theorem q301 : (Jvm.Cond.codeSync ({ cls := "java/lang/Throwable", name := "fillInStackTrace", desc := "()Ljava/lang/Throwable;" } : Jvm.MethodName) prog_11_method_18_code (1 : Nat) (Option.some (Jvm.ClassFile.FieldType.object "java/lang/Throwable"))) ∈ lw_all := lw_g (lw_at lw_m2 1 rfl) rfl
theorem q302 : (Jvm.Cond.methodLink "java/lang/Throwable" (202 : Nat) ({ cls := "java/lang/Throwable", name := "fillInStackTrace", desc := "(I)Ljava/lang/Throwable;" } : Jvm.MethodName)) ∈ lw_all := lw_g (lw_at lw_m2 2 rfl) rfl
theorem q303 : (Jvm.Cond.privateMethod ({ cls := "java/lang/Throwable", name := "fillInStackTrace", desc := "(I)Ljava/lang/Throwable;" } : Jvm.MethodName)) ∈ lw_tbl := lw_at lw_m2 3 rfl
theorem q304 : (Jvm.Cond.instanceMethod ({ cls := "java/lang/Throwable", name := "fillInStackTrace", desc := "(I)Ljava/lang/Throwable;" } : Jvm.MethodName)) ∈ lw_all := lw_g (lw_at lw_m2 4 rfl) rfl
theorem q305 : (Jvm.Cond.instantiable "java/lang/Throwable" (6 : Nat)) ∈ lw_all := lw_g (lw_at lw_m2 5 rfl) rfl
theorem q306 : (Jvm.Cond.native ({ cls := "java/lang/Throwable", name := "fillInStackTrace", desc := "(I)Ljava/lang/Throwable;" } : Jvm.MethodName)) ∈ lw_all := lw_g (lw_at lw_m2 6 rfl) rfl
theorem q317 : (Jvm.Cond.fieldLink "java/lang/Throwable" (198 : Nat) "java/lang/Throwable" "backtrace" "Ljava/lang/Object;") ∈ lw_all := lw_g (lw_at lw_m2 17 rfl) rfl
theorem q318 : (Jvm.Cond.fieldLink "java/lang/Throwable" (7 : Nat) "java/lang/Throwable" "cause" "Ljava/lang/Throwable;") ∈ lw_all := lw_g (lw_at lw_m2 18 rfl) rfl
theorem q319 : (Jvm.Cond.fieldLink "java/lang/Throwable" (17 : Nat) "java/lang/Throwable" "stackTrace" "[Ljava/lang/StackTraceElement;") ∈ lw_all := lw_g (lw_at lw_m2 19 rfl) rfl
theorem q320 : (Jvm.Cond.fieldLink "java/lang/Throwable" (24 : Nat) "java/lang/Throwable" "suppressedExceptions" "Ljava/util/List;") ∈ lw_all := lw_g (lw_at lw_m2 20 rfl) rfl
theorem q321 : (Jvm.Cond.soleField "java/lang/Throwable" "backtrace") ∈ lw_all := lw_g (lw_at lw_m2 21 rfl) rfl
theorem q322 : (Jvm.Cond.soleField "java/lang/Throwable" "detailMessage") ∈ lw_all := lw_g (lw_at lw_m2 22 rfl) rfl
theorem q323 : (Jvm.Cond.soleField "java/lang/Throwable" "cause") ∈ lw_all := lw_g (lw_at lw_m2 23 rfl) rfl
theorem q324 : (Jvm.Cond.soleField "java/lang/Throwable" "stackTrace") ∈ lw_all := lw_g (lw_at lw_m2 24 rfl) rfl
theorem q326 : (Jvm.Cond.soleField "java/lang/Throwable" "depth") ∈ lw_all := lw_g (lw_at lw_m2 26 rfl) rfl
theorem q327 : (Jvm.Cond.soleField "java/lang/Throwable" "suppressedExceptions") ∈ lw_all := lw_g (lw_at lw_m2 27 rfl) rfl
theorem q972 : (Jvm.Cond.sameMethod "java/lang/Throwable" "java/lang/Throwable" "fillInStackTrace" "(I)Ljava/lang/Throwable;") ∈ lw_all := lw_g (lw_at lw_m4 192 rfl) rfl
theorem in_J0 : ∀ w ∈ wsJ00, w ∈ lw_all := lw_in wsJ00 [279, 281, 283, 285, 287] (by decide +kernel) (by decide +kernel)
/-! java/lang/Exception -/
set_option maxRecDepth 100000
def RJ1 : String := "java/lang/Exception"
abbrev cJ1_init : ByteArray := prog_5_method_1_code
def yJ1_init : MethodName := ⟨RJ1, "<init>", "()V"⟩
theorem q64 : (Jvm.Cond.initialized "java/lang/Exception") ∈ lw_all := lw_g (lw_at lw_m1 4 rfl) rfl
theorem q272 : (Jvm.Cond.declares ({ cls := "java/lang/Exception", name := "<init>", desc := "()V" } : Jvm.MethodName)) ∈ lw_tbl := lw_at lw_m1 212 rfl
theorem q273 : (Jvm.Cond.declares ({ cls := "java/lang/Exception", name := "<init>", desc := "(Ljava/lang/String;)V" } : Jvm.MethodName)) ∈ lw_tbl := lw_at lw_m1 213 rfl
theorem q314 : (Jvm.Cond.instanceMethod ({ cls := "java/lang/Exception", name := "<init>", desc := "()V" } : Jvm.MethodName)) ∈ lw_all := lw_g (lw_at lw_m2 14 rfl) rfl
theorem q315 : (Jvm.Cond.code ({ cls := "java/lang/Exception", name := "<init>", desc := "()V" } : Jvm.MethodName) prog_5_method_1_code (1 : Nat) (Option.none : Option Jvm.ClassFile.FieldType)) ∈ lw_all := lw_g (lw_at lw_m2 15 rfl) rfl
theorem q316 : (Jvm.Cond.methodLink "java/lang/Exception" (1 : Nat) ({ cls := "java/lang/Throwable", name := "<init>", desc := "()V" } : Jvm.MethodName)) ∈ lw_all := lw_g (lw_at lw_m2 16 rfl) rfl
/-! java/lang/RuntimeException -/
set_option maxRecDepth 100000
def RJ2 : String := "java/lang/RuntimeException"
abbrev cJ2_init : ByteArray := prog_9_method_1_code
def yJ2_init : MethodName := ⟨RJ2, "<init>", "()V"⟩
theorem q65 : (Jvm.Cond.initialized "java/lang/RuntimeException") ∈ lw_all := lw_g (lw_at lw_m1 5 rfl) rfl
theorem q270 : (Jvm.Cond.declares ({ cls := "java/lang/RuntimeException", name := "<init>", desc := "()V" } : Jvm.MethodName)) ∈ lw_tbl := lw_at lw_m1 210 rfl
theorem q271 : (Jvm.Cond.declares ({ cls := "java/lang/RuntimeException", name := "<init>", desc := "(Ljava/lang/String;)V" } : Jvm.MethodName)) ∈ lw_tbl := lw_at lw_m1 211 rfl
theorem q311 : (Jvm.Cond.instanceMethod ({ cls := "java/lang/RuntimeException", name := "<init>", desc := "()V" } : Jvm.MethodName)) ∈ lw_all := lw_g (lw_at lw_m2 11 rfl) rfl
theorem q312 : (Jvm.Cond.code ({ cls := "java/lang/RuntimeException", name := "<init>", desc := "()V" } : Jvm.MethodName) prog_9_method_1_code (1 : Nat) (Option.none : Option Jvm.ClassFile.FieldType)) ∈ lw_all := lw_g (lw_at lw_m2 12 rfl) rfl
theorem q313 : (Jvm.Cond.methodLink "java/lang/RuntimeException" (1 : Nat) ({ cls := "java/lang/Exception", name := "<init>", desc := "()V" } : Jvm.MethodName)) ∈ lw_all := lw_g (lw_at lw_m2 13 rfl) rfl
/-! java/lang/IllegalStateException -/
set_option maxRecDepth 100000
def RJ3 : String := "java/lang/IllegalStateException"
def TJ3 : u_T := fun k => match k with
  | 0 => ("java/lang/Throwable", "cause", "Ljava/lang/Throwable;", false)
  | 1 => ("java/lang/Throwable", "stackTrace", "[Ljava/lang/StackTraceElement;", false)
  | 2 => ("java/lang/Throwable", "suppressedExceptions", "Ljava/util/List;", false)
  | 3 => ("java/lang/Throwable", "detailMessage", "Ljava/lang/String;", false)
  | 4 => ("java/lang/Throwable", "backtrace", "Ljava/lang/Object;", false)
  | _ => ("java/lang/Throwable", "depth", "I", false)
def tyJ3 : Nat → FieldType := fun k => match k with
  | 0 => .object "java/lang/Throwable"
  | 1 => .array (.object "java/lang/StackTraceElement")
  | 2 => .object "java/util/List"
  | 3 => .object "java/lang/String"
  | 4 => .object "java/lang/Object"
  | _ => .int
abbrev wsJ30 : List Cond := u_ws RJ3 TJ3 6
theorem nmJ3 : ∀ a, a < 6 → ∀ b, b < 6 → a ≠ b → (TJ3 a).2.1 ≠ (TJ3 b).2.1 := by decide +kernel
theorem tyJ3_ok : ∀ k, k < 6 → parseFieldDescriptor (TJ3 k).2.2.1 = some (tyJ3 k) := by decide +kernel
abbrev cJ3_init : ByteArray := prog_7_method_1_code
def yJ3_init : MethodName := ⟨RJ3, "<init>", "()V"⟩
theorem q66 : (Jvm.Cond.initialized "java/lang/IllegalStateException") ∈ lw_all := lw_g (lw_at lw_m1 6 rfl) rfl
theorem q268 : (Jvm.Cond.instantiable "java/lang/IllegalStateException" (6 : Nat)) ∈ lw_all := lw_g (lw_at lw_m1 208 rfl) rfl
theorem q269 : (Jvm.Cond.castable "java/lang/IllegalStateException" "java/lang/IllegalStateException") ∈ lw_tbl := lw_at lw_m1 209 rfl
theorem q276 : (Jvm.Cond.selects "java/lang/IllegalStateException" ({ cls := "java/lang/Throwable", name := "fillInStackTrace", desc := "(I)Ljava/lang/Throwable;" } : Jvm.MethodName) ({ cls := "java/lang/Throwable", name := "fillInStackTrace", desc := "(I)Ljava/lang/Throwable;" } : Jvm.MethodName)) ∈ lw_all := lw_g (lw_at lw_m1 216 rfl) rfl
theorem q277 : (Jvm.Cond.selects "java/lang/IllegalStateException" ({ cls := "java/lang/Throwable", name := "fillInStackTrace", desc := "()Ljava/lang/Throwable;" } : Jvm.MethodName) ({ cls := "java/lang/Throwable", name := "fillInStackTrace", desc := "()Ljava/lang/Throwable;" } : Jvm.MethodName)) ∈ lw_all := lw_g (lw_at lw_m1 217 rfl) rfl
theorem q278 : (Jvm.Cond.lays "java/lang/IllegalStateException" "java/lang/Throwable" "cause" "Ljava/lang/Throwable;") ∈ lw_all := lw_g (lw_at lw_m1 218 rfl) rfl
theorem q280 : (Jvm.Cond.lays "java/lang/IllegalStateException" "java/lang/Throwable" "stackTrace" "[Ljava/lang/StackTraceElement;") ∈ lw_all := lw_g (lw_at lw_m1 220 rfl) rfl
theorem q282 : (Jvm.Cond.lays "java/lang/IllegalStateException" "java/lang/Throwable" "suppressedExceptions" "Ljava/util/List;") ∈ lw_all := lw_g (lw_at lw_m1 222 rfl) rfl
theorem q284 : (Jvm.Cond.lays "java/lang/IllegalStateException" "java/lang/Throwable" "detailMessage" "Ljava/lang/String;") ∈ lw_all := lw_g (lw_at lw_m1 224 rfl) rfl
theorem q286 : (Jvm.Cond.lays "java/lang/IllegalStateException" "java/lang/Throwable" "backtrace" "Ljava/lang/Object;") ∈ lw_all := lw_g (lw_at lw_m1 226 rfl) rfl
theorem q308 : (Jvm.Cond.instanceMethod ({ cls := "java/lang/IllegalStateException", name := "<init>", desc := "()V" } : Jvm.MethodName)) ∈ lw_all := lw_g (lw_at lw_m2 8 rfl) rfl
theorem q309 : (Jvm.Cond.code ({ cls := "java/lang/IllegalStateException", name := "<init>", desc := "()V" } : Jvm.MethodName) prog_7_method_1_code (1 : Nat) (Option.none : Option Jvm.ClassFile.FieldType)) ∈ lw_all := lw_g (lw_at lw_m2 9 rfl) rfl
theorem q310 : (Jvm.Cond.methodLink "java/lang/IllegalStateException" (1 : Nat) ({ cls := "java/lang/RuntimeException", name := "<init>", desc := "()V" } : Jvm.MethodName)) ∈ lw_all := lw_g (lw_at lw_m2 10 rfl) rfl
theorem q325 : (Jvm.Cond.lays "java/lang/IllegalStateException" "java/lang/Throwable" "depth" "I") ∈ lw_all := lw_g (lw_at lw_m2 25 rfl) rfl
theorem q328 : (Jvm.Cond.superclass "java/lang/IllegalStateException" "java/lang/RuntimeException") ∈ lw_all := lw_g (lw_at lw_m2 28 rfl) rfl
theorem in_J3 : ∀ w ∈ wsJ30, w ∈ lw_all := lw_in wsJ30 [278, 280, 282, 284, 286, 325] (by decide +kernel) (by decide +kernel)
/-! java/util/Arrays -/
set_option maxRecDepth 100000
def RJ4 : String := "java/util/Arrays"
abbrev cJ4_copyOf : ByteArray := prog_12_method_123_code
def yJ4_copyOf : MethodName := ⟨RJ4, "copyOf", "([II)[I"⟩
theorem q67 : (Jvm.Cond.initialized "java/util/Arrays") ∈ lw_all := lw_g (lw_at lw_m1 7 rfl) rfl
theorem q346 : (Jvm.Cond.static ({ cls := "java/util/Arrays", name := "copyOf", desc := "([II)[I" } : Jvm.MethodName)) ∈ lw_all := lw_g (lw_at lw_m2 46 rfl) rfl
theorem q347 : (Jvm.Cond.code ({ cls := "java/util/Arrays", name := "copyOf", desc := "([II)[I" } : Jvm.MethodName) prog_12_method_123_code (3 : Nat) (Option.some (Jvm.ClassFile.FieldType.array Jvm.ClassFile.FieldType.int))) ∈ lw_all := lw_g (lw_at lw_m2 47 rfl) rfl
theorem q348 : (Jvm.Cond.methodLink "java/util/Arrays" (316 : Nat) ({ cls := "[I", name := "clone", desc := "()Ljava/lang/Object;" } : Jvm.MethodName)) ∈ lw_all := lw_g (lw_at lw_m2 48 rfl) rfl
theorem q354 : (Jvm.Cond.classLink "java/util/Arrays" (317 : Nat) "[I") ∈ lw_all := lw_g (lw_at lw_m2 54 rfl) rfl
theorem q355 : (Jvm.Cond.methodLink "java/util/Arrays" (304 : Nat) ({ cls := "java/lang/Math", name := "min", desc := "(II)I" } : Jvm.MethodName)) ∈ lw_all := lw_g (lw_at lw_m2 55 rfl) rfl
theorem q358 : (Jvm.Cond.methodLink "java/util/Arrays" (150 : Nat) ({ cls := "java/lang/System", name := "arraycopy", desc := "(Ljava/lang/Object;ILjava/lang/Object;II)V" } : Jvm.MethodName)) ∈ lw_all := lw_g (lw_at lw_m2 58 rfl) rfl
/-! java/lang/Math -/
set_option maxRecDepth 100000
def RJ5 : String := "java/lang/Math"
abbrev cJ5_min : ByteArray := prog_8_method_69_code
def yJ5_min : MethodName := ⟨RJ5, "min", "(II)I"⟩
theorem q68 : (Jvm.Cond.initialized "java/lang/Math") ∈ lw_all := lw_g (lw_at lw_m1 8 rfl) rfl
theorem q356 : (Jvm.Cond.static ({ cls := "java/lang/Math", name := "min", desc := "(II)I" } : Jvm.MethodName)) ∈ lw_all := lw_g (lw_at lw_m2 56 rfl) rfl
theorem q357 : (Jvm.Cond.code ({ cls := "java/lang/Math", name := "min", desc := "(II)I" } : Jvm.MethodName) prog_8_method_69_code (2 : Nat) (Option.some Jvm.ClassFile.FieldType.int)) ∈ lw_all := lw_g (lw_at lw_m2 57 rfl) rfl
/-! java/lang/IllegalArgumentException -/
set_option maxRecDepth 100000
def RJ6 : String := "java/lang/IllegalArgumentException"
def TJ6 : u_T := fun k => match k with
  | 0 => ("java/lang/Throwable", "cause", "Ljava/lang/Throwable;", false)
  | 1 => ("java/lang/Throwable", "stackTrace", "[Ljava/lang/StackTraceElement;", false)
  | 2 => ("java/lang/Throwable", "suppressedExceptions", "Ljava/util/List;", false)
  | 3 => ("java/lang/Throwable", "detailMessage", "Ljava/lang/String;", false)
  | 4 => ("java/lang/Throwable", "backtrace", "Ljava/lang/Object;", false)
  | _ => ("java/lang/Throwable", "depth", "I", false)
def tyJ6 : Nat → FieldType := fun k => match k with
  | 0 => .object "java/lang/Throwable"
  | 1 => .array (.object "java/lang/StackTraceElement")
  | 2 => .object "java/util/List"
  | 3 => .object "java/lang/String"
  | 4 => .object "java/lang/Object"
  | _ => .int
abbrev wsJ60 : List Cond := u_ws RJ6 TJ6 6
theorem nmJ6 : ∀ a, a < 6 → ∀ b, b < 6 → a ≠ b → (TJ6 a).2.1 ≠ (TJ6 b).2.1 := by decide +kernel
theorem tyJ6_ok : ∀ k, k < 6 → parseFieldDescriptor (TJ6 k).2.2.1 = some (tyJ6 k) := by decide +kernel
abbrev cJ6_init : ByteArray := prog_6_method_1_code
def yJ6_init : MethodName := ⟨RJ6, "<init>", "()V"⟩
theorem q70 : (Jvm.Cond.initialized "java/lang/IllegalArgumentException") ∈ lw_all := lw_g (lw_at lw_m1 10 rfl) rfl
theorem q300 : (Jvm.Cond.selects "java/lang/IllegalArgumentException" ({ cls := "java/lang/Throwable", name := "fillInStackTrace", desc := "()Ljava/lang/Throwable;" } : Jvm.MethodName) ({ cls := "java/lang/Throwable", name := "fillInStackTrace", desc := "()Ljava/lang/Throwable;" } : Jvm.MethodName)) ∈ lw_all := lw_g (lw_at lw_m2 0 rfl) rfl
theorem q387 : (Jvm.Cond.instantiable "java/lang/IllegalArgumentException" (6 : Nat)) ∈ lw_all := lw_g (lw_at lw_m2 87 rfl) rfl
theorem q388 : (Jvm.Cond.castable "java/lang/IllegalArgumentException" "java/lang/IllegalArgumentException") ∈ lw_tbl := lw_at lw_m2 88 rfl
theorem q389 : (Jvm.Cond.selects "java/lang/IllegalArgumentException" ({ cls := "java/lang/Throwable", name := "fillInStackTrace", desc := "(I)Ljava/lang/Throwable;" } : Jvm.MethodName) ({ cls := "java/lang/Throwable", name := "fillInStackTrace", desc := "(I)Ljava/lang/Throwable;" } : Jvm.MethodName)) ∈ lw_all := lw_g (lw_at lw_m2 89 rfl) rfl
theorem q390 : (Jvm.Cond.lays "java/lang/IllegalArgumentException" "java/lang/Throwable" "cause" "Ljava/lang/Throwable;") ∈ lw_all := lw_g (lw_at lw_m2 90 rfl) rfl
theorem q391 : (Jvm.Cond.lays "java/lang/IllegalArgumentException" "java/lang/Throwable" "stackTrace" "[Ljava/lang/StackTraceElement;") ∈ lw_all := lw_g (lw_at lw_m2 91 rfl) rfl
theorem q392 : (Jvm.Cond.lays "java/lang/IllegalArgumentException" "java/lang/Throwable" "suppressedExceptions" "Ljava/util/List;") ∈ lw_all := lw_g (lw_at lw_m2 92 rfl) rfl
theorem q393 : (Jvm.Cond.lays "java/lang/IllegalArgumentException" "java/lang/Throwable" "detailMessage" "Ljava/lang/String;") ∈ lw_all := lw_g (lw_at lw_m2 93 rfl) rfl
theorem q394 : (Jvm.Cond.lays "java/lang/IllegalArgumentException" "java/lang/Throwable" "backtrace" "Ljava/lang/Object;") ∈ lw_all := lw_g (lw_at lw_m2 94 rfl) rfl
theorem q396 : (Jvm.Cond.instanceMethod ({ cls := "java/lang/IllegalArgumentException", name := "<init>", desc := "()V" } : Jvm.MethodName)) ∈ lw_all := lw_g (lw_at lw_m2 96 rfl) rfl
theorem q397 : (Jvm.Cond.code ({ cls := "java/lang/IllegalArgumentException", name := "<init>", desc := "()V" } : Jvm.MethodName) prog_6_method_1_code (1 : Nat) (Option.none : Option Jvm.ClassFile.FieldType)) ∈ lw_all := lw_g (lw_at lw_m2 97 rfl) rfl
theorem q398 : (Jvm.Cond.methodLink "java/lang/IllegalArgumentException" (1 : Nat) ({ cls := "java/lang/RuntimeException", name := "<init>", desc := "()V" } : Jvm.MethodName)) ∈ lw_all := lw_g (lw_at lw_m2 98 rfl) rfl
theorem q399 : (Jvm.Cond.lays "java/lang/IllegalArgumentException" "java/lang/Throwable" "depth" "I") ∈ lw_all := lw_g (lw_at lw_m2 99 rfl) rfl
theorem q400 : (Jvm.Cond.superclass "java/lang/IllegalArgumentException" "java/lang/RuntimeException") ∈ lw_all := lw_g (lw_at lw_m2 100 rfl) rfl
theorem in_J6 : ∀ w ∈ wsJ60, w ∈ lw_all := lw_in wsJ60 [390, 391, 392, 393, 394, 399] (by decide +kernel) (by decide +kernel)
/-! java/lang/Object -/
set_option maxRecDepth 100000
def RJ7 : String := "java/lang/Object"
abbrev cJ7_init : ByteArray := object_method_1_code
def yJ7_init : MethodName := ⟨RJ7, "<init>", "()V"⟩
theorem q77 : (Jvm.Cond.instanceMethod ({ cls := "java/lang/Object", name := "<init>", desc := "()V" } : Jvm.MethodName)) ∈ lw_all := lw_g (lw_at lw_m1 17 rfl) rfl
theorem q78 : (Jvm.Cond.code ({ cls := "java/lang/Object", name := "<init>", desc := "()V" } : Jvm.MethodName) object_method_1_code (1 : Nat) (Option.none : Option Jvm.ClassFile.FieldType)) ∈ lw_all := lw_g (lw_at lw_m1 18 rfl) rfl
theorem q350 : (Jvm.Cond.native ({ cls := "java/lang/Object", name := "clone", desc := "()Ljava/lang/Object;" } : Jvm.MethodName)) ∈ lw_all := lw_g (lw_at lw_m2 50 rfl) rfl
theorem q351 : (Jvm.Cond.instanceMethod ({ cls := "java/lang/Object", name := "clone", desc := "()Ljava/lang/Object;" } : Jvm.MethodName)) ∈ lw_all := lw_g (lw_at lw_m2 51 rfl) rfl
/-! PromiseDeskLaw -/
set_option maxRecDepth 100000
def RX0 : String := "PromiseDeskLaw"
abbrev cX0_promise : ByteArray := method_3_code
def yX0_promise : MethodName := ⟨RX0, "promise", "(LPromiseDesk;[J)I"⟩
abbrev cX0_handler : ByteArray := method_4_code
def yX0_handler : MethodName := ⟨RX0, "handler", "(LPromiseDesk;II[J)I"⟩
abbrev cX0_thenable : ByteArray := method_5_code
def yX0_thenable : MethodName := ⟨RX0, "thenable", "(LPromiseDesk;IIIII[J)I"⟩
abbrev cX0_settle : ByteArray := method_6_code
def yX0_settle : MethodName := ⟨RX0, "settle", "(LPromiseDesk;IZI[J)I"⟩
abbrev cX0_later : ByteArray := method_7_code
def yX0_later : MethodName := ⟨RX0, "later", "(LPromiseDesk;IZI[J)I"⟩
abbrev cX0_then : ByteArray := method_8_code
def yX0_then : MethodName := ⟨RX0, "then", "(LPromiseDesk;IIIZ[J)I"⟩
abbrev cX0_lastly : ByteArray := method_9_code
def yX0_lastly : MethodName := ⟨RX0, "lastly", "(LPromiseDesk;II[J)I"⟩
abbrev cX0_wrap : ByteArray := method_10_code
def yX0_wrap : MethodName := ⟨RX0, "wrap", "(LPromiseDesk;I[J)I"⟩
abbrev cX0_broken : ByteArray := method_11_code
def yX0_broken : MethodName := ⟨RX0, "broken", "(LPromiseDesk;I[J)I"⟩
abbrev cX0_item : ByteArray := method_12_code
def yX0_item : MethodName := ⟨RX0, "item", "(LPromiseDesk;I[J)I"⟩
abbrev cX0_combine : ByteArray := method_13_code
def yX0_combine : MethodName := ⟨RX0, "combine", "(LPromiseDesk;I[J)I"⟩
abbrev cX0_async : ByteArray := method_14_code
def yX0_async : MethodName := ⟨RX0, "async", "(LPromiseDesk;II[J)I"⟩
abbrev cX0_jobs : ByteArray := method_15_code
def yX0_jobs : MethodName := ⟨RX0, "jobs", "(LPromiseDesk;I[J)I"⟩
abbrev cX0_state : ByteArray := method_16_code
def yX0_state : MethodName := ⟨RX0, "state", "(LPromiseDesk;I[J)I"⟩
abbrev cX0_result : ByteArray := method_17_code
def yX0_result : MethodName := ⟨RX0, "result", "(LPromiseDesk;I[J)I"⟩
abbrev cX0_kind : ByteArray := method_18_code
def yX0_kind : MethodName := ⟨RX0, "kind", "(LPromiseDesk;I[J)I"⟩
abbrev cX0_part : ByteArray := method_19_code
def yX0_part : MethodName := ⟨RX0, "part", "(LPromiseDesk;II[J)I"⟩
abbrev cX0_count : ByteArray := method_20_code
def yX0_count : MethodName := ⟨RX0, "count", "(LPromiseDesk;I[J)I"⟩
theorem q60 : (Jvm.Cond.initialized "PromiseDeskLaw") ∈ lw_all := lw_g (lw_at lw_m1 0 rfl) rfl
theorem q71 : (Jvm.Cond.classLink "PromiseDeskLaw" (8 : Nat) "PromiseDesk") ∈ lw_all := lw_g (lw_at lw_m1 11 rfl) rfl
theorem q73 : (Jvm.Cond.methodLink "PromiseDeskLaw" (74 : Nat) ({ cls := "PromiseDesk", name := "<init>", desc := "()V" } : Jvm.MethodName)) ∈ lw_all := lw_g (lw_at lw_m1 13 rfl) rfl
theorem q250 : (Jvm.Cond.methodLink "PromiseDeskLaw" (140 : Nat) ({ cls := "PromiseDesk", name := "log", desc := "(IZ)I" } : Jvm.MethodName)) ∈ lw_all := lw_g (lw_at lw_m1 190 rfl) rfl
theorem q255 : (Jvm.Cond.methodLink "PromiseDeskLaw" (78 : Nat) ({ cls := "PromiseDeskLaw", name := "promise", desc := "(LPromiseDesk;[J)I" } : Jvm.MethodName)) ∈ lw_all := lw_g (lw_at lw_m1 195 rfl) rfl
theorem q256 : (Jvm.Cond.static ({ cls := "PromiseDeskLaw", name := "promise", desc := "(LPromiseDesk;[J)I" } : Jvm.MethodName)) ∈ lw_all := lw_g (lw_at lw_m1 196 rfl) rfl
theorem q257 : (Jvm.Cond.codeWith ({ cls := "PromiseDeskLaw", name := "promise", desc := "(LPromiseDesk;[J)I" } : Jvm.MethodName) method_3_code (3 : Nat) (Option.some Jvm.ClassFile.FieldType.int) [((0 : Nat), (8 : Nat), (11 : Nat), (13 : Nat))]) ∈ lw_all := lw_g (lw_at lw_m1 197 rfl) rfl
theorem q258 : (Jvm.Cond.classLink "PromiseDeskLaw" (13 : Nat) "java/lang/IllegalStateException") ∈ lw_all := lw_g (lw_at lw_m1 198 rfl) rfl
theorem q259 : (Jvm.Cond.methodLink "PromiseDeskLaw" (7 : Nat) ({ cls := "PromiseDesk", name := "promise", desc := "()I" } : Jvm.MethodName)) ∈ lw_all := lw_g (lw_at lw_m1 199 rfl) rfl
theorem q368 : (Jvm.Cond.methodLink "PromiseDeskLaw" (87 : Nat) ({ cls := "PromiseDeskLaw", name := "handler", desc := "(LPromiseDesk;II[J)I" } : Jvm.MethodName)) ∈ lw_all := lw_g (lw_at lw_m2 68 rfl) rfl
theorem q369 : (Jvm.Cond.static ({ cls := "PromiseDeskLaw", name := "handler", desc := "(LPromiseDesk;II[J)I" } : Jvm.MethodName)) ∈ lw_all := lw_g (lw_at lw_m2 69 rfl) rfl
theorem q370 : (Jvm.Cond.codeWith ({ cls := "PromiseDeskLaw", name := "handler", desc := "(LPromiseDesk;II[J)I" } : Jvm.MethodName) method_4_code (5 : Nat) (Option.some Jvm.ClassFile.FieldType.int) [((0 : Nat), (10 : Nat), (13 : Nat), (19 : Nat)), ((0 : Nat), (10 : Nat), (17 : Nat), (13 : Nat))]) ∈ lw_all := lw_g (lw_at lw_m2 70 rfl) rfl
theorem q371 : (Jvm.Cond.classLink "PromiseDeskLaw" (19 : Nat) "java/lang/IllegalArgumentException") ∈ lw_all := lw_g (lw_at lw_m2 71 rfl) rfl
theorem q372 : (Jvm.Cond.methodLink "PromiseDeskLaw" (15 : Nat) ({ cls := "PromiseDesk", name := "handler", desc := "(II)I" } : Jvm.MethodName)) ∈ lw_all := lw_g (lw_at lw_m2 72 rfl) rfl
theorem q408 : (Jvm.Cond.methodLink "PromiseDeskLaw" (91 : Nat) ({ cls := "PromiseDeskLaw", name := "thenable", desc := "(LPromiseDesk;IIIII[J)I" } : Jvm.MethodName)) ∈ lw_all := lw_g (lw_at lw_m2 108 rfl) rfl
theorem q409 : (Jvm.Cond.static ({ cls := "PromiseDeskLaw", name := "thenable", desc := "(LPromiseDesk;IIIII[J)I" } : Jvm.MethodName)) ∈ lw_all := lw_g (lw_at lw_m2 109 rfl) rfl
theorem q410 : (Jvm.Cond.codeWith ({ cls := "PromiseDeskLaw", name := "thenable", desc := "(LPromiseDesk;IIIII[J)I" } : Jvm.MethodName) method_5_code (8 : Nat) (Option.some Jvm.ClassFile.FieldType.int) [((0 : Nat), (16 : Nat), (19 : Nat), (19 : Nat)), ((0 : Nat), (16 : Nat), (23 : Nat), (13 : Nat))]) ∈ lw_all := lw_g (lw_at lw_m2 110 rfl) rfl
theorem q411 : (Jvm.Cond.methodLink "PromiseDeskLaw" (21 : Nat) ({ cls := "PromiseDesk", name := "thenable", desc := "(IIIII)I" } : Jvm.MethodName)) ∈ lw_all := lw_g (lw_at lw_m2 111 rfl) rfl
theorem q415 : (Jvm.Cond.methodLink "PromiseDeskLaw" (95 : Nat) ({ cls := "PromiseDeskLaw", name := "settle", desc := "(LPromiseDesk;IZI[J)I" } : Jvm.MethodName)) ∈ lw_all := lw_g (lw_at lw_m2 115 rfl) rfl
theorem q416 : (Jvm.Cond.static ({ cls := "PromiseDeskLaw", name := "settle", desc := "(LPromiseDesk;IZI[J)I" } : Jvm.MethodName)) ∈ lw_all := lw_g (lw_at lw_m2 116 rfl) rfl
theorem q417 : (Jvm.Cond.codeWith ({ cls := "PromiseDeskLaw", name := "settle", desc := "(LPromiseDesk;IZI[J)I" } : Jvm.MethodName) method_6_code (6 : Nat) (Option.some Jvm.ClassFile.FieldType.int) [((0 : Nat), (19 : Nat), (22 : Nat), (19 : Nat)), ((0 : Nat), (19 : Nat), (26 : Nat), (13 : Nat))]) ∈ lw_all := lw_g (lw_at lw_m2 117 rfl) rfl
theorem q418 : (Jvm.Cond.methodLink "PromiseDeskLaw" (25 : Nat) ({ cls := "PromiseDesk", name := "settle", desc := "(IZI)Z" } : Jvm.MethodName)) ∈ lw_all := lw_g (lw_at lw_m2 118 rfl) rfl
theorem q490 : (Jvm.Cond.methodLink "PromiseDeskLaw" (99 : Nat) ({ cls := "PromiseDeskLaw", name := "later", desc := "(LPromiseDesk;IZI[J)I" } : Jvm.MethodName)) ∈ lw_all := lw_g (lw_at lw_m2 190 rfl) rfl
theorem q491 : (Jvm.Cond.static ({ cls := "PromiseDeskLaw", name := "later", desc := "(LPromiseDesk;IZI[J)I" } : Jvm.MethodName)) ∈ lw_all := lw_g (lw_at lw_m2 191 rfl) rfl
theorem q492 : (Jvm.Cond.codeWith ({ cls := "PromiseDeskLaw", name := "later", desc := "(LPromiseDesk;IZI[J)I" } : Jvm.MethodName) method_7_code (6 : Nat) (Option.some Jvm.ClassFile.FieldType.int) [((0 : Nat), (12 : Nat), (15 : Nat), (19 : Nat)), ((0 : Nat), (12 : Nat), (19 : Nat), (13 : Nat))]) ∈ lw_all := lw_g (lw_at lw_m2 192 rfl) rfl
theorem q493 : (Jvm.Cond.methodLink "PromiseDeskLaw" (29 : Nat) ({ cls := "PromiseDesk", name := "later", desc := "(IZI)I" } : Jvm.MethodName)) ∈ lw_all := lw_g (lw_at lw_m2 193 rfl) rfl
theorem q497 : (Jvm.Cond.methodLink "PromiseDeskLaw" (102 : Nat) ({ cls := "PromiseDeskLaw", name := "then", desc := "(LPromiseDesk;IIIZ[J)I" } : Jvm.MethodName)) ∈ lw_all := lw_g (lw_at lw_m2 197 rfl) rfl
theorem q498 : (Jvm.Cond.static ({ cls := "PromiseDeskLaw", name := "then", desc := "(LPromiseDesk;IIIZ[J)I" } : Jvm.MethodName)) ∈ lw_all := lw_g (lw_at lw_m2 198 rfl) rfl
theorem q499 : (Jvm.Cond.codeWith ({ cls := "PromiseDeskLaw", name := "then", desc := "(LPromiseDesk;IIIZ[J)I" } : Jvm.MethodName) method_8_code (7 : Nat) (Option.some Jvm.ClassFile.FieldType.int) [((0 : Nat), (14 : Nat), (17 : Nat), (19 : Nat)), ((0 : Nat), (14 : Nat), (21 : Nat), (13 : Nat))]) ∈ lw_all := lw_g (lw_at lw_m2 199 rfl) rfl
theorem q500 : (Jvm.Cond.methodLink "PromiseDeskLaw" (33 : Nat) ({ cls := "PromiseDesk", name := "then", desc := "(IIIZ)I" } : Jvm.MethodName)) ∈ lw_all := lw_g (lw_at lw_m2 200 rfl) rfl
theorem q508 : (Jvm.Cond.methodLink "PromiseDeskLaw" (106 : Nat) ({ cls := "PromiseDeskLaw", name := "lastly", desc := "(LPromiseDesk;II[J)I" } : Jvm.MethodName)) ∈ lw_all := lw_g (lw_at lw_m2 208 rfl) rfl
theorem q509 : (Jvm.Cond.static ({ cls := "PromiseDeskLaw", name := "lastly", desc := "(LPromiseDesk;II[J)I" } : Jvm.MethodName)) ∈ lw_all := lw_g (lw_at lw_m2 209 rfl) rfl
theorem q510 : (Jvm.Cond.codeWith ({ cls := "PromiseDeskLaw", name := "lastly", desc := "(LPromiseDesk;II[J)I" } : Jvm.MethodName) method_9_code (5 : Nat) (Option.some Jvm.ClassFile.FieldType.int) [((0 : Nat), (10 : Nat), (13 : Nat), (19 : Nat)), ((0 : Nat), (10 : Nat), (17 : Nat), (13 : Nat))]) ∈ lw_all := lw_g (lw_at lw_m2 210 rfl) rfl
theorem q511 : (Jvm.Cond.methodLink "PromiseDeskLaw" (37 : Nat) ({ cls := "PromiseDesk", name := "lastly", desc := "(II)I" } : Jvm.MethodName)) ∈ lw_all := lw_g (lw_at lw_m2 211 rfl) rfl
theorem q515 : (Jvm.Cond.methodLink "PromiseDeskLaw" (109 : Nat) ({ cls := "PromiseDeskLaw", name := "wrap", desc := "(LPromiseDesk;I[J)I" } : Jvm.MethodName)) ∈ lw_all := lw_g (lw_at lw_m2 215 rfl) rfl
theorem q516 : (Jvm.Cond.static ({ cls := "PromiseDeskLaw", name := "wrap", desc := "(LPromiseDesk;I[J)I" } : Jvm.MethodName)) ∈ lw_all := lw_g (lw_at lw_m2 216 rfl) rfl
theorem q517 : (Jvm.Cond.codeWith ({ cls := "PromiseDeskLaw", name := "wrap", desc := "(LPromiseDesk;I[J)I" } : Jvm.MethodName) method_10_code (4 : Nat) (Option.some Jvm.ClassFile.FieldType.int) [((0 : Nat), (9 : Nat), (12 : Nat), (19 : Nat)), ((0 : Nat), (9 : Nat), (15 : Nat), (13 : Nat))]) ∈ lw_all := lw_g (lw_at lw_m2 217 rfl) rfl
theorem q518 : (Jvm.Cond.methodLink "PromiseDeskLaw" (40 : Nat) ({ cls := "PromiseDesk", name := "wrap", desc := "(I)I" } : Jvm.MethodName)) ∈ lw_all := lw_g (lw_at lw_m2 218 rfl) rfl
theorem q522 : (Jvm.Cond.methodLink "PromiseDeskLaw" (113 : Nat) ({ cls := "PromiseDeskLaw", name := "broken", desc := "(LPromiseDesk;I[J)I" } : Jvm.MethodName)) ∈ lw_all := lw_g (lw_at lw_m2 222 rfl) rfl
theorem q523 : (Jvm.Cond.static ({ cls := "PromiseDeskLaw", name := "broken", desc := "(LPromiseDesk;I[J)I" } : Jvm.MethodName)) ∈ lw_all := lw_g (lw_at lw_m2 223 rfl) rfl
theorem q524 : (Jvm.Cond.codeWith ({ cls := "PromiseDeskLaw", name := "broken", desc := "(LPromiseDesk;I[J)I" } : Jvm.MethodName) method_11_code (4 : Nat) (Option.some Jvm.ClassFile.FieldType.int) [((0 : Nat), (9 : Nat), (12 : Nat), (19 : Nat)), ((0 : Nat), (9 : Nat), (15 : Nat), (13 : Nat))]) ∈ lw_all := lw_g (lw_at lw_m2 224 rfl) rfl
theorem q525 : (Jvm.Cond.methodLink "PromiseDeskLaw" (44 : Nat) ({ cls := "PromiseDesk", name := "broken", desc := "(I)I" } : Jvm.MethodName)) ∈ lw_all := lw_g (lw_at lw_m2 225 rfl) rfl
theorem q529 : (Jvm.Cond.methodLink "PromiseDeskLaw" (116 : Nat) ({ cls := "PromiseDeskLaw", name := "item", desc := "(LPromiseDesk;I[J)I" } : Jvm.MethodName)) ∈ lw_all := lw_g (lw_at lw_m2 229 rfl) rfl
theorem q530 : (Jvm.Cond.static ({ cls := "PromiseDeskLaw", name := "item", desc := "(LPromiseDesk;I[J)I" } : Jvm.MethodName)) ∈ lw_all := lw_g (lw_at lw_m2 230 rfl) rfl
theorem q531 : (Jvm.Cond.codeWith ({ cls := "PromiseDeskLaw", name := "item", desc := "(LPromiseDesk;I[J)I" } : Jvm.MethodName) method_12_code (4 : Nat) (Option.some Jvm.ClassFile.FieldType.int) [((0 : Nat), (9 : Nat), (12 : Nat), (19 : Nat)), ((0 : Nat), (9 : Nat), (15 : Nat), (13 : Nat))]) ∈ lw_all := lw_g (lw_at lw_m2 231 rfl) rfl
theorem q532 : (Jvm.Cond.methodLink "PromiseDeskLaw" (47 : Nat) ({ cls := "PromiseDesk", name := "item", desc := "(I)I" } : Jvm.MethodName)) ∈ lw_all := lw_g (lw_at lw_m2 232 rfl) rfl
theorem q536 : (Jvm.Cond.methodLink "PromiseDeskLaw" (119 : Nat) ({ cls := "PromiseDeskLaw", name := "combine", desc := "(LPromiseDesk;I[J)I" } : Jvm.MethodName)) ∈ lw_all := lw_g (lw_at lw_m2 236 rfl) rfl
theorem q537 : (Jvm.Cond.static ({ cls := "PromiseDeskLaw", name := "combine", desc := "(LPromiseDesk;I[J)I" } : Jvm.MethodName)) ∈ lw_all := lw_g (lw_at lw_m2 237 rfl) rfl
theorem q538 : (Jvm.Cond.codeWith ({ cls := "PromiseDeskLaw", name := "combine", desc := "(LPromiseDesk;I[J)I" } : Jvm.MethodName) method_13_code (4 : Nat) (Option.some Jvm.ClassFile.FieldType.int) [((0 : Nat), (9 : Nat), (12 : Nat), (19 : Nat)), ((0 : Nat), (9 : Nat), (15 : Nat), (13 : Nat))]) ∈ lw_all := lw_g (lw_at lw_m2 238 rfl) rfl
theorem q539 : (Jvm.Cond.methodLink "PromiseDeskLaw" (50 : Nat) ({ cls := "PromiseDesk", name := "combine", desc := "(I)I" } : Jvm.MethodName)) ∈ lw_all := lw_g (lw_at lw_m2 239 rfl) rfl
theorem q543 : (Jvm.Cond.methodLink "PromiseDeskLaw" (122 : Nat) ({ cls := "PromiseDeskLaw", name := "async", desc := "(LPromiseDesk;II[J)I" } : Jvm.MethodName)) ∈ lw_all := lw_g (lw_at lw_m3 3 rfl) rfl
theorem q544 : (Jvm.Cond.static ({ cls := "PromiseDeskLaw", name := "async", desc := "(LPromiseDesk;II[J)I" } : Jvm.MethodName)) ∈ lw_all := lw_g (lw_at lw_m3 4 rfl) rfl
theorem q545 : (Jvm.Cond.codeWith ({ cls := "PromiseDeskLaw", name := "async", desc := "(LPromiseDesk;II[J)I" } : Jvm.MethodName) method_14_code (5 : Nat) (Option.some Jvm.ClassFile.FieldType.int) [((0 : Nat), (10 : Nat), (13 : Nat), (19 : Nat)), ((0 : Nat), (10 : Nat), (17 : Nat), (13 : Nat))]) ∈ lw_all := lw_g (lw_at lw_m3 5 rfl) rfl
theorem q546 : (Jvm.Cond.methodLink "PromiseDeskLaw" (53 : Nat) ({ cls := "PromiseDesk", name := "async", desc := "(II)I" } : Jvm.MethodName)) ∈ lw_all := lw_g (lw_at lw_m3 6 rfl) rfl
theorem q554 : (Jvm.Cond.methodLink "PromiseDeskLaw" (125 : Nat) ({ cls := "PromiseDeskLaw", name := "jobs", desc := "(LPromiseDesk;I[J)I" } : Jvm.MethodName)) ∈ lw_all := lw_g (lw_at lw_m3 14 rfl) rfl
theorem q555 : (Jvm.Cond.static ({ cls := "PromiseDeskLaw", name := "jobs", desc := "(LPromiseDesk;I[J)I" } : Jvm.MethodName)) ∈ lw_all := lw_g (lw_at lw_m3 15 rfl) rfl
theorem q556 : (Jvm.Cond.codeWith ({ cls := "PromiseDeskLaw", name := "jobs", desc := "(LPromiseDesk;I[J)I" } : Jvm.MethodName) method_15_code (4 : Nat) (Option.some Jvm.ClassFile.FieldType.int) [((0 : Nat), (9 : Nat), (12 : Nat), (13 : Nat))]) ∈ lw_all := lw_g (lw_at lw_m3 16 rfl) rfl
theorem q557 : (Jvm.Cond.methodLink "PromiseDeskLaw" (56 : Nat) ({ cls := "PromiseDesk", name := "jobs", desc := "(I)I" } : Jvm.MethodName)) ∈ lw_all := lw_g (lw_at lw_m3 17 rfl) rfl
theorem q569 : (Jvm.Cond.methodLink "PromiseDeskLaw" (128 : Nat) ({ cls := "PromiseDeskLaw", name := "state", desc := "(LPromiseDesk;I[J)I" } : Jvm.MethodName)) ∈ lw_all := lw_g (lw_at lw_m3 29 rfl) rfl
theorem q570 : (Jvm.Cond.static ({ cls := "PromiseDeskLaw", name := "state", desc := "(LPromiseDesk;I[J)I" } : Jvm.MethodName)) ∈ lw_all := lw_g (lw_at lw_m3 30 rfl) rfl
theorem q571 : (Jvm.Cond.codeWith ({ cls := "PromiseDeskLaw", name := "state", desc := "(LPromiseDesk;I[J)I" } : Jvm.MethodName) method_16_code (4 : Nat) (Option.some Jvm.ClassFile.FieldType.int) [((0 : Nat), (9 : Nat), (12 : Nat), (19 : Nat))]) ∈ lw_all := lw_g (lw_at lw_m3 31 rfl) rfl
theorem q572 : (Jvm.Cond.methodLink "PromiseDeskLaw" (59 : Nat) ({ cls := "PromiseDesk", name := "state", desc := "(I)I" } : Jvm.MethodName)) ∈ lw_all := lw_g (lw_at lw_m3 32 rfl) rfl
theorem q576 : (Jvm.Cond.methodLink "PromiseDeskLaw" (131 : Nat) ({ cls := "PromiseDeskLaw", name := "result", desc := "(LPromiseDesk;I[J)I" } : Jvm.MethodName)) ∈ lw_all := lw_g (lw_at lw_m3 36 rfl) rfl
theorem q577 : (Jvm.Cond.static ({ cls := "PromiseDeskLaw", name := "result", desc := "(LPromiseDesk;I[J)I" } : Jvm.MethodName)) ∈ lw_all := lw_g (lw_at lw_m3 37 rfl) rfl
theorem q578 : (Jvm.Cond.codeWith ({ cls := "PromiseDeskLaw", name := "result", desc := "(LPromiseDesk;I[J)I" } : Jvm.MethodName) method_17_code (4 : Nat) (Option.some Jvm.ClassFile.FieldType.int) [((0 : Nat), (9 : Nat), (12 : Nat), (19 : Nat))]) ∈ lw_all := lw_g (lw_at lw_m3 38 rfl) rfl
theorem q579 : (Jvm.Cond.methodLink "PromiseDeskLaw" (62 : Nat) ({ cls := "PromiseDesk", name := "result", desc := "(I)I" } : Jvm.MethodName)) ∈ lw_all := lw_g (lw_at lw_m3 39 rfl) rfl
theorem q583 : (Jvm.Cond.methodLink "PromiseDeskLaw" (134 : Nat) ({ cls := "PromiseDeskLaw", name := "kind", desc := "(LPromiseDesk;I[J)I" } : Jvm.MethodName)) ∈ lw_all := lw_g (lw_at lw_m3 43 rfl) rfl
theorem q584 : (Jvm.Cond.static ({ cls := "PromiseDeskLaw", name := "kind", desc := "(LPromiseDesk;I[J)I" } : Jvm.MethodName)) ∈ lw_all := lw_g (lw_at lw_m3 44 rfl) rfl
theorem q585 : (Jvm.Cond.codeWith ({ cls := "PromiseDeskLaw", name := "kind", desc := "(LPromiseDesk;I[J)I" } : Jvm.MethodName) method_18_code (4 : Nat) (Option.some Jvm.ClassFile.FieldType.int) [((0 : Nat), (9 : Nat), (12 : Nat), (19 : Nat))]) ∈ lw_all := lw_g (lw_at lw_m3 45 rfl) rfl
theorem q586 : (Jvm.Cond.methodLink "PromiseDeskLaw" (65 : Nat) ({ cls := "PromiseDesk", name := "kind", desc := "(I)I" } : Jvm.MethodName)) ∈ lw_all := lw_g (lw_at lw_m3 46 rfl) rfl
theorem q590 : (Jvm.Cond.methodLink "PromiseDeskLaw" (137 : Nat) ({ cls := "PromiseDeskLaw", name := "part", desc := "(LPromiseDesk;II[J)I" } : Jvm.MethodName)) ∈ lw_all := lw_g (lw_at lw_m3 50 rfl) rfl
theorem q591 : (Jvm.Cond.static ({ cls := "PromiseDeskLaw", name := "part", desc := "(LPromiseDesk;II[J)I" } : Jvm.MethodName)) ∈ lw_all := lw_g (lw_at lw_m3 51 rfl) rfl
theorem q592 : (Jvm.Cond.codeWith ({ cls := "PromiseDeskLaw", name := "part", desc := "(LPromiseDesk;II[J)I" } : Jvm.MethodName) method_19_code (5 : Nat) (Option.some Jvm.ClassFile.FieldType.int) [((0 : Nat), (10 : Nat), (13 : Nat), (19 : Nat))]) ∈ lw_all := lw_g (lw_at lw_m3 52 rfl) rfl
theorem q593 : (Jvm.Cond.methodLink "PromiseDeskLaw" (68 : Nat) ({ cls := "PromiseDesk", name := "part", desc := "(II)I" } : Jvm.MethodName)) ∈ lw_all := lw_g (lw_at lw_m3 53 rfl) rfl
theorem q597 : (Jvm.Cond.methodLink "PromiseDeskLaw" (145 : Nat) ({ cls := "PromiseDeskLaw", name := "count", desc := "(LPromiseDesk;I[J)I" } : Jvm.MethodName)) ∈ lw_all := lw_g (lw_at lw_m3 57 rfl) rfl
theorem q598 : (Jvm.Cond.static ({ cls := "PromiseDeskLaw", name := "count", desc := "(LPromiseDesk;I[J)I" } : Jvm.MethodName)) ∈ lw_all := lw_g (lw_at lw_m3 58 rfl) rfl
theorem q599 : (Jvm.Cond.codeWith ({ cls := "PromiseDeskLaw", name := "count", desc := "(LPromiseDesk;I[J)I" } : Jvm.MethodName) method_20_code (4 : Nat) (Option.some Jvm.ClassFile.FieldType.int) [((0 : Nat), (9 : Nat), (12 : Nat), (19 : Nat))]) ∈ lw_all := lw_g (lw_at lw_m3 59 rfl) rfl
theorem q600 : (Jvm.Cond.methodLink "PromiseDeskLaw" (71 : Nat) ({ cls := "PromiseDesk", name := "count", desc := "(I)I" } : Jvm.MethodName)) ∈ lw_all := lw_g (lw_at lw_m3 60 rfl) rfl
theorem q604 : (Jvm.Cond.classLink "PromiseDeskLaw" (75 : Nat) "PromiseDeskModel") ∈ lw_all := lw_g (lw_at lw_m3 64 rfl) rfl
theorem q606 : (Jvm.Cond.methodLink "PromiseDeskLaw" (77 : Nat) ({ cls := "PromiseDeskModel", name := "<init>", desc := "()V" } : Jvm.MethodName)) ∈ lw_all := lw_g (lw_at lw_m3 66 rfl) rfl
theorem q767 : (Jvm.Cond.methodLink "PromiseDeskLaw" (84 : Nat) ({ cls := "PromiseDeskModel", name := "thrown", desc := "()I" } : Jvm.MethodName)) ∈ lw_all := lw_g (lw_at lw_m3 227 rfl) rfl
theorem q771 : (Jvm.Cond.methodLink "PromiseDeskLaw" (83 : Nat) ({ cls := "PromiseDeskModel", name := "promise", desc := "()I" } : Jvm.MethodName)) ∈ lw_all := lw_g (lw_at lw_m3 231 rfl) rfl
theorem q798 : (Jvm.Cond.methodLink "PromiseDeskLaw" (90 : Nat) ({ cls := "PromiseDeskModel", name := "handler", desc := "(II)I" } : Jvm.MethodName)) ∈ lw_all := lw_g (lw_at lw_m4 18 rfl) rfl
theorem q818 : (Jvm.Cond.methodLink "PromiseDeskLaw" (94 : Nat) ({ cls := "PromiseDeskModel", name := "thenable", desc := "(IIIII)I" } : Jvm.MethodName)) ∈ lw_all := lw_g (lw_at lw_m4 38 rfl) rfl
theorem q822 : (Jvm.Cond.methodLink "PromiseDeskLaw" (98 : Nat) ({ cls := "PromiseDeskModel", name := "settle", desc := "(IZI)Z" } : Jvm.MethodName)) ∈ lw_all := lw_g (lw_at lw_m4 42 rfl) rfl
theorem q842 : (Jvm.Cond.methodLink "PromiseDeskLaw" (101 : Nat) ({ cls := "PromiseDeskModel", name := "later", desc := "(IZI)I" } : Jvm.MethodName)) ∈ lw_all := lw_g (lw_at lw_m4 62 rfl) rfl
theorem q846 : (Jvm.Cond.methodLink "PromiseDeskLaw" (105 : Nat) ({ cls := "PromiseDeskModel", name := "then", desc := "(IIIZ)I" } : Jvm.MethodName)) ∈ lw_all := lw_g (lw_at lw_m4 66 rfl) rfl
theorem q862 : (Jvm.Cond.methodLink "PromiseDeskLaw" (108 : Nat) ({ cls := "PromiseDeskModel", name := "lastly", desc := "(II)I" } : Jvm.MethodName)) ∈ lw_all := lw_g (lw_at lw_m4 82 rfl) rfl
theorem q866 : (Jvm.Cond.methodLink "PromiseDeskLaw" (112 : Nat) ({ cls := "PromiseDeskModel", name := "wrap", desc := "(I)I" } : Jvm.MethodName)) ∈ lw_all := lw_g (lw_at lw_m4 86 rfl) rfl
theorem q874 : (Jvm.Cond.methodLink "PromiseDeskLaw" (115 : Nat) ({ cls := "PromiseDeskModel", name := "broken", desc := "(I)I" } : Jvm.MethodName)) ∈ lw_all := lw_g (lw_at lw_m4 94 rfl) rfl
theorem q878 : (Jvm.Cond.methodLink "PromiseDeskLaw" (118 : Nat) ({ cls := "PromiseDeskModel", name := "item", desc := "(I)I" } : Jvm.MethodName)) ∈ lw_all := lw_g (lw_at lw_m4 98 rfl) rfl
theorem q882 : (Jvm.Cond.methodLink "PromiseDeskLaw" (121 : Nat) ({ cls := "PromiseDeskModel", name := "combine", desc := "(I)I" } : Jvm.MethodName)) ∈ lw_all := lw_g (lw_at lw_m4 102 rfl) rfl
theorem q898 : (Jvm.Cond.methodLink "PromiseDeskLaw" (124 : Nat) ({ cls := "PromiseDeskModel", name := "async", desc := "(II)I" } : Jvm.MethodName)) ∈ lw_all := lw_g (lw_at lw_m4 118 rfl) rfl
theorem q906 : (Jvm.Cond.methodLink "PromiseDeskLaw" (127 : Nat) ({ cls := "PromiseDeskModel", name := "jobs", desc := "(I)I" } : Jvm.MethodName)) ∈ lw_all := lw_g (lw_at lw_m4 126 rfl) rfl
theorem q946 : (Jvm.Cond.methodLink "PromiseDeskLaw" (130 : Nat) ({ cls := "PromiseDeskModel", name := "state", desc := "(I)I" } : Jvm.MethodName)) ∈ lw_all := lw_g (lw_at lw_m4 166 rfl) rfl
theorem q950 : (Jvm.Cond.methodLink "PromiseDeskLaw" (133 : Nat) ({ cls := "PromiseDeskModel", name := "result", desc := "(I)I" } : Jvm.MethodName)) ∈ lw_all := lw_g (lw_at lw_m4 170 rfl) rfl
theorem q954 : (Jvm.Cond.methodLink "PromiseDeskLaw" (136 : Nat) ({ cls := "PromiseDeskModel", name := "kind", desc := "(I)I" } : Jvm.MethodName)) ∈ lw_all := lw_g (lw_at lw_m4 174 rfl) rfl
theorem q958 : (Jvm.Cond.methodLink "PromiseDeskLaw" (139 : Nat) ({ cls := "PromiseDeskModel", name := "part", desc := "(II)I" } : Jvm.MethodName)) ∈ lw_all := lw_g (lw_at lw_m4 178 rfl) rfl
theorem q962 : (Jvm.Cond.methodLink "PromiseDeskLaw" (144 : Nat) ({ cls := "PromiseDeskModel", name := "log", desc := "(IZ)I" } : Jvm.MethodName)) ∈ lw_all := lw_g (lw_at lw_m4 182 rfl) rfl
theorem q967 : (Jvm.Cond.methodLink "PromiseDeskLaw" (147 : Nat) ({ cls := "PromiseDeskModel", name := "count", desc := "(I)I" } : Jvm.MethodName)) ∈ lw_all := lw_g (lw_at lw_m4 187 rfl) rfl
theorem q349 : (Jvm.Cond.sameMethod "[I" "java/lang/Object" "clone" "()Ljava/lang/Object;") ∈ lw_all := lw_g (lw_at lw_m2 49 rfl) rfl
set_option maxRecDepth 100000
theorem q352 : (Jvm.Cond.selects "[I" ({ cls := "[I", name := "clone", desc := "()Ljava/lang/Object;" } : Jvm.MethodName) ({ cls := "java/lang/Object", name := "clone", desc := "()Ljava/lang/Object;" } : Jvm.MethodName)) ∈ lw_all := lw_g (lw_at lw_m2 52 rfl) rfl
theorem q353 : (Jvm.Cond.castable "[I" "java/lang/Cloneable") ∈ lw_tbl := lw_at lw_m2 53 rfl
theorem q69 : (Jvm.Cond.initialized "java/lang/System") ∈ lw_all := lw_g (lw_at lw_m1 9 rfl) rfl
set_option maxRecDepth 100000
theorem q359 : (Jvm.Cond.static ({ cls := "java/lang/System", name := "arraycopy", desc := "(Ljava/lang/Object;ILjava/lang/Object;II)V" } : Jvm.MethodName)) ∈ lw_all := lw_g (lw_at lw_m2 59 rfl) rfl
theorem q360 : (Jvm.Cond.native ({ cls := "java/lang/System", name := "arraycopy", desc := "(Ljava/lang/Object;ILjava/lang/Object;II)V" } : Jvm.MethodName)) ∈ lw_all := lw_g (lw_at lw_m2 60 rfl) rfl
theorem q248 : (Jvm.Cond.arrayClass Jvm.ClassFile.FieldType.int) ∈ lw_all := lw_g (lw_at lw_m1 188 rfl) rfl
set_option maxRecDepth 100000
theorem q249 : (Jvm.Cond.arrayClass Jvm.ClassFile.FieldType.boolean) ∈ lw_all := lw_g (lw_at lw_m1 189 rfl) rfl
theorem q971 : (Jvm.Cond.arrayClass Jvm.ClassFile.FieldType.long) ∈ lw_all := lw_g (lw_at lw_m4 191 rfl) rfl
