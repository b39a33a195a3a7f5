/-! PromiseDesk -/
set_option maxRecDepth 100000
def RX1 : String := "PromiseDesk"
def TX1 : u_T := fun k => match k with
  | 0 => ("PromiseDesk", "kind", "[I", true)
  | 1 => ("PromiseDesk", "state", "[I", true)
  | 2 => ("PromiseDesk", "result", "[I", true)
  | 3 => ("PromiseDesk", "first", "[I", true)
  | 4 => ("PromiseDesk", "last", "[I", true)
  | 5 => ("PromiseDesk", "own", "[I", true)
  | 6 => ("PromiseDesk", "handled", "[Z", true)
  | 7 => ("PromiseDesk", "objects", "I", false)
  | 8 => ("PromiseDesk", "getting", "[I", true)
  | 9 => ("PromiseDesk", "actA", "[I", true)
  | 10 => ("PromiseDesk", "valueA", "[I", true)
  | 11 => ("PromiseDesk", "actB", "[I", true)
  | 12 => ("PromiseDesk", "valueB", "[I", true)
  | 13 => ("PromiseDesk", "keptYes", "[I", true)
  | 14 => ("PromiseDesk", "keptNo", "[I", true)
  | 15 => ("PromiseDesk", "fKind", "[I", false)
  | 16 => ("PromiseDesk", "fA", "[I", false)
  | 17 => ("PromiseDesk", "fB", "[I", false)
  | 18 => ("PromiseDesk", "fC", "[I", false)
  | 19 => ("PromiseDesk", "functions", "I", false)
  | 20 => ("PromiseDesk", "cell", "[I", false)
  | 21 => ("PromiseDesk", "cells", "I", false)
  | 22 => ("PromiseDesk", "wYes", "[I", false)
  | 23 => ("PromiseDesk", "wNo", "[I", false)
  | 24 => ("PromiseDesk", "wYesTo", "[I", false)
  | 25 => ("PromiseDesk", "wNoTo", "[I", false)
  | 26 => ("PromiseDesk", "wAsync", "[I", false)
  | 27 => ("PromiseDesk", "wNext", "[I", false)
  | 28 => ("PromiseDesk", "waits", "I", false)
  | 29 => ("PromiseDesk", "jWhat", "[I", false)
  | 30 => ("PromiseDesk", "jState", "[I", false)
  | 31 => ("PromiseDesk", "jValue", "[I", false)
  | 32 => ("PromiseDesk", "jNext", "[I", false)
  | 33 => ("PromiseDesk", "jobs", "I", false)
  | 34 => ("PromiseDesk", "jobFirst", "I", false)
  | 35 => ("PromiseDesk", "jobLast", "I", false)
  | 36 => ("PromiseDesk", "jobCount", "I", false)
  | 37 => ("PromiseDesk", "jobFree", "I", false)
  | 38 => ("PromiseDesk", "values", "[I", false)
  | 39 => ("PromiseDesk", "valueTop", "I", false)
  | 40 => ("PromiseDesk", "list", "[I", true)
  | 41 => ("PromiseDesk", "listMany", "I", false)
  | 42 => ("PromiseDesk", "aAt", "[I", false)
  | 43 => ("PromiseDesk", "aEnd", "[I", false)
  | 44 => ("PromiseDesk", "aHandler", "[I", false)
  | 45 => ("PromiseDesk", "aLast", "[I", false)
  | 46 => ("PromiseDesk", "aYes", "[I", false)
  | 47 => ("PromiseDesk", "aNo", "[I", false)
  | 48 => ("PromiseDesk", "asyncs", "I", false)
  | 49 => ("PromiseDesk", "users", "[I", true)
  | 50 => ("PromiseDesk", "userMany", "I", false)
  | 51 => ("PromiseDesk", "logWho", "[I", false)
  | 52 => ("PromiseDesk", "logWhat", "[I", false)
  | 53 => ("PromiseDesk", "logged", "I", false)
  | 54 => ("PromiseDesk", "thrown", "Z", false)
  | _ => ("PromiseDesk", "raised", "I", false)
def tyX1 : Nat → FieldType := fun k => match k with
  | 0 => .array .int
  | 1 => .array .int
  | 2 => .array .int
  | 3 => .array .int
  | 4 => .array .int
  | 5 => .array .int
  | 6 => .array .boolean
  | 7 => .int
  | 8 => .array .int
  | 9 => .array .int
  | 10 => .array .int
  | 11 => .array .int
  | 12 => .array .int
  | 13 => .array .int
  | 14 => .array .int
  | 15 => .array .int
  | 16 => .array .int
  | 17 => .array .int
  | 18 => .array .int
  | 19 => .int
  | 20 => .array .int
  | 21 => .int
  | 22 => .array .int
  | 23 => .array .int
  | 24 => .array .int
  | 25 => .array .int
  | 26 => .array .int
  | 27 => .array .int
  | 28 => .int
  | 29 => .array .int
  | 30 => .array .int
  | 31 => .array .int
  | 32 => .array .int
  | 33 => .int
  | 34 => .int
  | 35 => .int
  | 36 => .int
  | 37 => .int
  | 38 => .array .int
  | 39 => .int
  | 40 => .array .int
  | 41 => .int
  | 42 => .array .int
  | 43 => .array .int
  | 44 => .array .int
  | 45 => .array .int
  | 46 => .array .int
  | 47 => .array .int
  | 48 => .int
  | 49 => .array .int
  | 50 => .int
  | 51 => .array .int
  | 52 => .array .int
  | 53 => .int
  | 54 => .boolean
  | _ => .int
abbrev wsX10 : List Cond := u_ws RX1 TX1 56
set_option maxRecDepth 100000 in
theorem nmX1 : ∀ a, a < 56 → ∀ b, b < 56 → a ≠ b → (TX1 a).2.1 ≠ (TX1 b).2.1 := by decide +kernel
set_option maxRecDepth 100000 in
theorem tyX1_ok : ∀ k, k < 56 → parseFieldDescriptor (TX1 k).2.2.1 = some (tyX1 k) := by decide +kernel
abbrev cX1_init : ByteArray := prog_1_method_1_code
def yX1_init : MethodName := ⟨RX1, "<init>", "()V"⟩
abbrev cX1_log : ByteArray := prog_1_method_52_code
def yX1_log : MethodName := ⟨RX1, "log", "(IZ)I"⟩
abbrev cX1_promise : ByteArray := prog_1_method_35_code
def yX1_promise : MethodName := ⟨RX1, "promise", "()I"⟩
abbrev cX1_room : ByteArray := prog_1_method_31_code
def yX1_room : MethodName := ⟨RX1, "room", "(I)V"⟩
abbrev cX1_newPromise : ByteArray := prog_1_method_13_code
def yX1_newPromise : MethodName := ⟨RX1, "newPromise", "()I"⟩
abbrev cX1_object : ByteArray := prog_1_method_5_code
def yX1_object : MethodName := ⟨RX1, "object", "(I)I"⟩
abbrev cX1_functionsOf : ByteArray := prog_1_method_12_code
def yX1_functionsOf : MethodName := ⟨RX1, "functionsOf", "(I)I"⟩
abbrev cX1_newCell : ByteArray := prog_1_method_7_code
def yX1_newCell : MethodName := ⟨RX1, "newCell", "(I)I"⟩
abbrev cX1_function : ByteArray := prog_1_method_6_code
def yX1_function : MethodName := ⟨RX1, "function", "(IIII)I"⟩
abbrev cX1_valueOf : ByteArray := prog_1_method_4_code
def yX1_valueOf : MethodName := ⟨RX1, "valueOf", "(I)I"⟩
abbrev cX1_handler : ByteArray := prog_1_method_36_code
def yX1_handler : MethodName := ⟨RX1, "handler", "(II)I"⟩
abbrev cX1_isValue : ByteArray := prog_1_method_32_code
def yX1_isValue : MethodName := ⟨RX1, "isValue", "(I)Z"⟩
abbrev cX1_id : ByteArray := prog_1_method_3_code
def yX1_id : MethodName := ⟨RX1, "id", "(I)I"⟩
abbrev cX1_need : ByteArray := prog_1_method_30_code
def yX1_need : MethodName := ⟨RX1, "need", "(Z)V"⟩
abbrev cX1_promiseOf : ByteArray := prog_1_method_33_code
def yX1_promiseOf : MethodName := ⟨RX1, "promiseOf", "(I)I"⟩
abbrev cX1_isObject : ByteArray := prog_1_method_2_code
def yX1_isObject : MethodName := ⟨RX1, "isObject", "(I)Z"⟩
abbrev cX1_thenable : ByteArray := prog_1_method_37_code
def yX1_thenable : MethodName := ⟨RX1, "thenable", "(IIIII)I"⟩
abbrev cX1_settle : ByteArray := prog_1_method_38_code
def yX1_settle : MethodName := ⟨RX1, "settle", "(IZI)Z"⟩
abbrev cX1_call : ByteArray := prog_1_method_21_code
def yX1_call : MethodName := ⟨RX1, "call", "(II)I"⟩
abbrev cX1_user : ByteArray := prog_1_method_23_code
def yX1_user : MethodName := ⟨RX1, "user", "(II)I"⟩
abbrev cX1_log_2 : ByteArray := prog_1_method_22_code
def yX1_log_2 : MethodName := ⟨RX1, "log", "(II)V"⟩
abbrev cX1_raise : ByteArray := prog_1_method_11_code
def yX1_raise : MethodName := ⟨RX1, "raise", "(I)I"⟩
abbrev cX1_resolve : ByteArray := prog_1_method_16_code
def yX1_resolve : MethodName := ⟨RX1, "resolve", "(II)V"⟩
abbrev cX1_error : ByteArray := prog_1_method_10_code
def yX1_error : MethodName := ⟨RX1, "error", "()I"⟩
abbrev cX1_settle_2 : ByteArray := prog_1_method_15_code
def yX1_settle_2 : MethodName := ⟨RX1, "settle", "(III)V"⟩
abbrev cX1_enqueue : ByteArray := prog_1_method_14_code
def yX1_enqueue : MethodName := ⟨RX1, "enqueue", "(III)V"⟩
abbrev cX1_element : ByteArray := prog_1_method_24_code
def yX1_element : MethodName := ⟨RX1, "element", "(II)I"⟩
abbrev cX1_row : ByteArray := prog_1_method_8_code
def yX1_row : MethodName := ⟨RX1, "row", "(I)I"⟩
abbrev cX1_holder : ByteArray := prog_1_method_9_code
def yX1_holder : MethodName := ⟨RX1, "holder", "(III)I"⟩
abbrev cX1_lessLeft : ByteArray := prog_1_method_25_code
def yX1_lessLeft : MethodName := ⟨RX1, "lessLeft", "(IZ)I"⟩
abbrev cX1_manyError : ByteArray := prog_1_method_26_code
def yX1_manyError : MethodName := ⟨RX1, "manyError", "(I)I"⟩
abbrev cX1_wrapped : ByteArray := prog_1_method_20_code
def yX1_wrapped : MethodName := ⟨RX1, "wrapped", "(I)I"⟩
abbrev cX1_then : ByteArray := prog_1_method_19_code
def yX1_then : MethodName := ⟨RX1, "then", "(III)I"⟩
abbrev cX1_wait : ByteArray := prog_1_method_17_code
def yX1_wait : MethodName := ⟨RX1, "wait", "(IIIII)I"⟩
abbrev cX1_perform : ByteArray := prog_1_method_18_code
def yX1_perform : MethodName := ⟨RX1, "perform", "(II)V"⟩
abbrev cX1_later : ByteArray := prog_1_method_39_code
def yX1_later : MethodName := ⟨RX1, "later", "(IZI)I"⟩
abbrev cX1_then_2 : ByteArray := prog_1_method_40_code
def yX1_then_2 : MethodName := ⟨RX1, "then", "(IIIZ)I"⟩
abbrev cX1_handlerOf : ByteArray := prog_1_method_34_code
def yX1_handlerOf : MethodName := ⟨RX1, "handlerOf", "(I)I"⟩
abbrev cX1_lastly : ByteArray := prog_1_method_41_code
def yX1_lastly : MethodName := ⟨RX1, "lastly", "(II)I"⟩
abbrev cX1_wrap : ByteArray := prog_1_method_42_code
def yX1_wrap : MethodName := ⟨RX1, "wrap", "(I)I"⟩
abbrev cX1_broken : ByteArray := prog_1_method_43_code
def yX1_broken : MethodName := ⟨RX1, "broken", "(I)I"⟩
abbrev cX1_item : ByteArray := prog_1_method_44_code
def yX1_item : MethodName := ⟨RX1, "item", "(I)I"⟩
abbrev cX1_combine : ByteArray := prog_1_method_45_code
def yX1_combine : MethodName := ⟨RX1, "combine", "(I)I"⟩
abbrev cX1_async : ByteArray := prog_1_method_46_code
def yX1_async : MethodName := ⟨RX1, "async", "(II)I"⟩
abbrev cX1_goOn : ByteArray := prog_1_method_29_code
def yX1_goOn : MethodName := ⟨RX1, "goOn", "(III)V"⟩
abbrev cX1_jobs : ByteArray := prog_1_method_47_code
def yX1_jobs : MethodName := ⟨RX1, "jobs", "(I)I"⟩
abbrev cX1_job : ByteArray := prog_1_method_28_code
def yX1_job : MethodName := ⟨RX1, "job", "(I)V"⟩
abbrev cX1_callThen : ByteArray := prog_1_method_27_code
def yX1_callThen : MethodName := ⟨RX1, "callThen", "(III)V"⟩
abbrev cX1_state : ByteArray := prog_1_method_48_code
def yX1_state : MethodName := ⟨RX1, "state", "(I)I"⟩
abbrev cX1_result : ByteArray := prog_1_method_49_code
def yX1_result : MethodName := ⟨RX1, "result", "(I)I"⟩
abbrev cX1_kind : ByteArray := prog_1_method_50_code
def yX1_kind : MethodName := ⟨RX1, "kind", "(I)I"⟩
abbrev cX1_part : ByteArray := prog_1_method_51_code
def yX1_part : MethodName := ⟨RX1, "part", "(II)I"⟩
abbrev cX1_count : ByteArray := prog_1_method_53_code
def yX1_count : MethodName := ⟨RX1, "count", "(I)I"⟩
theorem q61 : (Jvm.Cond.initialized "PromiseDesk") ∈ lw_all := lw_g (lw_at lw_m1 1 rfl) rfl
theorem q72 : (Jvm.Cond.instantiable "PromiseDesk" (56 : Nat)) ∈ lw_all := lw_g (lw_at lw_m1 12 rfl) rfl
theorem q74 : (Jvm.Cond.instanceMethod ({ cls := "PromiseDesk", name := "<init>", desc := "()V" } : Jvm.MethodName)) ∈ lw_all := lw_g (lw_at lw_m1 14 rfl) rfl
theorem q75 : (Jvm.Cond.code ({ cls := "PromiseDesk", name := "<init>", desc := "()V" } : Jvm.MethodName) prog_1_method_1_code (1 : Nat) (Option.none : Option Jvm.ClassFile.FieldType)) ∈ lw_all := lw_g (lw_at lw_m1 15 rfl) rfl
theorem q76 : (Jvm.Cond.methodLink "PromiseDesk" (1 : Nat) ({ cls := "java/lang/Object", name := "<init>", desc := "()V" } : Jvm.MethodName)) ∈ lw_all := lw_g (lw_at lw_m1 16 rfl) rfl
theorem q79 : (Jvm.Cond.fieldLink "PromiseDesk" (9 : Nat) "PromiseDesk" "kind" "[I") ∈ lw_all := lw_g (lw_at lw_m1 19 rfl) rfl
theorem q80 : (Jvm.Cond.fieldLink "PromiseDesk" (13 : Nat) "PromiseDesk" "state" "[I") ∈ lw_all := lw_g (lw_at lw_m1 20 rfl) rfl
theorem q81 : (Jvm.Cond.fieldLink "PromiseDesk" (16 : Nat) "PromiseDesk" "result" "[I") ∈ lw_all := lw_g (lw_at lw_m1 21 rfl) rfl
theorem q82 : (Jvm.Cond.fieldLink "PromiseDesk" (19 : Nat) "PromiseDesk" "first" "[I") ∈ lw_all := lw_g (lw_at lw_m1 22 rfl) rfl
theorem q83 : (Jvm.Cond.fieldLink "PromiseDesk" (22 : Nat) "PromiseDesk" "last" "[I") ∈ lw_all := lw_g (lw_at lw_m1 23 rfl) rfl
theorem q84 : (Jvm.Cond.fieldLink "PromiseDesk" (25 : Nat) "PromiseDesk" "own" "[I") ∈ lw_all := lw_g (lw_at lw_m1 24 rfl) rfl
theorem q85 : (Jvm.Cond.fieldLink "PromiseDesk" (28 : Nat) "PromiseDesk" "handled" "[Z") ∈ lw_all := lw_g (lw_at lw_m1 25 rfl) rfl
theorem q86 : (Jvm.Cond.fieldLink "PromiseDesk" (138 : Nat) "PromiseDesk" "objects" "I") ∈ lw_all := lw_g (lw_at lw_m1 26 rfl) rfl
theorem q87 : (Jvm.Cond.fieldLink "PromiseDesk" (32 : Nat) "PromiseDesk" "getting" "[I") ∈ lw_all := lw_g (lw_at lw_m1 27 rfl) rfl
theorem q88 : (Jvm.Cond.fieldLink "PromiseDesk" (35 : Nat) "PromiseDesk" "actA" "[I") ∈ lw_all := lw_g (lw_at lw_m1 28 rfl) rfl
theorem q89 : (Jvm.Cond.fieldLink "PromiseDesk" (38 : Nat) "PromiseDesk" "valueA" "[I") ∈ lw_all := lw_g (lw_at lw_m1 29 rfl) rfl
theorem q90 : (Jvm.Cond.fieldLink "PromiseDesk" (41 : Nat) "PromiseDesk" "actB" "[I") ∈ lw_all := lw_g (lw_at lw_m1 30 rfl) rfl
theorem q91 : (Jvm.Cond.fieldLink "PromiseDesk" (44 : Nat) "PromiseDesk" "valueB" "[I") ∈ lw_all := lw_g (lw_at lw_m1 31 rfl) rfl
theorem q92 : (Jvm.Cond.fieldLink "PromiseDesk" (47 : Nat) "PromiseDesk" "keptYes" "[I") ∈ lw_all := lw_g (lw_at lw_m1 32 rfl) rfl
theorem q93 : (Jvm.Cond.fieldLink "PromiseDesk" (50 : Nat) "PromiseDesk" "keptNo" "[I") ∈ lw_all := lw_g (lw_at lw_m1 33 rfl) rfl
theorem q94 : (Jvm.Cond.fieldLink "PromiseDesk" (53 : Nat) "PromiseDesk" "fKind" "[I") ∈ lw_all := lw_g (lw_at lw_m1 34 rfl) rfl
theorem q95 : (Jvm.Cond.fieldLink "PromiseDesk" (56 : Nat) "PromiseDesk" "fA" "[I") ∈ lw_all := lw_g (lw_at lw_m1 35 rfl) rfl
theorem q96 : (Jvm.Cond.fieldLink "PromiseDesk" (59 : Nat) "PromiseDesk" "fB" "[I") ∈ lw_all := lw_g (lw_at lw_m1 36 rfl) rfl
theorem q97 : (Jvm.Cond.fieldLink "PromiseDesk" (62 : Nat) "PromiseDesk" "fC" "[I") ∈ lw_all := lw_g (lw_at lw_m1 37 rfl) rfl
theorem q98 : (Jvm.Cond.fieldLink "PromiseDesk" (141 : Nat) "PromiseDesk" "functions" "I") ∈ lw_all := lw_g (lw_at lw_m1 38 rfl) rfl
theorem q99 : (Jvm.Cond.fieldLink "PromiseDesk" (65 : Nat) "PromiseDesk" "cell" "[I") ∈ lw_all := lw_g (lw_at lw_m1 39 rfl) rfl
theorem q100 : (Jvm.Cond.fieldLink "PromiseDesk" (150 : Nat) "PromiseDesk" "cells" "I") ∈ lw_all := lw_g (lw_at lw_m1 40 rfl) rfl
theorem q101 : (Jvm.Cond.fieldLink "PromiseDesk" (68 : Nat) "PromiseDesk" "wYes" "[I") ∈ lw_all := lw_g (lw_at lw_m1 41 rfl) rfl
theorem q102 : (Jvm.Cond.fieldLink "PromiseDesk" (71 : Nat) "PromiseDesk" "wNo" "[I") ∈ lw_all := lw_g (lw_at lw_m1 42 rfl) rfl
theorem q103 : (Jvm.Cond.fieldLink "PromiseDesk" (74 : Nat) "PromiseDesk" "wYesTo" "[I") ∈ lw_all := lw_g (lw_at lw_m1 43 rfl) rfl
theorem q104 : (Jvm.Cond.fieldLink "PromiseDesk" (77 : Nat) "PromiseDesk" "wNoTo" "[I") ∈ lw_all := lw_g (lw_at lw_m1 44 rfl) rfl
theorem q105 : (Jvm.Cond.fieldLink "PromiseDesk" (80 : Nat) "PromiseDesk" "wAsync" "[I") ∈ lw_all := lw_g (lw_at lw_m1 45 rfl) rfl
theorem q106 : (Jvm.Cond.fieldLink "PromiseDesk" (83 : Nat) "PromiseDesk" "wNext" "[I") ∈ lw_all := lw_g (lw_at lw_m1 46 rfl) rfl
theorem q107 : (Jvm.Cond.fieldLink "PromiseDesk" (86 : Nat) "PromiseDesk" "waits" "I") ∈ lw_all := lw_g (lw_at lw_m1 47 rfl) rfl
theorem q108 : (Jvm.Cond.fieldLink "PromiseDesk" (90 : Nat) "PromiseDesk" "jWhat" "[I") ∈ lw_all := lw_g (lw_at lw_m1 48 rfl) rfl
theorem q109 : (Jvm.Cond.fieldLink "PromiseDesk" (93 : Nat) "PromiseDesk" "jState" "[I") ∈ lw_all := lw_g (lw_at lw_m1 49 rfl) rfl
theorem q110 : (Jvm.Cond.fieldLink "PromiseDesk" (96 : Nat) "PromiseDesk" "jValue" "[I") ∈ lw_all := lw_g (lw_at lw_m1 50 rfl) rfl
theorem q111 : (Jvm.Cond.fieldLink "PromiseDesk" (99 : Nat) "PromiseDesk" "jNext" "[I") ∈ lw_all := lw_g (lw_at lw_m1 51 rfl) rfl
theorem q112 : (Jvm.Cond.fieldLink "PromiseDesk" (102 : Nat) "PromiseDesk" "jobs" "I") ∈ lw_all := lw_g (lw_at lw_m1 52 rfl) rfl
theorem q113 : (Jvm.Cond.fieldLink "PromiseDesk" (177 : Nat) "PromiseDesk" "jobFirst" "I") ∈ lw_all := lw_g (lw_at lw_m1 53 rfl) rfl
theorem q114 : (Jvm.Cond.fieldLink "PromiseDesk" (180 : Nat) "PromiseDesk" "jobLast" "I") ∈ lw_all := lw_g (lw_at lw_m1 54 rfl) rfl
theorem q115 : (Jvm.Cond.fieldLink "PromiseDesk" (183 : Nat) "PromiseDesk" "jobCount" "I") ∈ lw_all := lw_g (lw_at lw_m1 55 rfl) rfl
theorem q116 : (Jvm.Cond.fieldLink "PromiseDesk" (174 : Nat) "PromiseDesk" "jobFree" "I") ∈ lw_all := lw_g (lw_at lw_m1 56 rfl) rfl
theorem q117 : (Jvm.Cond.fieldLink "PromiseDesk" (105 : Nat) "PromiseDesk" "values" "[I") ∈ lw_all := lw_g (lw_at lw_m1 57 rfl) rfl
theorem q118 : (Jvm.Cond.fieldLink "PromiseDesk" (153 : Nat) "PromiseDesk" "valueTop" "I") ∈ lw_all := lw_g (lw_at lw_m1 58 rfl) rfl
theorem q119 : (Jvm.Cond.fieldLink "PromiseDesk" (108 : Nat) "PromiseDesk" "list" "[I") ∈ lw_all := lw_g (lw_at lw_m1 59 rfl) rfl
theorem q120 : (Jvm.Cond.fieldLink "PromiseDesk" (295 : Nat) "PromiseDesk" "listMany" "I") ∈ lw_all := lw_g (lw_at lw_m1 60 rfl) rfl
theorem q121 : (Jvm.Cond.fieldLink "PromiseDesk" (111 : Nat) "PromiseDesk" "aAt" "[I") ∈ lw_all := lw_g (lw_at lw_m1 61 rfl) rfl
theorem q122 : (Jvm.Cond.fieldLink "PromiseDesk" (114 : Nat) "PromiseDesk" "aEnd" "[I") ∈ lw_all := lw_g (lw_at lw_m1 62 rfl) rfl
theorem q123 : (Jvm.Cond.fieldLink "PromiseDesk" (117 : Nat) "PromiseDesk" "aHandler" "[I") ∈ lw_all := lw_g (lw_at lw_m1 63 rfl) rfl
theorem q124 : (Jvm.Cond.fieldLink "PromiseDesk" (120 : Nat) "PromiseDesk" "aLast" "[I") ∈ lw_all := lw_g (lw_at lw_m1 64 rfl) rfl
theorem q125 : (Jvm.Cond.fieldLink "PromiseDesk" (123 : Nat) "PromiseDesk" "aYes" "[I") ∈ lw_all := lw_g (lw_at lw_m1 65 rfl) rfl
theorem q126 : (Jvm.Cond.fieldLink "PromiseDesk" (126 : Nat) "PromiseDesk" "aNo" "[I") ∈ lw_all := lw_g (lw_at lw_m1 66 rfl) rfl
theorem q127 : (Jvm.Cond.fieldLink "PromiseDesk" (298 : Nat) "PromiseDesk" "asyncs" "I") ∈ lw_all := lw_g (lw_at lw_m1 67 rfl) rfl
theorem q128 : (Jvm.Cond.fieldLink "PromiseDesk" (129 : Nat) "PromiseDesk" "users" "[I") ∈ lw_all := lw_g (lw_at lw_m1 68 rfl) rfl
theorem q129 : (Jvm.Cond.fieldLink "PromiseDesk" (279 : Nat) "PromiseDesk" "userMany" "I") ∈ lw_all := lw_g (lw_at lw_m1 69 rfl) rfl
theorem q130 : (Jvm.Cond.fieldLink "PromiseDesk" (132 : Nat) "PromiseDesk" "logWho" "[I") ∈ lw_all := lw_g (lw_at lw_m1 70 rfl) rfl
theorem q131 : (Jvm.Cond.fieldLink "PromiseDesk" (135 : Nat) "PromiseDesk" "logWhat" "[I") ∈ lw_all := lw_g (lw_at lw_m1 71 rfl) rfl
theorem q132 : (Jvm.Cond.fieldLink "PromiseDesk" (241 : Nat) "PromiseDesk" "logged" "I") ∈ lw_all := lw_g (lw_at lw_m1 72 rfl) rfl
theorem q133 : (Jvm.Cond.fieldLink "PromiseDesk" (163 : Nat) "PromiseDesk" "thrown" "Z") ∈ lw_all := lw_g (lw_at lw_m1 73 rfl) rfl
theorem q134 : (Jvm.Cond.fieldLink "PromiseDesk" (260 : Nat) "PromiseDesk" "raised" "I") ∈ lw_all := lw_g (lw_at lw_m1 74 rfl) rfl
theorem q135 : (Jvm.Cond.laysFinal "PromiseDesk" "PromiseDesk" "kind" "[I") ∈ lw_all := lw_g (lw_at lw_m1 75 rfl) rfl
theorem q136 : (Jvm.Cond.soleField "PromiseDesk" "kind") ∈ lw_all := lw_g (lw_at lw_m1 76 rfl) rfl
theorem q137 : (Jvm.Cond.laysFinal "PromiseDesk" "PromiseDesk" "state" "[I") ∈ lw_all := lw_g (lw_at lw_m1 77 rfl) rfl
theorem q138 : (Jvm.Cond.soleField "PromiseDesk" "state") ∈ lw_all := lw_g (lw_at lw_m1 78 rfl) rfl
theorem q139 : (Jvm.Cond.laysFinal "PromiseDesk" "PromiseDesk" "result" "[I") ∈ lw_all := lw_g (lw_at lw_m1 79 rfl) rfl
theorem q140 : (Jvm.Cond.soleField "PromiseDesk" "result") ∈ lw_all := lw_g (lw_at lw_m1 80 rfl) rfl
theorem q141 : (Jvm.Cond.laysFinal "PromiseDesk" "PromiseDesk" "first" "[I") ∈ lw_all := lw_g (lw_at lw_m1 81 rfl) rfl
theorem q142 : (Jvm.Cond.soleField "PromiseDesk" "first") ∈ lw_all := lw_g (lw_at lw_m1 82 rfl) rfl
theorem q143 : (Jvm.Cond.laysFinal "PromiseDesk" "PromiseDesk" "last" "[I") ∈ lw_all := lw_g (lw_at lw_m1 83 rfl) rfl
theorem q144 : (Jvm.Cond.soleField "PromiseDesk" "last") ∈ lw_all := lw_g (lw_at lw_m1 84 rfl) rfl
theorem q145 : (Jvm.Cond.laysFinal "PromiseDesk" "PromiseDesk" "own" "[I") ∈ lw_all := lw_g (lw_at lw_m1 85 rfl) rfl
theorem q146 : (Jvm.Cond.soleField "PromiseDesk" "own") ∈ lw_all := lw_g (lw_at lw_m1 86 rfl) rfl
theorem q147 : (Jvm.Cond.laysFinal "PromiseDesk" "PromiseDesk" "handled" "[Z") ∈ lw_all := lw_g (lw_at lw_m1 87 rfl) rfl
theorem q148 : (Jvm.Cond.soleField "PromiseDesk" "handled") ∈ lw_all := lw_g (lw_at lw_m1 88 rfl) rfl
theorem q149 : (Jvm.Cond.lays "PromiseDesk" "PromiseDesk" "objects" "I") ∈ lw_all := lw_g (lw_at lw_m1 89 rfl) rfl
theorem q150 : (Jvm.Cond.soleField "PromiseDesk" "objects") ∈ lw_all := lw_g (lw_at lw_m1 90 rfl) rfl
theorem q151 : (Jvm.Cond.laysFinal "PromiseDesk" "PromiseDesk" "getting" "[I") ∈ lw_all := lw_g (lw_at lw_m1 91 rfl) rfl
theorem q152 : (Jvm.Cond.soleField "PromiseDesk" "getting") ∈ lw_all := lw_g (lw_at lw_m1 92 rfl) rfl
theorem q153 : (Jvm.Cond.laysFinal "PromiseDesk" "PromiseDesk" "actA" "[I") ∈ lw_all := lw_g (lw_at lw_m1 93 rfl) rfl
theorem q154 : (Jvm.Cond.soleField "PromiseDesk" "actA") ∈ lw_all := lw_g (lw_at lw_m1 94 rfl) rfl
theorem q155 : (Jvm.Cond.laysFinal "PromiseDesk" "PromiseDesk" "valueA" "[I") ∈ lw_all := lw_g (lw_at lw_m1 95 rfl) rfl
theorem q156 : (Jvm.Cond.soleField "PromiseDesk" "valueA") ∈ lw_all := lw_g (lw_at lw_m1 96 rfl) rfl
theorem q157 : (Jvm.Cond.laysFinal "PromiseDesk" "PromiseDesk" "actB" "[I") ∈ lw_all := lw_g (lw_at lw_m1 97 rfl) rfl
theorem q158 : (Jvm.Cond.soleField "PromiseDesk" "actB") ∈ lw_all := lw_g (lw_at lw_m1 98 rfl) rfl
theorem q159 : (Jvm.Cond.laysFinal "PromiseDesk" "PromiseDesk" "valueB" "[I") ∈ lw_all := lw_g (lw_at lw_m1 99 rfl) rfl
theorem q160 : (Jvm.Cond.soleField "PromiseDesk" "valueB") ∈ lw_all := lw_g (lw_at lw_m1 100 rfl) rfl
theorem q161 : (Jvm.Cond.laysFinal "PromiseDesk" "PromiseDesk" "keptYes" "[I") ∈ lw_all := lw_g (lw_at lw_m1 101 rfl) rfl
theorem q162 : (Jvm.Cond.soleField "PromiseDesk" "keptYes") ∈ lw_all := lw_g (lw_at lw_m1 102 rfl) rfl
theorem q163 : (Jvm.Cond.laysFinal "PromiseDesk" "PromiseDesk" "keptNo" "[I") ∈ lw_all := lw_g (lw_at lw_m1 103 rfl) rfl
theorem q164 : (Jvm.Cond.soleField "PromiseDesk" "keptNo") ∈ lw_all := lw_g (lw_at lw_m1 104 rfl) rfl
theorem q165 : (Jvm.Cond.lays "PromiseDesk" "PromiseDesk" "fKind" "[I") ∈ lw_all := lw_g (lw_at lw_m1 105 rfl) rfl
theorem q166 : (Jvm.Cond.soleField "PromiseDesk" "fKind") ∈ lw_all := lw_g (lw_at lw_m1 106 rfl) rfl
theorem q167 : (Jvm.Cond.lays "PromiseDesk" "PromiseDesk" "fA" "[I") ∈ lw_all := lw_g (lw_at lw_m1 107 rfl) rfl
theorem q168 : (Jvm.Cond.soleField "PromiseDesk" "fA") ∈ lw_all := lw_g (lw_at lw_m1 108 rfl) rfl
theorem q169 : (Jvm.Cond.lays "PromiseDesk" "PromiseDesk" "fB" "[I") ∈ lw_all := lw_g (lw_at lw_m1 109 rfl) rfl
theorem q170 : (Jvm.Cond.soleField "PromiseDesk" "fB") ∈ lw_all := lw_g (lw_at lw_m1 110 rfl) rfl
theorem q171 : (Jvm.Cond.lays "PromiseDesk" "PromiseDesk" "fC" "[I") ∈ lw_all := lw_g (lw_at lw_m1 111 rfl) rfl
theorem q172 : (Jvm.Cond.soleField "PromiseDesk" "fC") ∈ lw_all := lw_g (lw_at lw_m1 112 rfl) rfl
theorem q173 : (Jvm.Cond.lays "PromiseDesk" "PromiseDesk" "functions" "I") ∈ lw_all := lw_g (lw_at lw_m1 113 rfl) rfl
theorem q174 : (Jvm.Cond.soleField "PromiseDesk" "functions") ∈ lw_all := lw_g (lw_at lw_m1 114 rfl) rfl
theorem q175 : (Jvm.Cond.lays "PromiseDesk" "PromiseDesk" "cell" "[I") ∈ lw_all := lw_g (lw_at lw_m1 115 rfl) rfl
theorem q176 : (Jvm.Cond.soleField "PromiseDesk" "cell") ∈ lw_all := lw_g (lw_at lw_m1 116 rfl) rfl
theorem q177 : (Jvm.Cond.lays "PromiseDesk" "PromiseDesk" "cells" "I") ∈ lw_all := lw_g (lw_at lw_m1 117 rfl) rfl
theorem q178 : (Jvm.Cond.soleField "PromiseDesk" "cells") ∈ lw_all := lw_g (lw_at lw_m1 118 rfl) rfl
theorem q179 : (Jvm.Cond.lays "PromiseDesk" "PromiseDesk" "wYes" "[I") ∈ lw_all := lw_g (lw_at lw_m1 119 rfl) rfl
theorem q180 : (Jvm.Cond.soleField "PromiseDesk" "wYes") ∈ lw_all := lw_g (lw_at lw_m1 120 rfl) rfl
theorem q181 : (Jvm.Cond.lays "PromiseDesk" "PromiseDesk" "wNo" "[I") ∈ lw_all := lw_g (lw_at lw_m1 121 rfl) rfl
theorem q182 : (Jvm.Cond.soleField "PromiseDesk" "wNo") ∈ lw_all := lw_g (lw_at lw_m1 122 rfl) rfl
theorem q183 : (Jvm.Cond.lays "PromiseDesk" "PromiseDesk" "wYesTo" "[I") ∈ lw_all := lw_g (lw_at lw_m1 123 rfl) rfl
theorem q184 : (Jvm.Cond.soleField "PromiseDesk" "wYesTo") ∈ lw_all := lw_g (lw_at lw_m1 124 rfl) rfl
theorem q185 : (Jvm.Cond.lays "PromiseDesk" "PromiseDesk" "wNoTo" "[I") ∈ lw_all := lw_g (lw_at lw_m1 125 rfl) rfl
theorem q186 : (Jvm.Cond.soleField "PromiseDesk" "wNoTo") ∈ lw_all := lw_g (lw_at lw_m1 126 rfl) rfl
theorem q187 : (Jvm.Cond.lays "PromiseDesk" "PromiseDesk" "wAsync" "[I") ∈ lw_all := lw_g (lw_at lw_m1 127 rfl) rfl
theorem q188 : (Jvm.Cond.soleField "PromiseDesk" "wAsync") ∈ lw_all := lw_g (lw_at lw_m1 128 rfl) rfl
theorem q189 : (Jvm.Cond.lays "PromiseDesk" "PromiseDesk" "wNext" "[I") ∈ lw_all := lw_g (lw_at lw_m1 129 rfl) rfl
theorem q190 : (Jvm.Cond.soleField "PromiseDesk" "wNext") ∈ lw_all := lw_g (lw_at lw_m1 130 rfl) rfl
theorem q191 : (Jvm.Cond.lays "PromiseDesk" "PromiseDesk" "waits" "I") ∈ lw_all := lw_g (lw_at lw_m1 131 rfl) rfl
theorem q192 : (Jvm.Cond.soleField "PromiseDesk" "waits") ∈ lw_all := lw_g (lw_at lw_m1 132 rfl) rfl
theorem q193 : (Jvm.Cond.lays "PromiseDesk" "PromiseDesk" "jWhat" "[I") ∈ lw_all := lw_g (lw_at lw_m1 133 rfl) rfl
theorem q194 : (Jvm.Cond.soleField "PromiseDesk" "jWhat") ∈ lw_all := lw_g (lw_at lw_m1 134 rfl) rfl
theorem q195 : (Jvm.Cond.lays "PromiseDesk" "PromiseDesk" "jState" "[I") ∈ lw_all := lw_g (lw_at lw_m1 135 rfl) rfl
theorem q196 : (Jvm.Cond.soleField "PromiseDesk" "jState") ∈ lw_all := lw_g (lw_at lw_m1 136 rfl) rfl
theorem q197 : (Jvm.Cond.lays "PromiseDesk" "PromiseDesk" "jValue" "[I") ∈ lw_all := lw_g (lw_at lw_m1 137 rfl) rfl
theorem q198 : (Jvm.Cond.soleField "PromiseDesk" "jValue") ∈ lw_all := lw_g (lw_at lw_m1 138 rfl) rfl
theorem q199 : (Jvm.Cond.lays "PromiseDesk" "PromiseDesk" "jNext" "[I") ∈ lw_all := lw_g (lw_at lw_m1 139 rfl) rfl
theorem q200 : (Jvm.Cond.soleField "PromiseDesk" "jNext") ∈ lw_all := lw_g (lw_at lw_m1 140 rfl) rfl
theorem q201 : (Jvm.Cond.lays "PromiseDesk" "PromiseDesk" "jobs" "I") ∈ lw_all := lw_g (lw_at lw_m1 141 rfl) rfl
theorem q202 : (Jvm.Cond.soleField "PromiseDesk" "jobs") ∈ lw_all := lw_g (lw_at lw_m1 142 rfl) rfl
theorem q203 : (Jvm.Cond.lays "PromiseDesk" "PromiseDesk" "jobFirst" "I") ∈ lw_all := lw_g (lw_at lw_m1 143 rfl) rfl
theorem q204 : (Jvm.Cond.soleField "PromiseDesk" "jobFirst") ∈ lw_all := lw_g (lw_at lw_m1 144 rfl) rfl
theorem q205 : (Jvm.Cond.lays "PromiseDesk" "PromiseDesk" "jobLast" "I") ∈ lw_all := lw_g (lw_at lw_m1 145 rfl) rfl
theorem q206 : (Jvm.Cond.soleField "PromiseDesk" "jobLast") ∈ lw_all := lw_g (lw_at lw_m1 146 rfl) rfl
theorem q207 : (Jvm.Cond.lays "PromiseDesk" "PromiseDesk" "jobCount" "I") ∈ lw_all := lw_g (lw_at lw_m1 147 rfl) rfl
theorem q208 : (Jvm.Cond.soleField "PromiseDesk" "jobCount") ∈ lw_all := lw_g (lw_at lw_m1 148 rfl) rfl
theorem q209 : (Jvm.Cond.lays "PromiseDesk" "PromiseDesk" "jobFree" "I") ∈ lw_all := lw_g (lw_at lw_m1 149 rfl) rfl
theorem q210 : (Jvm.Cond.soleField "PromiseDesk" "jobFree") ∈ lw_all := lw_g (lw_at lw_m1 150 rfl) rfl
theorem q211 : (Jvm.Cond.lays "PromiseDesk" "PromiseDesk" "values" "[I") ∈ lw_all := lw_g (lw_at lw_m1 151 rfl) rfl
theorem q212 : (Jvm.Cond.soleField "PromiseDesk" "values") ∈ lw_all := lw_g (lw_at lw_m1 152 rfl) rfl
theorem q213 : (Jvm.Cond.lays "PromiseDesk" "PromiseDesk" "valueTop" "I") ∈ lw_all := lw_g (lw_at lw_m1 153 rfl) rfl
theorem q214 : (Jvm.Cond.soleField "PromiseDesk" "valueTop") ∈ lw_all := lw_g (lw_at lw_m1 154 rfl) rfl
theorem q215 : (Jvm.Cond.laysFinal "PromiseDesk" "PromiseDesk" "list" "[I") ∈ lw_all := lw_g (lw_at lw_m1 155 rfl) rfl
theorem q216 : (Jvm.Cond.soleField "PromiseDesk" "list") ∈ lw_all := lw_g (lw_at lw_m1 156 rfl) rfl
theorem q217 : (Jvm.Cond.lays "PromiseDesk" "PromiseDesk" "listMany" "I") ∈ lw_all := lw_g (lw_at lw_m1 157 rfl) rfl
theorem q218 : (Jvm.Cond.soleField "PromiseDesk" "listMany") ∈ lw_all := lw_g (lw_at lw_m1 158 rfl) rfl
theorem q219 : (Jvm.Cond.lays "PromiseDesk" "PromiseDesk" "aAt" "[I") ∈ lw_all := lw_g (lw_at lw_m1 159 rfl) rfl
theorem q220 : (Jvm.Cond.soleField "PromiseDesk" "aAt") ∈ lw_all := lw_g (lw_at lw_m1 160 rfl) rfl
theorem q221 : (Jvm.Cond.lays "PromiseDesk" "PromiseDesk" "aEnd" "[I") ∈ lw_all := lw_g (lw_at lw_m1 161 rfl) rfl
theorem q222 : (Jvm.Cond.soleField "PromiseDesk" "aEnd") ∈ lw_all := lw_g (lw_at lw_m1 162 rfl) rfl
theorem q223 : (Jvm.Cond.lays "PromiseDesk" "PromiseDesk" "aHandler" "[I") ∈ lw_all := lw_g (lw_at lw_m1 163 rfl) rfl
theorem q224 : (Jvm.Cond.soleField "PromiseDesk" "aHandler") ∈ lw_all := lw_g (lw_at lw_m1 164 rfl) rfl
theorem q225 : (Jvm.Cond.lays "PromiseDesk" "PromiseDesk" "aLast" "[I") ∈ lw_all := lw_g (lw_at lw_m1 165 rfl) rfl
theorem q226 : (Jvm.Cond.soleField "PromiseDesk" "aLast") ∈ lw_all := lw_g (lw_at lw_m1 166 rfl) rfl
theorem q227 : (Jvm.Cond.lays "PromiseDesk" "PromiseDesk" "aYes" "[I") ∈ lw_all := lw_g (lw_at lw_m1 167 rfl) rfl
theorem q228 : (Jvm.Cond.soleField "PromiseDesk" "aYes") ∈ lw_all := lw_g (lw_at lw_m1 168 rfl) rfl
theorem q229 : (Jvm.Cond.lays "PromiseDesk" "PromiseDesk" "aNo" "[I") ∈ lw_all := lw_g (lw_at lw_m1 169 rfl) rfl
theorem q230 : (Jvm.Cond.soleField "PromiseDesk" "aNo") ∈ lw_all := lw_g (lw_at lw_m1 170 rfl) rfl
theorem q231 : (Jvm.Cond.lays "PromiseDesk" "PromiseDesk" "asyncs" "I") ∈ lw_all := lw_g (lw_at lw_m1 171 rfl) rfl
theorem q232 : (Jvm.Cond.soleField "PromiseDesk" "asyncs") ∈ lw_all := lw_g (lw_at lw_m1 172 rfl) rfl
theorem q233 : (Jvm.Cond.laysFinal "PromiseDesk" "PromiseDesk" "users" "[I") ∈ lw_all := lw_g (lw_at lw_m1 173 rfl) rfl
theorem q234 : (Jvm.Cond.soleField "PromiseDesk" "users") ∈ lw_all := lw_g (lw_at lw_m1 174 rfl) rfl
theorem q235 : (Jvm.Cond.lays "PromiseDesk" "PromiseDesk" "userMany" "I") ∈ lw_all := lw_g (lw_at lw_m1 175 rfl) rfl
theorem q236 : (Jvm.Cond.soleField "PromiseDesk" "userMany") ∈ lw_all := lw_g (lw_at lw_m1 176 rfl) rfl
theorem q237 : (Jvm.Cond.lays "PromiseDesk" "PromiseDesk" "logWho" "[I") ∈ lw_all := lw_g (lw_at lw_m1 177 rfl) rfl
theorem q238 : (Jvm.Cond.soleField "PromiseDesk" "logWho") ∈ lw_all := lw_g (lw_at lw_m1 178 rfl) rfl
theorem q239 : (Jvm.Cond.lays "PromiseDesk" "PromiseDesk" "logWhat" "[I") ∈ lw_all := lw_g (lw_at lw_m1 179 rfl) rfl
theorem q240 : (Jvm.Cond.soleField "PromiseDesk" "logWhat") ∈ lw_all := lw_g (lw_at lw_m1 180 rfl) rfl
theorem q241 : (Jvm.Cond.lays "PromiseDesk" "PromiseDesk" "logged" "I") ∈ lw_all := lw_g (lw_at lw_m1 181 rfl) rfl
theorem q242 : (Jvm.Cond.soleField "PromiseDesk" "logged") ∈ lw_all := lw_g (lw_at lw_m1 182 rfl) rfl
theorem q243 : (Jvm.Cond.lays "PromiseDesk" "PromiseDesk" "thrown" "Z") ∈ lw_all := lw_g (lw_at lw_m1 183 rfl) rfl
theorem q244 : (Jvm.Cond.soleField "PromiseDesk" "thrown") ∈ lw_all := lw_g (lw_at lw_m1 184 rfl) rfl
theorem q245 : (Jvm.Cond.lays "PromiseDesk" "PromiseDesk" "raised" "I") ∈ lw_all := lw_g (lw_at lw_m1 185 rfl) rfl
theorem q246 : (Jvm.Cond.soleField "PromiseDesk" "raised") ∈ lw_all := lw_g (lw_at lw_m1 186 rfl) rfl
theorem q247 : (Jvm.Cond.superclass "PromiseDesk" "java/lang/Object") ∈ lw_all := lw_g (lw_at lw_m1 187 rfl) rfl
theorem q251 : (Jvm.Cond.instanceMethod ({ cls := "PromiseDesk", name := "log", desc := "(IZ)I" } : Jvm.MethodName)) ∈ lw_all := lw_g (lw_at lw_m1 191 rfl) rfl
theorem q252 : (Jvm.Cond.selects "PromiseDesk" ({ cls := "PromiseDesk", name := "log", desc := "(IZ)I" } : Jvm.MethodName) ({ cls := "PromiseDesk", name := "log", desc := "(IZ)I" } : Jvm.MethodName)) ∈ lw_all := lw_g (lw_at lw_m1 192 rfl) rfl
theorem q253 : (Jvm.Cond.code ({ cls := "PromiseDesk", name := "log", desc := "(IZ)I" } : Jvm.MethodName) prog_1_method_52_code (3 : Nat) (Option.some Jvm.ClassFile.FieldType.int)) ∈ lw_all := lw_g (lw_at lw_m1 193 rfl) rfl
theorem q254 : (Jvm.Cond.constant "PromiseDesk" (304 : Nat) (-1000000 : Int32)) ∈ lw_all := lw_g (lw_at lw_m1 194 rfl) rfl
theorem q260 : (Jvm.Cond.instanceMethod ({ cls := "PromiseDesk", name := "promise", desc := "()I" } : Jvm.MethodName)) ∈ lw_all := lw_g (lw_at lw_m1 200 rfl) rfl
theorem q261 : (Jvm.Cond.selects "PromiseDesk" ({ cls := "PromiseDesk", name := "promise", desc := "()I" } : Jvm.MethodName) ({ cls := "PromiseDesk", name := "promise", desc := "()I" } : Jvm.MethodName)) ∈ lw_all := lw_g (lw_at lw_m1 201 rfl) rfl
theorem q262 : (Jvm.Cond.code ({ cls := "PromiseDesk", name := "promise", desc := "()I" } : Jvm.MethodName) prog_1_method_35_code (2 : Nat) (Option.some Jvm.ClassFile.FieldType.int)) ∈ lw_all := lw_g (lw_at lw_m1 202 rfl) rfl
theorem q263 : (Jvm.Cond.methodLink "PromiseDesk" (282 : Nat) ({ cls := "PromiseDesk", name := "room", desc := "(I)V" } : Jvm.MethodName)) ∈ lw_all := lw_g (lw_at lw_m1 203 rfl) rfl
theorem q264 : (Jvm.Cond.privateMethod ({ cls := "PromiseDesk", name := "room", desc := "(I)V" } : Jvm.MethodName)) ∈ lw_tbl := lw_at lw_m1 204 rfl
theorem q265 : (Jvm.Cond.instanceMethod ({ cls := "PromiseDesk", name := "room", desc := "(I)V" } : Jvm.MethodName)) ∈ lw_all := lw_g (lw_at lw_m1 205 rfl) rfl
theorem q266 : (Jvm.Cond.code ({ cls := "PromiseDesk", name := "room", desc := "(I)V" } : Jvm.MethodName) prog_1_method_31_code (2 : Nat) (Option.none : Option Jvm.ClassFile.FieldType)) ∈ lw_all := lw_g (lw_at lw_m1 206 rfl) rfl
theorem q267 : (Jvm.Cond.classLink "PromiseDesk" (272 : Nat) "java/lang/IllegalStateException") ∈ lw_all := lw_g (lw_at lw_m1 207 rfl) rfl
theorem q307 : (Jvm.Cond.methodLink "PromiseDesk" (274 : Nat) ({ cls := "java/lang/IllegalStateException", name := "<init>", desc := "()V" } : Jvm.MethodName)) ∈ lw_all := lw_g (lw_at lw_m2 7 rfl) rfl
theorem q329 : (Jvm.Cond.methodLink "PromiseDesk" (204 : Nat) ({ cls := "PromiseDesk", name := "newPromise", desc := "()I" } : Jvm.MethodName)) ∈ lw_all := lw_g (lw_at lw_m2 29 rfl) rfl
theorem q330 : (Jvm.Cond.privateMethod ({ cls := "PromiseDesk", name := "newPromise", desc := "()I" } : Jvm.MethodName)) ∈ lw_tbl := lw_at lw_m2 30 rfl
theorem q331 : (Jvm.Cond.instanceMethod ({ cls := "PromiseDesk", name := "newPromise", desc := "()I" } : Jvm.MethodName)) ∈ lw_all := lw_g (lw_at lw_m2 31 rfl) rfl
theorem q332 : (Jvm.Cond.code ({ cls := "PromiseDesk", name := "newPromise", desc := "()I" } : Jvm.MethodName) prog_1_method_13_code (1 : Nat) (Option.some Jvm.ClassFile.FieldType.int)) ∈ lw_all := lw_g (lw_at lw_m2 32 rfl) rfl
theorem q333 : (Jvm.Cond.methodLink "PromiseDesk" (156 : Nat) ({ cls := "PromiseDesk", name := "object", desc := "(I)I" } : Jvm.MethodName)) ∈ lw_all := lw_g (lw_at lw_m2 33 rfl) rfl
theorem q334 : (Jvm.Cond.privateMethod ({ cls := "PromiseDesk", name := "object", desc := "(I)I" } : Jvm.MethodName)) ∈ lw_tbl := lw_at lw_m2 34 rfl
theorem q335 : (Jvm.Cond.instanceMethod ({ cls := "PromiseDesk", name := "object", desc := "(I)I" } : Jvm.MethodName)) ∈ lw_all := lw_g (lw_at lw_m2 35 rfl) rfl
theorem q336 : (Jvm.Cond.code ({ cls := "PromiseDesk", name := "object", desc := "(I)I" } : Jvm.MethodName) prog_1_method_5_code (2 : Nat) (Option.some Jvm.ClassFile.FieldType.int)) ∈ lw_all := lw_g (lw_at lw_m2 36 rfl) rfl
theorem q337 : (Jvm.Cond.methodLink "PromiseDesk" (207 : Nat) ({ cls := "PromiseDesk", name := "functionsOf", desc := "(I)I" } : Jvm.MethodName)) ∈ lw_all := lw_g (lw_at lw_m2 37 rfl) rfl
theorem q338 : (Jvm.Cond.privateMethod ({ cls := "PromiseDesk", name := "functionsOf", desc := "(I)I" } : Jvm.MethodName)) ∈ lw_tbl := lw_at lw_m2 38 rfl
theorem q339 : (Jvm.Cond.instanceMethod ({ cls := "PromiseDesk", name := "functionsOf", desc := "(I)I" } : Jvm.MethodName)) ∈ lw_all := lw_g (lw_at lw_m2 39 rfl) rfl
theorem q340 : (Jvm.Cond.code ({ cls := "PromiseDesk", name := "functionsOf", desc := "(I)I" } : Jvm.MethodName) prog_1_method_12_code (4 : Nat) (Option.some Jvm.ClassFile.FieldType.int)) ∈ lw_all := lw_g (lw_at lw_m2 40 rfl) rfl
theorem q341 : (Jvm.Cond.methodLink "PromiseDesk" (167 : Nat) ({ cls := "PromiseDesk", name := "newCell", desc := "(I)I" } : Jvm.MethodName)) ∈ lw_all := lw_g (lw_at lw_m2 41 rfl) rfl
theorem q342 : (Jvm.Cond.privateMethod ({ cls := "PromiseDesk", name := "newCell", desc := "(I)I" } : Jvm.MethodName)) ∈ lw_tbl := lw_at lw_m2 42 rfl
theorem q343 : (Jvm.Cond.instanceMethod ({ cls := "PromiseDesk", name := "newCell", desc := "(I)I" } : Jvm.MethodName)) ∈ lw_all := lw_g (lw_at lw_m2 43 rfl) rfl
theorem q344 : (Jvm.Cond.code ({ cls := "PromiseDesk", name := "newCell", desc := "(I)I" } : Jvm.MethodName) prog_1_method_7_code (2 : Nat) (Option.some Jvm.ClassFile.FieldType.int)) ∈ lw_all := lw_g (lw_at lw_m2 44 rfl) rfl
theorem q345 : (Jvm.Cond.methodLink "PromiseDesk" (144 : Nat) ({ cls := "java/util/Arrays", name := "copyOf", desc := "([II)[I" } : Jvm.MethodName)) ∈ lw_all := lw_g (lw_at lw_m2 45 rfl) rfl
theorem q361 : (Jvm.Cond.methodLink "PromiseDesk" (170 : Nat) ({ cls := "PromiseDesk", name := "function", desc := "(IIII)I" } : Jvm.MethodName)) ∈ lw_all := lw_g (lw_at lw_m2 61 rfl) rfl
theorem q362 : (Jvm.Cond.privateMethod ({ cls := "PromiseDesk", name := "function", desc := "(IIII)I" } : Jvm.MethodName)) ∈ lw_tbl := lw_at lw_m2 62 rfl
theorem q363 : (Jvm.Cond.instanceMethod ({ cls := "PromiseDesk", name := "function", desc := "(IIII)I" } : Jvm.MethodName)) ∈ lw_all := lw_g (lw_at lw_m2 63 rfl) rfl
theorem q364 : (Jvm.Cond.code ({ cls := "PromiseDesk", name := "function", desc := "(IIII)I" } : Jvm.MethodName) prog_1_method_6_code (6 : Nat) (Option.some Jvm.ClassFile.FieldType.int)) ∈ lw_all := lw_g (lw_at lw_m2 64 rfl) rfl
theorem q365 : (Jvm.Cond.methodLink "PromiseDesk" (160 : Nat) ({ cls := "PromiseDesk", name := "valueOf", desc := "(I)I" } : Jvm.MethodName)) ∈ lw_all := lw_g (lw_at lw_m2 65 rfl) rfl
theorem q366 : (Jvm.Cond.static ({ cls := "PromiseDesk", name := "valueOf", desc := "(I)I" } : Jvm.MethodName)) ∈ lw_all := lw_g (lw_at lw_m2 66 rfl) rfl
theorem q367 : (Jvm.Cond.code ({ cls := "PromiseDesk", name := "valueOf", desc := "(I)I" } : Jvm.MethodName) prog_1_method_4_code (1 : Nat) (Option.some Jvm.ClassFile.FieldType.int)) ∈ lw_all := lw_g (lw_at lw_m2 67 rfl) rfl
theorem q373 : (Jvm.Cond.instanceMethod ({ cls := "PromiseDesk", name := "handler", desc := "(II)I" } : Jvm.MethodName)) ∈ lw_all := lw_g (lw_at lw_m2 73 rfl) rfl
theorem q374 : (Jvm.Cond.selects "PromiseDesk" ({ cls := "PromiseDesk", name := "handler", desc := "(II)I" } : Jvm.MethodName) ({ cls := "PromiseDesk", name := "handler", desc := "(II)I" } : Jvm.MethodName)) ∈ lw_all := lw_g (lw_at lw_m2 74 rfl) rfl
theorem q375 : (Jvm.Cond.code ({ cls := "PromiseDesk", name := "handler", desc := "(II)I" } : Jvm.MethodName) prog_1_method_36_code (3 : Nat) (Option.some Jvm.ClassFile.FieldType.int)) ∈ lw_all := lw_g (lw_at lw_m2 75 rfl) rfl
theorem q376 : (Jvm.Cond.methodLink "PromiseDesk" (286 : Nat) ({ cls := "PromiseDesk", name := "isValue", desc := "(I)Z" } : Jvm.MethodName)) ∈ lw_all := lw_g (lw_at lw_m2 76 rfl) rfl
theorem q377 : (Jvm.Cond.privateMethod ({ cls := "PromiseDesk", name := "isValue", desc := "(I)Z" } : Jvm.MethodName)) ∈ lw_tbl := lw_at lw_m2 77 rfl
theorem q378 : (Jvm.Cond.instanceMethod ({ cls := "PromiseDesk", name := "isValue", desc := "(I)Z" } : Jvm.MethodName)) ∈ lw_all := lw_g (lw_at lw_m2 78 rfl) rfl
theorem q379 : (Jvm.Cond.code ({ cls := "PromiseDesk", name := "isValue", desc := "(I)Z" } : Jvm.MethodName) prog_1_method_32_code (2 : Nat) (Option.some Jvm.ClassFile.FieldType.boolean)) ∈ lw_all := lw_g (lw_at lw_m2 79 rfl) rfl
theorem q380 : (Jvm.Cond.methodLink "PromiseDesk" (201 : Nat) ({ cls := "PromiseDesk", name := "id", desc := "(I)I" } : Jvm.MethodName)) ∈ lw_all := lw_g (lw_at lw_m2 80 rfl) rfl
theorem q381 : (Jvm.Cond.static ({ cls := "PromiseDesk", name := "id", desc := "(I)I" } : Jvm.MethodName)) ∈ lw_all := lw_g (lw_at lw_m2 81 rfl) rfl
theorem q382 : (Jvm.Cond.code ({ cls := "PromiseDesk", name := "id", desc := "(I)I" } : Jvm.MethodName) prog_1_method_3_code (1 : Nat) (Option.some Jvm.ClassFile.FieldType.int)) ∈ lw_all := lw_g (lw_at lw_m2 82 rfl) rfl
theorem q383 : (Jvm.Cond.methodLink "PromiseDesk" (275 : Nat) ({ cls := "PromiseDesk", name := "need", desc := "(Z)V" } : Jvm.MethodName)) ∈ lw_all := lw_g (lw_at lw_m2 83 rfl) rfl
theorem q384 : (Jvm.Cond.static ({ cls := "PromiseDesk", name := "need", desc := "(Z)V" } : Jvm.MethodName)) ∈ lw_all := lw_g (lw_at lw_m2 84 rfl) rfl
theorem q385 : (Jvm.Cond.code ({ cls := "PromiseDesk", name := "need", desc := "(Z)V" } : Jvm.MethodName) prog_1_method_30_code (1 : Nat) (Option.none : Option Jvm.ClassFile.FieldType)) ∈ lw_all := lw_g (lw_at lw_m2 85 rfl) rfl
theorem q386 : (Jvm.Cond.classLink "PromiseDesk" (269 : Nat) "java/lang/IllegalArgumentException") ∈ lw_all := lw_g (lw_at lw_m2 86 rfl) rfl
theorem q395 : (Jvm.Cond.methodLink "PromiseDesk" (271 : Nat) ({ cls := "java/lang/IllegalArgumentException", name := "<init>", desc := "()V" } : Jvm.MethodName)) ∈ lw_all := lw_g (lw_at lw_m2 95 rfl) rfl
theorem q401 : (Jvm.Cond.methodLink "PromiseDesk" (289 : Nat) ({ cls := "PromiseDesk", name := "promiseOf", desc := "(I)I" } : Jvm.MethodName)) ∈ lw_all := lw_g (lw_at lw_m2 101 rfl) rfl
theorem q402 : (Jvm.Cond.privateMethod ({ cls := "PromiseDesk", name := "promiseOf", desc := "(I)I" } : Jvm.MethodName)) ∈ lw_tbl := lw_at lw_m2 102 rfl
theorem q403 : (Jvm.Cond.instanceMethod ({ cls := "PromiseDesk", name := "promiseOf", desc := "(I)I" } : Jvm.MethodName)) ∈ lw_all := lw_g (lw_at lw_m2 103 rfl) rfl
theorem q404 : (Jvm.Cond.code ({ cls := "PromiseDesk", name := "promiseOf", desc := "(I)I" } : Jvm.MethodName) prog_1_method_33_code (2 : Nat) (Option.some Jvm.ClassFile.FieldType.int)) ∈ lw_all := lw_g (lw_at lw_m2 104 rfl) rfl
theorem q405 : (Jvm.Cond.methodLink "PromiseDesk" (197 : Nat) ({ cls := "PromiseDesk", name := "isObject", desc := "(I)Z" } : Jvm.MethodName)) ∈ lw_all := lw_g (lw_at lw_m2 105 rfl) rfl
theorem q406 : (Jvm.Cond.static ({ cls := "PromiseDesk", name := "isObject", desc := "(I)Z" } : Jvm.MethodName)) ∈ lw_all := lw_g (lw_at lw_m2 106 rfl) rfl
theorem q407 : (Jvm.Cond.code ({ cls := "PromiseDesk", name := "isObject", desc := "(I)Z" } : Jvm.MethodName) prog_1_method_2_code (1 : Nat) (Option.some Jvm.ClassFile.FieldType.boolean)) ∈ lw_all := lw_g (lw_at lw_m2 107 rfl) rfl
theorem q412 : (Jvm.Cond.instanceMethod ({ cls := "PromiseDesk", name := "thenable", desc := "(IIIII)I" } : Jvm.MethodName)) ∈ lw_all := lw_g (lw_at lw_m2 112 rfl) rfl
theorem q413 : (Jvm.Cond.selects "PromiseDesk" ({ cls := "PromiseDesk", name := "thenable", desc := "(IIIII)I" } : Jvm.MethodName) ({ cls := "PromiseDesk", name := "thenable", desc := "(IIIII)I" } : Jvm.MethodName)) ∈ lw_all := lw_g (lw_at lw_m2 113 rfl) rfl
theorem q414 : (Jvm.Cond.code ({ cls := "PromiseDesk", name := "thenable", desc := "(IIIII)I" } : Jvm.MethodName) prog_1_method_37_code (7 : Nat) (Option.some Jvm.ClassFile.FieldType.int)) ∈ lw_all := lw_g (lw_at lw_m2 114 rfl) rfl
theorem q419 : (Jvm.Cond.instanceMethod ({ cls := "PromiseDesk", name := "settle", desc := "(IZI)Z" } : Jvm.MethodName)) ∈ lw_all := lw_g (lw_at lw_m2 119 rfl) rfl
theorem q420 : (Jvm.Cond.selects "PromiseDesk" ({ cls := "PromiseDesk", name := "settle", desc := "(IZI)Z" } : Jvm.MethodName) ({ cls := "PromiseDesk", name := "settle", desc := "(IZI)Z" } : Jvm.MethodName)) ∈ lw_all := lw_g (lw_at lw_m2 120 rfl) rfl
theorem q421 : (Jvm.Cond.code ({ cls := "PromiseDesk", name := "settle", desc := "(IZI)Z" } : Jvm.MethodName) prog_1_method_38_code (7 : Nat) (Option.some Jvm.ClassFile.FieldType.boolean)) ∈ lw_all := lw_g (lw_at lw_m2 121 rfl) rfl
theorem q422 : (Jvm.Cond.methodLink "PromiseDesk" (218 : Nat) ({ cls := "PromiseDesk", name := "call", desc := "(II)I" } : Jvm.MethodName)) ∈ lw_all := lw_g (lw_at lw_m2 122 rfl) rfl
theorem q423 : (Jvm.Cond.privateMethod ({ cls := "PromiseDesk", name := "call", desc := "(II)I" } : Jvm.MethodName)) ∈ lw_tbl := lw_at lw_m2 123 rfl
theorem q424 : (Jvm.Cond.instanceMethod ({ cls := "PromiseDesk", name := "call", desc := "(II)I" } : Jvm.MethodName)) ∈ lw_all := lw_g (lw_at lw_m2 124 rfl) rfl
theorem q425 : (Jvm.Cond.code ({ cls := "PromiseDesk", name := "call", desc := "(II)I" } : Jvm.MethodName) prog_1_method_21_code (5 : Nat) (Option.some Jvm.ClassFile.FieldType.int)) ∈ lw_all := lw_g (lw_at lw_m2 125 rfl) rfl
theorem q426 : (Jvm.Cond.methodLink "PromiseDesk" (222 : Nat) ({ cls := "PromiseDesk", name := "user", desc := "(II)I" } : Jvm.MethodName)) ∈ lw_all := lw_g (lw_at lw_m2 126 rfl) rfl
theorem q427 : (Jvm.Cond.privateMethod ({ cls := "PromiseDesk", name := "user", desc := "(II)I" } : Jvm.MethodName)) ∈ lw_tbl := lw_at lw_m2 127 rfl
theorem q428 : (Jvm.Cond.instanceMethod ({ cls := "PromiseDesk", name := "user", desc := "(II)I" } : Jvm.MethodName)) ∈ lw_all := lw_g (lw_at lw_m2 128 rfl) rfl
theorem q429 : (Jvm.Cond.code ({ cls := "PromiseDesk", name := "user", desc := "(II)I" } : Jvm.MethodName) prog_1_method_23_code (3 : Nat) (Option.some Jvm.ClassFile.FieldType.int)) ∈ lw_all := lw_g (lw_at lw_m2 129 rfl) rfl
theorem q430 : (Jvm.Cond.methodLink "PromiseDesk" (244 : Nat) ({ cls := "PromiseDesk", name := "log", desc := "(II)V" } : Jvm.MethodName)) ∈ lw_all := lw_g (lw_at lw_m2 130 rfl) rfl
theorem q431 : (Jvm.Cond.privateMethod ({ cls := "PromiseDesk", name := "log", desc := "(II)V" } : Jvm.MethodName)) ∈ lw_tbl := lw_at lw_m2 131 rfl
theorem q432 : (Jvm.Cond.instanceMethod ({ cls := "PromiseDesk", name := "log", desc := "(II)V" } : Jvm.MethodName)) ∈ lw_all := lw_g (lw_at lw_m2 132 rfl) rfl
theorem q433 : (Jvm.Cond.code ({ cls := "PromiseDesk", name := "log", desc := "(II)V" } : Jvm.MethodName) prog_1_method_22_code (3 : Nat) (Option.none : Option Jvm.ClassFile.FieldType)) ∈ lw_all := lw_g (lw_at lw_m2 133 rfl) rfl
theorem q434 : (Jvm.Cond.methodLink "PromiseDesk" (238 : Nat) ({ cls := "PromiseDesk", name := "raise", desc := "(I)I" } : Jvm.MethodName)) ∈ lw_all := lw_g (lw_at lw_m2 134 rfl) rfl
theorem q435 : (Jvm.Cond.privateMethod ({ cls := "PromiseDesk", name := "raise", desc := "(I)I" } : Jvm.MethodName)) ∈ lw_tbl := lw_at lw_m2 135 rfl
theorem q436 : (Jvm.Cond.instanceMethod ({ cls := "PromiseDesk", name := "raise", desc := "(I)I" } : Jvm.MethodName)) ∈ lw_all := lw_g (lw_at lw_m2 136 rfl) rfl
theorem q437 : (Jvm.Cond.code ({ cls := "PromiseDesk", name := "raise", desc := "(I)I" } : Jvm.MethodName) prog_1_method_11_code (2 : Nat) (Option.some Jvm.ClassFile.FieldType.int)) ∈ lw_all := lw_g (lw_at lw_m2 137 rfl) rfl
theorem q438 : (Jvm.Cond.methodLink "PromiseDesk" (225 : Nat) ({ cls := "PromiseDesk", name := "resolve", desc := "(II)V" } : Jvm.MethodName)) ∈ lw_all := lw_g (lw_at lw_m2 138 rfl) rfl
theorem q439 : (Jvm.Cond.privateMethod ({ cls := "PromiseDesk", name := "resolve", desc := "(II)V" } : Jvm.MethodName)) ∈ lw_tbl := lw_at lw_m2 139 rfl
theorem q440 : (Jvm.Cond.instanceMethod ({ cls := "PromiseDesk", name := "resolve", desc := "(II)V" } : Jvm.MethodName)) ∈ lw_all := lw_g (lw_at lw_m2 140 rfl) rfl
theorem q441 : (Jvm.Cond.code ({ cls := "PromiseDesk", name := "resolve", desc := "(II)V" } : Jvm.MethodName) prog_1_method_16_code (4 : Nat) (Option.none : Option Jvm.ClassFile.FieldType)) ∈ lw_all := lw_g (lw_at lw_m2 141 rfl) rfl
theorem q442 : (Jvm.Cond.methodLink "PromiseDesk" (190 : Nat) ({ cls := "PromiseDesk", name := "error", desc := "()I" } : Jvm.MethodName)) ∈ lw_all := lw_g (lw_at lw_m2 142 rfl) rfl
theorem q443 : (Jvm.Cond.privateMethod ({ cls := "PromiseDesk", name := "error", desc := "()I" } : Jvm.MethodName)) ∈ lw_tbl := lw_at lw_m2 143 rfl
theorem q444 : (Jvm.Cond.instanceMethod ({ cls := "PromiseDesk", name := "error", desc := "()I" } : Jvm.MethodName)) ∈ lw_all := lw_g (lw_at lw_m2 144 rfl) rfl
theorem q445 : (Jvm.Cond.code ({ cls := "PromiseDesk", name := "error", desc := "()I" } : Jvm.MethodName) prog_1_method_10_code (1 : Nat) (Option.some Jvm.ClassFile.FieldType.int)) ∈ lw_all := lw_g (lw_at lw_m2 145 rfl) rfl
theorem q446 : (Jvm.Cond.methodLink "PromiseDesk" (194 : Nat) ({ cls := "PromiseDesk", name := "settle", desc := "(III)V" } : Jvm.MethodName)) ∈ lw_all := lw_g (lw_at lw_m2 146 rfl) rfl
theorem q447 : (Jvm.Cond.privateMethod ({ cls := "PromiseDesk", name := "settle", desc := "(III)V" } : Jvm.MethodName)) ∈ lw_tbl := lw_at lw_m2 147 rfl
theorem q448 : (Jvm.Cond.instanceMethod ({ cls := "PromiseDesk", name := "settle", desc := "(III)V" } : Jvm.MethodName)) ∈ lw_all := lw_g (lw_at lw_m2 148 rfl) rfl
theorem q449 : (Jvm.Cond.code ({ cls := "PromiseDesk", name := "settle", desc := "(III)V" } : Jvm.MethodName) prog_1_method_15_code (5 : Nat) (Option.none : Option Jvm.ClassFile.FieldType)) ∈ lw_all := lw_g (lw_at lw_m2 149 rfl) rfl
theorem q450 : (Jvm.Cond.methodLink "PromiseDesk" (186 : Nat) ({ cls := "PromiseDesk", name := "enqueue", desc := "(III)V" } : Jvm.MethodName)) ∈ lw_all := lw_g (lw_at lw_m2 150 rfl) rfl
theorem q451 : (Jvm.Cond.privateMethod ({ cls := "PromiseDesk", name := "enqueue", desc := "(III)V" } : Jvm.MethodName)) ∈ lw_tbl := lw_at lw_m2 151 rfl
theorem q452 : (Jvm.Cond.instanceMethod ({ cls := "PromiseDesk", name := "enqueue", desc := "(III)V" } : Jvm.MethodName)) ∈ lw_all := lw_g (lw_at lw_m2 152 rfl) rfl
theorem q453 : (Jvm.Cond.code ({ cls := "PromiseDesk", name := "enqueue", desc := "(III)V" } : Jvm.MethodName) prog_1_method_14_code (6 : Nat) (Option.none : Option Jvm.ClassFile.FieldType)) ∈ lw_all := lw_g (lw_at lw_m2 153 rfl) rfl
theorem q454 : (Jvm.Cond.methodLink "PromiseDesk" (228 : Nat) ({ cls := "PromiseDesk", name := "element", desc := "(II)I" } : Jvm.MethodName)) ∈ lw_all := lw_g (lw_at lw_m2 154 rfl) rfl
theorem q455 : (Jvm.Cond.privateMethod ({ cls := "PromiseDesk", name := "element", desc := "(II)I" } : Jvm.MethodName)) ∈ lw_tbl := lw_at lw_m2 155 rfl
theorem q456 : (Jvm.Cond.instanceMethod ({ cls := "PromiseDesk", name := "element", desc := "(II)I" } : Jvm.MethodName)) ∈ lw_all := lw_g (lw_at lw_m2 156 rfl) rfl
theorem q457 : (Jvm.Cond.code ({ cls := "PromiseDesk", name := "element", desc := "(II)I" } : Jvm.MethodName) prog_1_method_24_code (7 : Nat) (Option.some Jvm.ClassFile.FieldType.int)) ∈ lw_all := lw_g (lw_at lw_m2 157 rfl) rfl
theorem q458 : (Jvm.Cond.methodLink "PromiseDesk" (247 : Nat) ({ cls := "PromiseDesk", name := "row", desc := "(I)I" } : Jvm.MethodName)) ∈ lw_all := lw_g (lw_at lw_m2 158 rfl) rfl
theorem q459 : (Jvm.Cond.privateMethod ({ cls := "PromiseDesk", name := "row", desc := "(I)I" } : Jvm.MethodName)) ∈ lw_tbl := lw_at lw_m2 159 rfl
theorem q460 : (Jvm.Cond.instanceMethod ({ cls := "PromiseDesk", name := "row", desc := "(I)I" } : Jvm.MethodName)) ∈ lw_all := lw_g (lw_at lw_m2 160 rfl) rfl
theorem q461 : (Jvm.Cond.code ({ cls := "PromiseDesk", name := "row", desc := "(I)I" } : Jvm.MethodName) prog_1_method_8_code (3 : Nat) (Option.some Jvm.ClassFile.FieldType.int)) ∈ lw_all := lw_g (lw_at lw_m2 161 rfl) rfl
theorem q462 : (Jvm.Cond.methodLink "PromiseDesk" (250 : Nat) ({ cls := "PromiseDesk", name := "holder", desc := "(III)I" } : Jvm.MethodName)) ∈ lw_all := lw_g (lw_at lw_m2 162 rfl) rfl
theorem q463 : (Jvm.Cond.privateMethod ({ cls := "PromiseDesk", name := "holder", desc := "(III)I" } : Jvm.MethodName)) ∈ lw_tbl := lw_at lw_m2 163 rfl
theorem q464 : (Jvm.Cond.instanceMethod ({ cls := "PromiseDesk", name := "holder", desc := "(III)I" } : Jvm.MethodName)) ∈ lw_all := lw_g (lw_at lw_m2 164 rfl) rfl
theorem q465 : (Jvm.Cond.code ({ cls := "PromiseDesk", name := "holder", desc := "(III)I" } : Jvm.MethodName) prog_1_method_9_code (5 : Nat) (Option.some Jvm.ClassFile.FieldType.int)) ∈ lw_all := lw_g (lw_at lw_m2 165 rfl) rfl
theorem q466 : (Jvm.Cond.methodLink "PromiseDesk" (253 : Nat) ({ cls := "PromiseDesk", name := "lessLeft", desc := "(IZ)I" } : Jvm.MethodName)) ∈ lw_all := lw_g (lw_at lw_m2 166 rfl) rfl
theorem q467 : (Jvm.Cond.privateMethod ({ cls := "PromiseDesk", name := "lessLeft", desc := "(IZ)I" } : Jvm.MethodName)) ∈ lw_tbl := lw_at lw_m2 167 rfl
theorem q468 : (Jvm.Cond.instanceMethod ({ cls := "PromiseDesk", name := "lessLeft", desc := "(IZ)I" } : Jvm.MethodName)) ∈ lw_all := lw_g (lw_at lw_m2 168 rfl) rfl
theorem q469 : (Jvm.Cond.code ({ cls := "PromiseDesk", name := "lessLeft", desc := "(IZ)I" } : Jvm.MethodName) prog_1_method_25_code (4 : Nat) (Option.some Jvm.ClassFile.FieldType.int)) ∈ lw_all := lw_g (lw_at lw_m2 169 rfl) rfl
theorem q470 : (Jvm.Cond.methodLink "PromiseDesk" (257 : Nat) ({ cls := "PromiseDesk", name := "manyError", desc := "(I)I" } : Jvm.MethodName)) ∈ lw_all := lw_g (lw_at lw_m2 170 rfl) rfl
theorem q471 : (Jvm.Cond.privateMethod ({ cls := "PromiseDesk", name := "manyError", desc := "(I)I" } : Jvm.MethodName)) ∈ lw_tbl := lw_at lw_m2 171 rfl
theorem q472 : (Jvm.Cond.instanceMethod ({ cls := "PromiseDesk", name := "manyError", desc := "(I)I" } : Jvm.MethodName)) ∈ lw_all := lw_g (lw_at lw_m2 172 rfl) rfl
theorem q473 : (Jvm.Cond.code ({ cls := "PromiseDesk", name := "manyError", desc := "(I)I" } : Jvm.MethodName) prog_1_method_26_code (3 : Nat) (Option.some Jvm.ClassFile.FieldType.int)) ∈ lw_all := lw_g (lw_at lw_m2 173 rfl) rfl
theorem q474 : (Jvm.Cond.methodLink "PromiseDesk" (231 : Nat) ({ cls := "PromiseDesk", name := "wrapped", desc := "(I)I" } : Jvm.MethodName)) ∈ lw_all := lw_g (lw_at lw_m2 174 rfl) rfl
theorem q475 : (Jvm.Cond.privateMethod ({ cls := "PromiseDesk", name := "wrapped", desc := "(I)I" } : Jvm.MethodName)) ∈ lw_tbl := lw_at lw_m2 175 rfl
theorem q476 : (Jvm.Cond.instanceMethod ({ cls := "PromiseDesk", name := "wrapped", desc := "(I)I" } : Jvm.MethodName)) ∈ lw_all := lw_g (lw_at lw_m2 176 rfl) rfl
theorem q477 : (Jvm.Cond.code ({ cls := "PromiseDesk", name := "wrapped", desc := "(I)I" } : Jvm.MethodName) prog_1_method_20_code (3 : Nat) (Option.some Jvm.ClassFile.FieldType.int)) ∈ lw_all := lw_g (lw_at lw_m2 177 rfl) rfl
theorem q478 : (Jvm.Cond.methodLink "PromiseDesk" (234 : Nat) ({ cls := "PromiseDesk", name := "then", desc := "(III)I" } : Jvm.MethodName)) ∈ lw_all := lw_g (lw_at lw_m2 178 rfl) rfl
theorem q479 : (Jvm.Cond.privateMethod ({ cls := "PromiseDesk", name := "then", desc := "(III)I" } : Jvm.MethodName)) ∈ lw_tbl := lw_at lw_m2 179 rfl
theorem q480 : (Jvm.Cond.instanceMethod ({ cls := "PromiseDesk", name := "then", desc := "(III)I" } : Jvm.MethodName)) ∈ lw_all := lw_g (lw_at lw_m2 180 rfl) rfl
theorem q481 : (Jvm.Cond.code ({ cls := "PromiseDesk", name := "then", desc := "(III)I" } : Jvm.MethodName) prog_1_method_19_code (6 : Nat) (Option.some Jvm.ClassFile.FieldType.int)) ∈ lw_all := lw_g (lw_at lw_m2 181 rfl) rfl
theorem q482 : (Jvm.Cond.methodLink "PromiseDesk" (210 : Nat) ({ cls := "PromiseDesk", name := "wait", desc := "(IIIII)I" } : Jvm.MethodName)) ∈ lw_all := lw_g (lw_at lw_m2 182 rfl) rfl
theorem q483 : (Jvm.Cond.privateMethod ({ cls := "PromiseDesk", name := "wait", desc := "(IIIII)I" } : Jvm.MethodName)) ∈ lw_tbl := lw_at lw_m2 183 rfl
theorem q484 : (Jvm.Cond.instanceMethod ({ cls := "PromiseDesk", name := "wait", desc := "(IIIII)I" } : Jvm.MethodName)) ∈ lw_all := lw_g (lw_at lw_m2 184 rfl) rfl
theorem q485 : (Jvm.Cond.code ({ cls := "PromiseDesk", name := "wait", desc := "(IIIII)I" } : Jvm.MethodName) prog_1_method_17_code (7 : Nat) (Option.some Jvm.ClassFile.FieldType.int)) ∈ lw_all := lw_g (lw_at lw_m2 185 rfl) rfl
theorem q486 : (Jvm.Cond.methodLink "PromiseDesk" (214 : Nat) ({ cls := "PromiseDesk", name := "perform", desc := "(II)V" } : Jvm.MethodName)) ∈ lw_all := lw_g (lw_at lw_m2 186 rfl) rfl
theorem q487 : (Jvm.Cond.privateMethod ({ cls := "PromiseDesk", name := "perform", desc := "(II)V" } : Jvm.MethodName)) ∈ lw_tbl := lw_at lw_m2 187 rfl
theorem q488 : (Jvm.Cond.instanceMethod ({ cls := "PromiseDesk", name := "perform", desc := "(II)V" } : Jvm.MethodName)) ∈ lw_all := lw_g (lw_at lw_m2 188 rfl) rfl
theorem q489 : (Jvm.Cond.code ({ cls := "PromiseDesk", name := "perform", desc := "(II)V" } : Jvm.MethodName) prog_1_method_18_code (3 : Nat) (Option.none : Option Jvm.ClassFile.FieldType)) ∈ lw_all := lw_g (lw_at lw_m2 189 rfl) rfl
theorem q494 : (Jvm.Cond.instanceMethod ({ cls := "PromiseDesk", name := "later", desc := "(IZI)I" } : Jvm.MethodName)) ∈ lw_all := lw_g (lw_at lw_m2 194 rfl) rfl
theorem q495 : (Jvm.Cond.selects "PromiseDesk" ({ cls := "PromiseDesk", name := "later", desc := "(IZI)I" } : Jvm.MethodName) ({ cls := "PromiseDesk", name := "later", desc := "(IZI)I" } : Jvm.MethodName)) ∈ lw_all := lw_g (lw_at lw_m2 195 rfl) rfl
theorem q496 : (Jvm.Cond.code ({ cls := "PromiseDesk", name := "later", desc := "(IZI)I" } : Jvm.MethodName) prog_1_method_39_code (8 : Nat) (Option.some Jvm.ClassFile.FieldType.int)) ∈ lw_all := lw_g (lw_at lw_m2 196 rfl) rfl
theorem q501 : (Jvm.Cond.instanceMethod ({ cls := "PromiseDesk", name := "then", desc := "(IIIZ)I" } : Jvm.MethodName)) ∈ lw_all := lw_g (lw_at lw_m2 201 rfl) rfl
theorem q502 : (Jvm.Cond.selects "PromiseDesk" ({ cls := "PromiseDesk", name := "then", desc := "(IIIZ)I" } : Jvm.MethodName) ({ cls := "PromiseDesk", name := "then", desc := "(IIIZ)I" } : Jvm.MethodName)) ∈ lw_all := lw_g (lw_at lw_m2 202 rfl) rfl
theorem q503 : (Jvm.Cond.code ({ cls := "PromiseDesk", name := "then", desc := "(IIIZ)I" } : Jvm.MethodName) prog_1_method_40_code (8 : Nat) (Option.some Jvm.ClassFile.FieldType.int)) ∈ lw_all := lw_g (lw_at lw_m2 203 rfl) rfl
theorem q504 : (Jvm.Cond.methodLink "PromiseDesk" (292 : Nat) ({ cls := "PromiseDesk", name := "handlerOf", desc := "(I)I" } : Jvm.MethodName)) ∈ lw_all := lw_g (lw_at lw_m2 204 rfl) rfl
theorem q505 : (Jvm.Cond.privateMethod ({ cls := "PromiseDesk", name := "handlerOf", desc := "(I)I" } : Jvm.MethodName)) ∈ lw_tbl := lw_at lw_m2 205 rfl
theorem q506 : (Jvm.Cond.instanceMethod ({ cls := "PromiseDesk", name := "handlerOf", desc := "(I)I" } : Jvm.MethodName)) ∈ lw_all := lw_g (lw_at lw_m2 206 rfl) rfl
theorem q507 : (Jvm.Cond.code ({ cls := "PromiseDesk", name := "handlerOf", desc := "(I)I" } : Jvm.MethodName) prog_1_method_34_code (2 : Nat) (Option.some Jvm.ClassFile.FieldType.int)) ∈ lw_all := lw_g (lw_at lw_m2 207 rfl) rfl
theorem q512 : (Jvm.Cond.instanceMethod ({ cls := "PromiseDesk", name := "lastly", desc := "(II)I" } : Jvm.MethodName)) ∈ lw_all := lw_g (lw_at lw_m2 212 rfl) rfl
theorem q513 : (Jvm.Cond.selects "PromiseDesk" ({ cls := "PromiseDesk", name := "lastly", desc := "(II)I" } : Jvm.MethodName) ({ cls := "PromiseDesk", name := "lastly", desc := "(II)I" } : Jvm.MethodName)) ∈ lw_all := lw_g (lw_at lw_m2 213 rfl) rfl
theorem q514 : (Jvm.Cond.code ({ cls := "PromiseDesk", name := "lastly", desc := "(II)I" } : Jvm.MethodName) prog_1_method_41_code (5 : Nat) (Option.some Jvm.ClassFile.FieldType.int)) ∈ lw_all := lw_g (lw_at lw_m2 214 rfl) rfl
theorem q519 : (Jvm.Cond.instanceMethod ({ cls := "PromiseDesk", name := "wrap", desc := "(I)I" } : Jvm.MethodName)) ∈ lw_all := lw_g (lw_at lw_m2 219 rfl) rfl
theorem q520 : (Jvm.Cond.selects "PromiseDesk" ({ cls := "PromiseDesk", name := "wrap", desc := "(I)I" } : Jvm.MethodName) ({ cls := "PromiseDesk", name := "wrap", desc := "(I)I" } : Jvm.MethodName)) ∈ lw_all := lw_g (lw_at lw_m2 220 rfl) rfl
theorem q521 : (Jvm.Cond.code ({ cls := "PromiseDesk", name := "wrap", desc := "(I)I" } : Jvm.MethodName) prog_1_method_42_code (2 : Nat) (Option.some Jvm.ClassFile.FieldType.int)) ∈ lw_all := lw_g (lw_at lw_m2 221 rfl) rfl
theorem q526 : (Jvm.Cond.instanceMethod ({ cls := "PromiseDesk", name := "broken", desc := "(I)I" } : Jvm.MethodName)) ∈ lw_all := lw_g (lw_at lw_m2 226 rfl) rfl
theorem q527 : (Jvm.Cond.selects "PromiseDesk" ({ cls := "PromiseDesk", name := "broken", desc := "(I)I" } : Jvm.MethodName) ({ cls := "PromiseDesk", name := "broken", desc := "(I)I" } : Jvm.MethodName)) ∈ lw_all := lw_g (lw_at lw_m2 227 rfl) rfl
theorem q528 : (Jvm.Cond.code ({ cls := "PromiseDesk", name := "broken", desc := "(I)I" } : Jvm.MethodName) prog_1_method_43_code (3 : Nat) (Option.some Jvm.ClassFile.FieldType.int)) ∈ lw_all := lw_g (lw_at lw_m2 228 rfl) rfl
theorem q533 : (Jvm.Cond.instanceMethod ({ cls := "PromiseDesk", name := "item", desc := "(I)I" } : Jvm.MethodName)) ∈ lw_all := lw_g (lw_at lw_m2 233 rfl) rfl
theorem q534 : (Jvm.Cond.selects "PromiseDesk" ({ cls := "PromiseDesk", name := "item", desc := "(I)I" } : Jvm.MethodName) ({ cls := "PromiseDesk", name := "item", desc := "(I)I" } : Jvm.MethodName)) ∈ lw_all := lw_g (lw_at lw_m2 234 rfl) rfl
theorem q535 : (Jvm.Cond.code ({ cls := "PromiseDesk", name := "item", desc := "(I)I" } : Jvm.MethodName) prog_1_method_44_code (2 : Nat) (Option.some Jvm.ClassFile.FieldType.int)) ∈ lw_all := lw_g (lw_at lw_m2 235 rfl) rfl
theorem q540 : (Jvm.Cond.instanceMethod ({ cls := "PromiseDesk", name := "combine", desc := "(I)I" } : Jvm.MethodName)) ∈ lw_all := lw_g (lw_at lw_m3 0 rfl) rfl
theorem q541 : (Jvm.Cond.selects "PromiseDesk" ({ cls := "PromiseDesk", name := "combine", desc := "(I)I" } : Jvm.MethodName) ({ cls := "PromiseDesk", name := "combine", desc := "(I)I" } : Jvm.MethodName)) ∈ lw_all := lw_g (lw_at lw_m3 1 rfl) rfl
theorem q542 : (Jvm.Cond.code ({ cls := "PromiseDesk", name := "combine", desc := "(I)I" } : Jvm.MethodName) prog_1_method_45_code (11 : Nat) (Option.some Jvm.ClassFile.FieldType.int)) ∈ lw_all := lw_g (lw_at lw_m3 2 rfl) rfl
theorem q547 : (Jvm.Cond.instanceMethod ({ cls := "PromiseDesk", name := "async", desc := "(II)I" } : Jvm.MethodName)) ∈ lw_all := lw_g (lw_at lw_m3 7 rfl) rfl
theorem q548 : (Jvm.Cond.selects "PromiseDesk" ({ cls := "PromiseDesk", name := "async", desc := "(II)I" } : Jvm.MethodName) ({ cls := "PromiseDesk", name := "async", desc := "(II)I" } : Jvm.MethodName)) ∈ lw_all := lw_g (lw_at lw_m3 8 rfl) rfl
theorem q549 : (Jvm.Cond.code ({ cls := "PromiseDesk", name := "async", desc := "(II)I" } : Jvm.MethodName) prog_1_method_46_code (9 : Nat) (Option.some Jvm.ClassFile.FieldType.int)) ∈ lw_all := lw_g (lw_at lw_m3 9 rfl) rfl
theorem q550 : (Jvm.Cond.methodLink "PromiseDesk" (266 : Nat) ({ cls := "PromiseDesk", name := "goOn", desc := "(III)V" } : Jvm.MethodName)) ∈ lw_all := lw_g (lw_at lw_m3 10 rfl) rfl
theorem q551 : (Jvm.Cond.privateMethod ({ cls := "PromiseDesk", name := "goOn", desc := "(III)V" } : Jvm.MethodName)) ∈ lw_tbl := lw_at lw_m3 11 rfl
theorem q552 : (Jvm.Cond.instanceMethod ({ cls := "PromiseDesk", name := "goOn", desc := "(III)V" } : Jvm.MethodName)) ∈ lw_all := lw_g (lw_at lw_m3 12 rfl) rfl
theorem q553 : (Jvm.Cond.code ({ cls := "PromiseDesk", name := "goOn", desc := "(III)V" } : Jvm.MethodName) prog_1_method_29_code (5 : Nat) (Option.none : Option Jvm.ClassFile.FieldType)) ∈ lw_all := lw_g (lw_at lw_m3 13 rfl) rfl
theorem q558 : (Jvm.Cond.instanceMethod ({ cls := "PromiseDesk", name := "jobs", desc := "(I)I" } : Jvm.MethodName)) ∈ lw_all := lw_g (lw_at lw_m3 18 rfl) rfl
theorem q559 : (Jvm.Cond.selects "PromiseDesk" ({ cls := "PromiseDesk", name := "jobs", desc := "(I)I" } : Jvm.MethodName) ({ cls := "PromiseDesk", name := "jobs", desc := "(I)I" } : Jvm.MethodName)) ∈ lw_all := lw_g (lw_at lw_m3 19 rfl) rfl
theorem q560 : (Jvm.Cond.code ({ cls := "PromiseDesk", name := "jobs", desc := "(I)I" } : Jvm.MethodName) prog_1_method_47_code (4 : Nat) (Option.some Jvm.ClassFile.FieldType.int)) ∈ lw_all := lw_g (lw_at lw_m3 20 rfl) rfl
theorem q561 : (Jvm.Cond.methodLink "PromiseDesk" (301 : Nat) ({ cls := "PromiseDesk", name := "job", desc := "(I)V" } : Jvm.MethodName)) ∈ lw_all := lw_g (lw_at lw_m3 21 rfl) rfl
theorem q562 : (Jvm.Cond.privateMethod ({ cls := "PromiseDesk", name := "job", desc := "(I)V" } : Jvm.MethodName)) ∈ lw_tbl := lw_at lw_m3 22 rfl
theorem q563 : (Jvm.Cond.instanceMethod ({ cls := "PromiseDesk", name := "job", desc := "(I)V" } : Jvm.MethodName)) ∈ lw_all := lw_g (lw_at lw_m3 23 rfl) rfl
theorem q564 : (Jvm.Cond.code ({ cls := "PromiseDesk", name := "job", desc := "(I)V" } : Jvm.MethodName) prog_1_method_28_code (8 : Nat) (Option.none : Option Jvm.ClassFile.FieldType)) ∈ lw_all := lw_g (lw_at lw_m3 24 rfl) rfl
theorem q565 : (Jvm.Cond.methodLink "PromiseDesk" (263 : Nat) ({ cls := "PromiseDesk", name := "callThen", desc := "(III)V" } : Jvm.MethodName)) ∈ lw_all := lw_g (lw_at lw_m3 25 rfl) rfl
theorem q566 : (Jvm.Cond.privateMethod ({ cls := "PromiseDesk", name := "callThen", desc := "(III)V" } : Jvm.MethodName)) ∈ lw_tbl := lw_at lw_m3 26 rfl
theorem q567 : (Jvm.Cond.instanceMethod ({ cls := "PromiseDesk", name := "callThen", desc := "(III)V" } : Jvm.MethodName)) ∈ lw_all := lw_g (lw_at lw_m3 27 rfl) rfl
theorem q568 : (Jvm.Cond.code ({ cls := "PromiseDesk", name := "callThen", desc := "(III)V" } : Jvm.MethodName) prog_1_method_27_code (7 : Nat) (Option.none : Option Jvm.ClassFile.FieldType)) ∈ lw_all := lw_g (lw_at lw_m3 28 rfl) rfl
theorem q573 : (Jvm.Cond.instanceMethod ({ cls := "PromiseDesk", name := "state", desc := "(I)I" } : Jvm.MethodName)) ∈ lw_all := lw_g (lw_at lw_m3 33 rfl) rfl
theorem q574 : (Jvm.Cond.selects "PromiseDesk" ({ cls := "PromiseDesk", name := "state", desc := "(I)I" } : Jvm.MethodName) ({ cls := "PromiseDesk", name := "state", desc := "(I)I" } : Jvm.MethodName)) ∈ lw_all := lw_g (lw_at lw_m3 34 rfl) rfl
theorem q575 : (Jvm.Cond.code ({ cls := "PromiseDesk", name := "state", desc := "(I)I" } : Jvm.MethodName) prog_1_method_48_code (3 : Nat) (Option.some Jvm.ClassFile.FieldType.int)) ∈ lw_all := lw_g (lw_at lw_m3 35 rfl) rfl
theorem q580 : (Jvm.Cond.instanceMethod ({ cls := "PromiseDesk", name := "result", desc := "(I)I" } : Jvm.MethodName)) ∈ lw_all := lw_g (lw_at lw_m3 40 rfl) rfl
theorem q581 : (Jvm.Cond.selects "PromiseDesk" ({ cls := "PromiseDesk", name := "result", desc := "(I)I" } : Jvm.MethodName) ({ cls := "PromiseDesk", name := "result", desc := "(I)I" } : Jvm.MethodName)) ∈ lw_all := lw_g (lw_at lw_m3 41 rfl) rfl
theorem q582 : (Jvm.Cond.code ({ cls := "PromiseDesk", name := "result", desc := "(I)I" } : Jvm.MethodName) prog_1_method_49_code (3 : Nat) (Option.some Jvm.ClassFile.FieldType.int)) ∈ lw_all := lw_g (lw_at lw_m3 42 rfl) rfl
theorem q587 : (Jvm.Cond.instanceMethod ({ cls := "PromiseDesk", name := "kind", desc := "(I)I" } : Jvm.MethodName)) ∈ lw_all := lw_g (lw_at lw_m3 47 rfl) rfl
theorem q588 : (Jvm.Cond.selects "PromiseDesk" ({ cls := "PromiseDesk", name := "kind", desc := "(I)I" } : Jvm.MethodName) ({ cls := "PromiseDesk", name := "kind", desc := "(I)I" } : Jvm.MethodName)) ∈ lw_all := lw_g (lw_at lw_m3 48 rfl) rfl
theorem q589 : (Jvm.Cond.code ({ cls := "PromiseDesk", name := "kind", desc := "(I)I" } : Jvm.MethodName) prog_1_method_50_code (2 : Nat) (Option.some Jvm.ClassFile.FieldType.int)) ∈ lw_all := lw_g (lw_at lw_m3 49 rfl) rfl
theorem q594 : (Jvm.Cond.instanceMethod ({ cls := "PromiseDesk", name := "part", desc := "(II)I" } : Jvm.MethodName)) ∈ lw_all := lw_g (lw_at lw_m3 54 rfl) rfl
theorem q595 : (Jvm.Cond.selects "PromiseDesk" ({ cls := "PromiseDesk", name := "part", desc := "(II)I" } : Jvm.MethodName) ({ cls := "PromiseDesk", name := "part", desc := "(II)I" } : Jvm.MethodName)) ∈ lw_all := lw_g (lw_at lw_m3 55 rfl) rfl
theorem q596 : (Jvm.Cond.code ({ cls := "PromiseDesk", name := "part", desc := "(II)I" } : Jvm.MethodName) prog_1_method_51_code (4 : Nat) (Option.some Jvm.ClassFile.FieldType.int)) ∈ lw_all := lw_g (lw_at lw_m3 56 rfl) rfl
theorem q601 : (Jvm.Cond.instanceMethod ({ cls := "PromiseDesk", name := "count", desc := "(I)I" } : Jvm.MethodName)) ∈ lw_all := lw_g (lw_at lw_m3 61 rfl) rfl
theorem q602 : (Jvm.Cond.selects "PromiseDesk" ({ cls := "PromiseDesk", name := "count", desc := "(I)I" } : Jvm.MethodName) ({ cls := "PromiseDesk", name := "count", desc := "(I)I" } : Jvm.MethodName)) ∈ lw_all := lw_g (lw_at lw_m3 62 rfl) rfl
theorem q603 : (Jvm.Cond.code ({ cls := "PromiseDesk", name := "count", desc := "(I)I" } : Jvm.MethodName) prog_1_method_53_code (2 : Nat) (Option.some Jvm.ClassFile.FieldType.int)) ∈ lw_all := lw_g (lw_at lw_m3 63 rfl) rfl
theorem in_X1 : ∀ w ∈ wsX10, w ∈ lw_all := lw_in wsX10 [135, 137, 139, 141, 143, 145, 147, 149, 151, 153, 155, 157, 159, 161, 163, 165, 167, 169, 171, 173, 175, 177, 179, 181, 183, 185, 187, 189, 191, 193, 195, 197, 199, 201, 203, 205, 207, 209, 211, 213, 215, 217, 219, 221, 223, 225, 227, 229, 231, 233, 235, 237, 239, 241, 243, 245] (by decide +kernel) (by decide +kernel)
