/-! PromiseDeskModel -/
set_option maxRecDepth 100000
def RX2 : String := "PromiseDeskModel"
def TX2 : u_T := fun k => match k with
  | 0 => ("PromiseDeskModel", "thrown", "I", false)
  | 1 => ("PromiseDeskModel", "objects", "I", false)
  | 2 => ("PromiseDeskModel", "kind", "[I", true)
  | 3 => ("PromiseDeskModel", "state", "[I", true)
  | 4 => ("PromiseDeskModel", "result", "[I", true)
  | 5 => ("PromiseDeskModel", "reactions", "[I", true)
  | 6 => ("PromiseDeskModel", "kept", "[I", true)
  | 7 => ("PromiseDeskModel", "handled", "[Z", true)
  | 8 => ("PromiseDeskModel", "dataA", "[I", true)
  | 9 => ("PromiseDeskModel", "dataB", "[I", true)
  | 10 => ("PromiseDeskModel", "dataC", "[I", true)
  | 11 => ("PromiseDeskModel", "dataD", "[I", true)
  | 12 => ("PromiseDeskModel", "dataE", "[I", true)
  | 13 => ("PromiseDeskModel", "recordPromise", "[I", true)
  | 14 => ("PromiseDeskModel", "recordDone", "[Z", true)
  | 15 => ("PromiseDeskModel", "records", "I", false)
  | 16 => ("PromiseDeskModel", "reactionNext", "[I", true)
  | 17 => ("PromiseDeskModel", "reactionTo", "[I", true)
  | 18 => ("PromiseDeskModel", "yesKind", "[I", true)
  | 19 => ("PromiseDeskModel", "yesOf", "[I", true)
  | 20 => ("PromiseDeskModel", "noKind", "[I", true)
  | 21 => ("PromiseDeskModel", "noOf", "[I", true)
  | 22 => ("PromiseDeskModel", "reactionMany", "I", false)
  | 23 => ("PromiseDeskModel", "jobKind", "[I", true)
  | 24 => ("PromiseDeskModel", "jobOf", "[I", true)
  | 25 => ("PromiseDeskModel", "jobTo", "[I", true)
  | 26 => ("PromiseDeskModel", "jobArgument", "[I", true)
  | 27 => ("PromiseDeskModel", "jobRejects", "[Z", true)
  | 28 => ("PromiseDeskModel", "jobThen", "[Z", true)
  | 29 => ("PromiseDeskModel", "jobFirst", "I", false)
  | 30 => ("PromiseDeskModel", "jobEnd", "I", false)
  | 31 => ("PromiseDeskModel", "act", "[I", true)
  | 32 => ("PromiseDeskModel", "actValue", "[I", true)
  | 33 => ("PromiseDeskModel", "handlers", "I", false)
  | 34 => ("PromiseDeskModel", "logWho", "[I", true)
  | 35 => ("PromiseDeskModel", "logWhat", "[I", true)
  | 36 => ("PromiseDeskModel", "logs", "I", false)
  | 37 => ("PromiseDeskModel", "list", "[I", true)
  | 38 => ("PromiseDeskModel", "listed", "I", false)
  | 39 => ("PromiseDeskModel", "value", "[I", true)
  | 40 => ("PromiseDeskModel", "elementOf", "[I", true)
  | 41 => ("PromiseDeskModel", "elementDone", "[Z", true)
  | 42 => ("PromiseDeskModel", "values", "I", false)
  | 43 => ("PromiseDeskModel", "from", "[I", true)
  | 44 => ("PromiseDeskModel", "many", "[I", true)
  | 45 => ("PromiseDeskModel", "left", "[I", true)
  | 46 => ("PromiseDeskModel", "to", "[I", true)
  | 47 => ("PromiseDeskModel", "end", "[I", true)
  | 48 => ("PromiseDeskModel", "calls", "[I", true)
  | 49 => ("PromiseDeskModel", "at", "[I", true)
  | 50 => ("PromiseDeskModel", "groups", "I", false)
  | _ => ("PromiseDeskModel", "threw", "Z", false)
def tyX2 : Nat → FieldType := fun k => match k with
  | 0 => .int
  | 1 => .int
  | 2 => .array .int
  | 3 => .array .int
  | 4 => .array .int
  | 5 => .array .int
  | 6 => .array .int
  | 7 => .array .boolean
  | 8 => .array .int
  | 9 => .array .int
  | 10 => .array .int
  | 11 => .array .int
  | 12 => .array .int
  | 13 => .array .int
  | 14 => .array .boolean
  | 15 => .int
  | 16 => .array .int
  | 17 => .array .int
  | 18 => .array .int
  | 19 => .array .int
  | 20 => .array .int
  | 21 => .array .int
  | 22 => .int
  | 23 => .array .int
  | 24 => .array .int
  | 25 => .array .int
  | 26 => .array .int
  | 27 => .array .boolean
  | 28 => .array .boolean
  | 29 => .int
  | 30 => .int
  | 31 => .array .int
  | 32 => .array .int
  | 33 => .int
  | 34 => .array .int
  | 35 => .array .int
  | 36 => .int
  | 37 => .array .int
  | 38 => .int
  | 39 => .array .int
  | 40 => .array .int
  | 41 => .array .boolean
  | 42 => .int
  | 43 => .array .int
  | 44 => .array .int
  | 45 => .array .int
  | 46 => .array .int
  | 47 => .array .int
  | 48 => .array .int
  | 49 => .array .int
  | 50 => .int
  | _ => .boolean
abbrev wsX20 : List Cond := u_ws RX2 TX2 52
set_option maxRecDepth 100000 in
theorem nmX2 : ∀ a, a < 52 → ∀ b, b < 52 → a ≠ b → (TX2 a).2.1 ≠ (TX2 b).2.1 := by decide +kernel
set_option maxRecDepth 100000 in
theorem tyX2_ok : ∀ k, k < 52 → parseFieldDescriptor (TX2 k).2.2.1 = some (tyX2 k) := by decide +kernel
abbrev cX2_init : ByteArray := prog_3_method_1_code
def yX2_init : MethodName := ⟨RX2, "<init>", "()V"⟩
abbrev cX2_thrown : ByteArray := prog_3_method_2_code
def yX2_thrown : MethodName := ⟨RX2, "thrown", "()I"⟩
abbrev cX2_promise : ByteArray := prog_3_method_33_code
def yX2_promise : MethodName := ⟨RX2, "promise", "()I"⟩
abbrev cX2_isFull : ByteArray := prog_3_method_9_code
def yX2_isFull : MethodName := ⟨RX2, "isFull", "(I)Z"⟩
abbrev cX2_fails : ByteArray := prog_3_method_3_code
def yX2_fails : MethodName := ⟨RX2, "fails", "(I)I"⟩
abbrev cX2_capability : ByteArray := prog_3_method_12_code
def yX2_capability : MethodName := ⟨RX2, "capability", "()I"⟩
abbrev cX2_newObject : ByteArray := prog_3_method_10_code
def yX2_newObject : MethodName := ⟨RX2, "newObject", "(I)I"⟩
abbrev cX2_record : ByteArray := prog_3_method_11_code
def yX2_record : MethodName := ⟨RX2, "record", "(I)I"⟩
abbrev cX2_valueOf : ByteArray := prog_3_method_4_code
def yX2_valueOf : MethodName := ⟨RX2, "valueOf", "(I)I"⟩
abbrev cX2_handler : ByteArray := prog_3_method_35_code
def yX2_handler : MethodName := ⟨RX2, "handler", "(II)I"⟩
abbrev cX2_isValue : ByteArray := prog_3_method_6_code
def yX2_isValue : MethodName := ⟨RX2, "isValue", "(I)Z"⟩
abbrev cX2_isObject : ByteArray := prog_3_method_5_code
def yX2_isObject : MethodName := ⟨RX2, "isObject", "(I)Z"⟩
abbrev cX2_isKept : ByteArray := prog_3_method_34_code
def yX2_isKept : MethodName := ⟨RX2, "isKept", "(I)Z"⟩
abbrev cX2_isKind : ByteArray := prog_3_method_7_code
def yX2_isKind : MethodName := ⟨RX2, "isKind", "(II)Z"⟩
abbrev cX2_thenable : ByteArray := prog_3_method_36_code
def yX2_thenable : MethodName := ⟨RX2, "thenable", "(IIIII)I"⟩
abbrev cX2_settle : ByteArray := prog_3_method_37_code
def yX2_settle : MethodName := ⟨RX2, "settle", "(IZI)Z"⟩
abbrev cX2_reject : ByteArray := prog_3_method_14_code
def yX2_reject : MethodName := ⟨RX2, "reject", "(II)V"⟩
abbrev cX2_settle_2 : ByteArray := prog_3_method_15_code
def yX2_settle_2 : MethodName := ⟨RX2, "settle", "(III)V"⟩
abbrev cX2_react : ByteArray := prog_3_method_16_code
def yX2_react : MethodName := ⟨RX2, "react", "(III)V"⟩
abbrev cX2_resolve : ByteArray := prog_3_method_13_code
def yX2_resolve : MethodName := ⟨RX2, "resolve", "(II)V"⟩
abbrev cX2_later : ByteArray := prog_3_method_38_code
def yX2_later : MethodName := ⟨RX2, "later", "(IZI)I"⟩
abbrev cX2_then : ByteArray := prog_3_method_39_code
def yX2_then : MethodName := ⟨RX2, "then", "(IIIZ)I"⟩
abbrev cX2_isHandler : ByteArray := prog_3_method_8_code
def yX2_isHandler : MethodName := ⟨RX2, "isHandler", "(I)Z"⟩
abbrev cX2_then_2 : ByteArray := prog_3_method_18_code
def yX2_then_2 : MethodName := ⟨RX2, "then", "(IIIII)I"⟩
abbrev cX2_performThen : ByteArray := prog_3_method_17_code
def yX2_performThen : MethodName := ⟨RX2, "performThen", "(IIIIII)V"⟩
abbrev cX2_lastly : ByteArray := prog_3_method_40_code
def yX2_lastly : MethodName := ⟨RX2, "lastly", "(II)I"⟩
abbrev cX2_wrap : ByteArray := prog_3_method_41_code
def yX2_wrap : MethodName := ⟨RX2, "wrap", "(I)I"⟩
abbrev cX2_promiseOf : ByteArray := prog_3_method_19_code
def yX2_promiseOf : MethodName := ⟨RX2, "promiseOf", "(I)I"⟩
abbrev cX2_broken : ByteArray := prog_3_method_42_code
def yX2_broken : MethodName := ⟨RX2, "broken", "(I)I"⟩
abbrev cX2_item : ByteArray := prog_3_method_43_code
def yX2_item : MethodName := ⟨RX2, "item", "(I)I"⟩
abbrev cX2_combine : ByteArray := prog_3_method_44_code
def yX2_combine : MethodName := ⟨RX2, "combine", "(I)I"⟩
abbrev cX2_group : ByteArray := prog_3_method_32_code
def yX2_group : MethodName := ⟨RX2, "group", "()I"⟩
abbrev cX2_finish : ByteArray := prog_3_method_26_code
def yX2_finish : MethodName := ⟨RX2, "finish", "(IZ)V"⟩
abbrev cX2_array : ByteArray := prog_3_method_24_code
def yX2_array : MethodName := ⟨RX2, "array", "(II)I"⟩
abbrev cX2_async : ByteArray := prog_3_method_45_code
def yX2_async : MethodName := ⟨RX2, "async", "(II)I"⟩
abbrev cX2_goOn : ByteArray := prog_3_method_30_code
def yX2_goOn : MethodName := ⟨RX2, "goOn", "(I)V"⟩
abbrev cX2_jobs : ByteArray := prog_3_method_46_code
def yX2_jobs : MethodName := ⟨RX2, "jobs", "(I)I"⟩
abbrev cX2_job : ByteArray := prog_3_method_27_code
def yX2_job : MethodName := ⟨RX2, "job", "()V"⟩
abbrev cX2_thenJob : ByteArray := prog_3_method_28_code
def yX2_thenJob : MethodName := ⟨RX2, "thenJob", "(II)V"⟩
abbrev cX2_note : ByteArray := prog_3_method_20_code
def yX2_note : MethodName := ⟨RX2, "note", "(II)V"⟩
abbrev cX2_does : ByteArray := prog_3_method_29_code
def yX2_does : MethodName := ⟨RX2, "does", "(IIII)Z"⟩
abbrev cX2_call : ByteArray := prog_3_method_22_code
def yX2_call : MethodName := ⟨RX2, "call", "(III)I"⟩
abbrev cX2_handle : ByteArray := prog_3_method_21_code
def yX2_handle : MethodName := ⟨RX2, "handle", "(II)I"⟩
abbrev cX2_element : ByteArray := prog_3_method_25_code
def yX2_element : MethodName := ⟨RX2, "element", "(III)V"⟩
abbrev cX2_last : ByteArray := prog_3_method_23_code
def yX2_last : MethodName := ⟨RX2, "last", "(III)I"⟩
abbrev cX2_resume : ByteArray := prog_3_method_31_code
def yX2_resume : MethodName := ⟨RX2, "resume", "(II)V"⟩
abbrev cX2_state : ByteArray := prog_3_method_47_code
def yX2_state : MethodName := ⟨RX2, "state", "(I)I"⟩
abbrev cX2_result : ByteArray := prog_3_method_48_code
def yX2_result : MethodName := ⟨RX2, "result", "(I)I"⟩
abbrev cX2_kind : ByteArray := prog_3_method_49_code
def yX2_kind : MethodName := ⟨RX2, "kind", "(I)I"⟩
abbrev cX2_part : ByteArray := prog_3_method_50_code
def yX2_part : MethodName := ⟨RX2, "part", "(II)I"⟩
abbrev cX2_log : ByteArray := prog_3_method_51_code
def yX2_log : MethodName := ⟨RX2, "log", "(IZ)I"⟩
abbrev cX2_count : ByteArray := prog_3_method_52_code
def yX2_count : MethodName := ⟨RX2, "count", "(I)I"⟩
theorem q62 : (Jvm.Cond.initialized "PromiseDeskModel") ∈ lw_all := lw_g (lw_at lw_m1 2 rfl) rfl
theorem q605 : (Jvm.Cond.instantiable "PromiseDeskModel" (52 : Nat)) ∈ lw_all := lw_g (lw_at lw_m3 65 rfl) rfl
theorem q607 : (Jvm.Cond.instanceMethod ({ cls := "PromiseDeskModel", name := "<init>", desc := "()V" } : Jvm.MethodName)) ∈ lw_all := lw_g (lw_at lw_m3 67 rfl) rfl
theorem q608 : (Jvm.Cond.code ({ cls := "PromiseDeskModel", name := "<init>", desc := "()V" } : Jvm.MethodName) prog_3_method_1_code (1 : Nat) (Option.none : Option Jvm.ClassFile.FieldType)) ∈ lw_all := lw_g (lw_at lw_m3 68 rfl) rfl
theorem q609 : (Jvm.Cond.methodLink "PromiseDeskModel" (1 : Nat) ({ cls := "java/lang/Object", name := "<init>", desc := "()V" } : Jvm.MethodName)) ∈ lw_all := lw_g (lw_at lw_m3 69 rfl) rfl
theorem q610 : (Jvm.Cond.fieldLink "PromiseDeskModel" (131 : Nat) "PromiseDeskModel" "thrown" "I") ∈ lw_all := lw_g (lw_at lw_m3 70 rfl) rfl
theorem q611 : (Jvm.Cond.fieldLink "PromiseDeskModel" (135 : Nat) "PromiseDeskModel" "objects" "I") ∈ lw_all := lw_g (lw_at lw_m3 71 rfl) rfl
theorem q612 : (Jvm.Cond.fieldLink "PromiseDeskModel" (7 : Nat) "PromiseDeskModel" "kind" "[I") ∈ lw_all := lw_g (lw_at lw_m3 72 rfl) rfl
theorem q613 : (Jvm.Cond.fieldLink "PromiseDeskModel" (13 : Nat) "PromiseDeskModel" "state" "[I") ∈ lw_all := lw_g (lw_at lw_m3 73 rfl) rfl
theorem q614 : (Jvm.Cond.fieldLink "PromiseDeskModel" (16 : Nat) "PromiseDeskModel" "result" "[I") ∈ lw_all := lw_g (lw_at lw_m3 74 rfl) rfl
theorem q615 : (Jvm.Cond.fieldLink "PromiseDeskModel" (19 : Nat) "PromiseDeskModel" "reactions" "[I") ∈ lw_all := lw_g (lw_at lw_m3 75 rfl) rfl
theorem q616 : (Jvm.Cond.fieldLink "PromiseDeskModel" (22 : Nat) "PromiseDeskModel" "kept" "[I") ∈ lw_all := lw_g (lw_at lw_m3 76 rfl) rfl
theorem q617 : (Jvm.Cond.fieldLink "PromiseDeskModel" (25 : Nat) "PromiseDeskModel" "handled" "[Z") ∈ lw_all := lw_g (lw_at lw_m3 77 rfl) rfl
theorem q618 : (Jvm.Cond.fieldLink "PromiseDeskModel" (29 : Nat) "PromiseDeskModel" "dataA" "[I") ∈ lw_all := lw_g (lw_at lw_m3 78 rfl) rfl
theorem q619 : (Jvm.Cond.fieldLink "PromiseDeskModel" (32 : Nat) "PromiseDeskModel" "dataB" "[I") ∈ lw_all := lw_g (lw_at lw_m3 79 rfl) rfl
theorem q620 : (Jvm.Cond.fieldLink "PromiseDeskModel" (35 : Nat) "PromiseDeskModel" "dataC" "[I") ∈ lw_all := lw_g (lw_at lw_m3 80 rfl) rfl
theorem q621 : (Jvm.Cond.fieldLink "PromiseDeskModel" (38 : Nat) "PromiseDeskModel" "dataD" "[I") ∈ lw_all := lw_g (lw_at lw_m3 81 rfl) rfl
theorem q622 : (Jvm.Cond.fieldLink "PromiseDeskModel" (41 : Nat) "PromiseDeskModel" "dataE" "[I") ∈ lw_all := lw_g (lw_at lw_m3 82 rfl) rfl
theorem q623 : (Jvm.Cond.fieldLink "PromiseDeskModel" (44 : Nat) "PromiseDeskModel" "recordPromise" "[I") ∈ lw_all := lw_g (lw_at lw_m3 83 rfl) rfl
theorem q624 : (Jvm.Cond.fieldLink "PromiseDeskModel" (47 : Nat) "PromiseDeskModel" "recordDone" "[Z") ∈ lw_all := lw_g (lw_at lw_m3 84 rfl) rfl
theorem q625 : (Jvm.Cond.fieldLink "PromiseDeskModel" (145 : Nat) "PromiseDeskModel" "records" "I") ∈ lw_all := lw_g (lw_at lw_m3 85 rfl) rfl
theorem q626 : (Jvm.Cond.fieldLink "PromiseDeskModel" (50 : Nat) "PromiseDeskModel" "reactionNext" "[I") ∈ lw_all := lw_g (lw_at lw_m3 86 rfl) rfl
theorem q627 : (Jvm.Cond.fieldLink "PromiseDeskModel" (53 : Nat) "PromiseDeskModel" "reactionTo" "[I") ∈ lw_all := lw_g (lw_at lw_m3 87 rfl) rfl
theorem q628 : (Jvm.Cond.fieldLink "PromiseDeskModel" (56 : Nat) "PromiseDeskModel" "yesKind" "[I") ∈ lw_all := lw_g (lw_at lw_m3 88 rfl) rfl
theorem q629 : (Jvm.Cond.fieldLink "PromiseDeskModel" (59 : Nat) "PromiseDeskModel" "yesOf" "[I") ∈ lw_all := lw_g (lw_at lw_m3 89 rfl) rfl
theorem q630 : (Jvm.Cond.fieldLink "PromiseDeskModel" (62 : Nat) "PromiseDeskModel" "noKind" "[I") ∈ lw_all := lw_g (lw_at lw_m3 90 rfl) rfl
theorem q631 : (Jvm.Cond.fieldLink "PromiseDeskModel" (65 : Nat) "PromiseDeskModel" "noOf" "[I") ∈ lw_all := lw_g (lw_at lw_m3 91 rfl) rfl
theorem q632 : (Jvm.Cond.fieldLink "PromiseDeskModel" (168 : Nat) "PromiseDeskModel" "reactionMany" "I") ∈ lw_all := lw_g (lw_at lw_m3 92 rfl) rfl
theorem q633 : (Jvm.Cond.fieldLink "PromiseDeskModel" (68 : Nat) "PromiseDeskModel" "jobKind" "[I") ∈ lw_all := lw_g (lw_at lw_m3 93 rfl) rfl
theorem q634 : (Jvm.Cond.fieldLink "PromiseDeskModel" (71 : Nat) "PromiseDeskModel" "jobOf" "[I") ∈ lw_all := lw_g (lw_at lw_m3 94 rfl) rfl
theorem q635 : (Jvm.Cond.fieldLink "PromiseDeskModel" (74 : Nat) "PromiseDeskModel" "jobTo" "[I") ∈ lw_all := lw_g (lw_at lw_m3 95 rfl) rfl
theorem q636 : (Jvm.Cond.fieldLink "PromiseDeskModel" (77 : Nat) "PromiseDeskModel" "jobArgument" "[I") ∈ lw_all := lw_g (lw_at lw_m3 96 rfl) rfl
theorem q637 : (Jvm.Cond.fieldLink "PromiseDeskModel" (80 : Nat) "PromiseDeskModel" "jobRejects" "[Z") ∈ lw_all := lw_g (lw_at lw_m3 97 rfl) rfl
theorem q638 : (Jvm.Cond.fieldLink "PromiseDeskModel" (83 : Nat) "PromiseDeskModel" "jobThen" "[Z") ∈ lw_all := lw_g (lw_at lw_m3 98 rfl) rfl
theorem q639 : (Jvm.Cond.fieldLink "PromiseDeskModel" (231 : Nat) "PromiseDeskModel" "jobFirst" "I") ∈ lw_all := lw_g (lw_at lw_m3 99 rfl) rfl
theorem q640 : (Jvm.Cond.fieldLink "PromiseDeskModel" (162 : Nat) "PromiseDeskModel" "jobEnd" "I") ∈ lw_all := lw_g (lw_at lw_m3 100 rfl) rfl
theorem q641 : (Jvm.Cond.fieldLink "PromiseDeskModel" (86 : Nat) "PromiseDeskModel" "act" "[I") ∈ lw_all := lw_g (lw_at lw_m3 101 rfl) rfl
theorem q642 : (Jvm.Cond.fieldLink "PromiseDeskModel" (89 : Nat) "PromiseDeskModel" "actValue" "[I") ∈ lw_all := lw_g (lw_at lw_m3 102 rfl) rfl
theorem q643 : (Jvm.Cond.fieldLink "PromiseDeskModel" (142 : Nat) "PromiseDeskModel" "handlers" "I") ∈ lw_all := lw_g (lw_at lw_m3 103 rfl) rfl
theorem q644 : (Jvm.Cond.fieldLink "PromiseDeskModel" (92 : Nat) "PromiseDeskModel" "logWho" "[I") ∈ lw_all := lw_g (lw_at lw_m3 104 rfl) rfl
theorem q645 : (Jvm.Cond.fieldLink "PromiseDeskModel" (95 : Nat) "PromiseDeskModel" "logWhat" "[I") ∈ lw_all := lw_g (lw_at lw_m3 105 rfl) rfl
theorem q646 : (Jvm.Cond.fieldLink "PromiseDeskModel" (187 : Nat) "PromiseDeskModel" "logs" "I") ∈ lw_all := lw_g (lw_at lw_m3 106 rfl) rfl
theorem q647 : (Jvm.Cond.fieldLink "PromiseDeskModel" (98 : Nat) "PromiseDeskModel" "list" "[I") ∈ lw_all := lw_g (lw_at lw_m3 107 rfl) rfl
theorem q648 : (Jvm.Cond.fieldLink "PromiseDeskModel" (251 : Nat) "PromiseDeskModel" "listed" "I") ∈ lw_all := lw_g (lw_at lw_m3 108 rfl) rfl
theorem q649 : (Jvm.Cond.fieldLink "PromiseDeskModel" (101 : Nat) "PromiseDeskModel" "value" "[I") ∈ lw_all := lw_g (lw_at lw_m3 109 rfl) rfl
theorem q650 : (Jvm.Cond.fieldLink "PromiseDeskModel" (104 : Nat) "PromiseDeskModel" "elementOf" "[I") ∈ lw_all := lw_g (lw_at lw_m3 110 rfl) rfl
theorem q651 : (Jvm.Cond.fieldLink "PromiseDeskModel" (107 : Nat) "PromiseDeskModel" "elementDone" "[Z") ∈ lw_all := lw_g (lw_at lw_m3 111 rfl) rfl
theorem q652 : (Jvm.Cond.fieldLink "PromiseDeskModel" (217 : Nat) "PromiseDeskModel" "values" "I") ∈ lw_all := lw_g (lw_at lw_m3 112 rfl) rfl
theorem q653 : (Jvm.Cond.fieldLink "PromiseDeskModel" (110 : Nat) "PromiseDeskModel" "from" "[I") ∈ lw_all := lw_g (lw_at lw_m3 113 rfl) rfl
theorem q654 : (Jvm.Cond.fieldLink "PromiseDeskModel" (113 : Nat) "PromiseDeskModel" "many" "[I") ∈ lw_all := lw_g (lw_at lw_m3 114 rfl) rfl
theorem q655 : (Jvm.Cond.fieldLink "PromiseDeskModel" (116 : Nat) "PromiseDeskModel" "left" "[I") ∈ lw_all := lw_g (lw_at lw_m3 115 rfl) rfl
theorem q656 : (Jvm.Cond.fieldLink "PromiseDeskModel" (119 : Nat) "PromiseDeskModel" "to" "[I") ∈ lw_all := lw_g (lw_at lw_m3 116 rfl) rfl
theorem q657 : (Jvm.Cond.fieldLink "PromiseDeskModel" (122 : Nat) "PromiseDeskModel" "end" "[I") ∈ lw_all := lw_g (lw_at lw_m3 117 rfl) rfl
theorem q658 : (Jvm.Cond.fieldLink "PromiseDeskModel" (125 : Nat) "PromiseDeskModel" "calls" "[I") ∈ lw_all := lw_g (lw_at lw_m3 118 rfl) rfl
theorem q659 : (Jvm.Cond.fieldLink "PromiseDeskModel" (128 : Nat) "PromiseDeskModel" "at" "[I") ∈ lw_all := lw_g (lw_at lw_m3 119 rfl) rfl
theorem q660 : (Jvm.Cond.fieldLink "PromiseDeskModel" (248 : Nat) "PromiseDeskModel" "groups" "I") ∈ lw_all := lw_g (lw_at lw_m3 120 rfl) rfl
theorem q661 : (Jvm.Cond.fieldLink "PromiseDeskModel" (193 : Nat) "PromiseDeskModel" "threw" "Z") ∈ lw_all := lw_g (lw_at lw_m3 121 rfl) rfl
theorem q662 : (Jvm.Cond.lays "PromiseDeskModel" "PromiseDeskModel" "thrown" "I") ∈ lw_all := lw_g (lw_at lw_m3 122 rfl) rfl
theorem q663 : (Jvm.Cond.soleField "PromiseDeskModel" "thrown") ∈ lw_all := lw_g (lw_at lw_m3 123 rfl) rfl
theorem q664 : (Jvm.Cond.lays "PromiseDeskModel" "PromiseDeskModel" "objects" "I") ∈ lw_all := lw_g (lw_at lw_m3 124 rfl) rfl
theorem q665 : (Jvm.Cond.soleField "PromiseDeskModel" "objects") ∈ lw_all := lw_g (lw_at lw_m3 125 rfl) rfl
theorem q666 : (Jvm.Cond.laysFinal "PromiseDeskModel" "PromiseDeskModel" "kind" "[I") ∈ lw_all := lw_g (lw_at lw_m3 126 rfl) rfl
theorem q667 : (Jvm.Cond.soleField "PromiseDeskModel" "kind") ∈ lw_all := lw_g (lw_at lw_m3 127 rfl) rfl
theorem q668 : (Jvm.Cond.laysFinal "PromiseDeskModel" "PromiseDeskModel" "state" "[I") ∈ lw_all := lw_g (lw_at lw_m3 128 rfl) rfl
theorem q669 : (Jvm.Cond.soleField "PromiseDeskModel" "state") ∈ lw_all := lw_g (lw_at lw_m3 129 rfl) rfl
theorem q670 : (Jvm.Cond.laysFinal "PromiseDeskModel" "PromiseDeskModel" "result" "[I") ∈ lw_all := lw_g (lw_at lw_m3 130 rfl) rfl
theorem q671 : (Jvm.Cond.soleField "PromiseDeskModel" "result") ∈ lw_all := lw_g (lw_at lw_m3 131 rfl) rfl
theorem q672 : (Jvm.Cond.laysFinal "PromiseDeskModel" "PromiseDeskModel" "reactions" "[I") ∈ lw_all := lw_g (lw_at lw_m3 132 rfl) rfl
theorem q673 : (Jvm.Cond.soleField "PromiseDeskModel" "reactions") ∈ lw_all := lw_g (lw_at lw_m3 133 rfl) rfl
theorem q674 : (Jvm.Cond.laysFinal "PromiseDeskModel" "PromiseDeskModel" "kept" "[I") ∈ lw_all := lw_g (lw_at lw_m3 134 rfl) rfl
theorem q675 : (Jvm.Cond.soleField "PromiseDeskModel" "kept") ∈ lw_all := lw_g (lw_at lw_m3 135 rfl) rfl
theorem q676 : (Jvm.Cond.laysFinal "PromiseDeskModel" "PromiseDeskModel" "handled" "[Z") ∈ lw_all := lw_g (lw_at lw_m3 136 rfl) rfl
theorem q677 : (Jvm.Cond.soleField "PromiseDeskModel" "handled") ∈ lw_all := lw_g (lw_at lw_m3 137 rfl) rfl
theorem q678 : (Jvm.Cond.laysFinal "PromiseDeskModel" "PromiseDeskModel" "dataA" "[I") ∈ lw_all := lw_g (lw_at lw_m3 138 rfl) rfl
theorem q679 : (Jvm.Cond.soleField "PromiseDeskModel" "dataA") ∈ lw_all := lw_g (lw_at lw_m3 139 rfl) rfl
theorem q680 : (Jvm.Cond.laysFinal "PromiseDeskModel" "PromiseDeskModel" "dataB" "[I") ∈ lw_all := lw_g (lw_at lw_m3 140 rfl) rfl
theorem q681 : (Jvm.Cond.soleField "PromiseDeskModel" "dataB") ∈ lw_all := lw_g (lw_at lw_m3 141 rfl) rfl
theorem q682 : (Jvm.Cond.laysFinal "PromiseDeskModel" "PromiseDeskModel" "dataC" "[I") ∈ lw_all := lw_g (lw_at lw_m3 142 rfl) rfl
theorem q683 : (Jvm.Cond.soleField "PromiseDeskModel" "dataC") ∈ lw_all := lw_g (lw_at lw_m3 143 rfl) rfl
theorem q684 : (Jvm.Cond.laysFinal "PromiseDeskModel" "PromiseDeskModel" "dataD" "[I") ∈ lw_all := lw_g (lw_at lw_m3 144 rfl) rfl
theorem q685 : (Jvm.Cond.soleField "PromiseDeskModel" "dataD") ∈ lw_all := lw_g (lw_at lw_m3 145 rfl) rfl
theorem q686 : (Jvm.Cond.laysFinal "PromiseDeskModel" "PromiseDeskModel" "dataE" "[I") ∈ lw_all := lw_g (lw_at lw_m3 146 rfl) rfl
theorem q687 : (Jvm.Cond.soleField "PromiseDeskModel" "dataE") ∈ lw_all := lw_g (lw_at lw_m3 147 rfl) rfl
theorem q688 : (Jvm.Cond.laysFinal "PromiseDeskModel" "PromiseDeskModel" "recordPromise" "[I") ∈ lw_all := lw_g (lw_at lw_m3 148 rfl) rfl
theorem q689 : (Jvm.Cond.soleField "PromiseDeskModel" "recordPromise") ∈ lw_all := lw_g (lw_at lw_m3 149 rfl) rfl
theorem q690 : (Jvm.Cond.laysFinal "PromiseDeskModel" "PromiseDeskModel" "recordDone" "[Z") ∈ lw_all := lw_g (lw_at lw_m3 150 rfl) rfl
theorem q691 : (Jvm.Cond.soleField "PromiseDeskModel" "recordDone") ∈ lw_all := lw_g (lw_at lw_m3 151 rfl) rfl
theorem q692 : (Jvm.Cond.lays "PromiseDeskModel" "PromiseDeskModel" "records" "I") ∈ lw_all := lw_g (lw_at lw_m3 152 rfl) rfl
theorem q693 : (Jvm.Cond.soleField "PromiseDeskModel" "records") ∈ lw_all := lw_g (lw_at lw_m3 153 rfl) rfl
theorem q694 : (Jvm.Cond.laysFinal "PromiseDeskModel" "PromiseDeskModel" "reactionNext" "[I") ∈ lw_all := lw_g (lw_at lw_m3 154 rfl) rfl
theorem q695 : (Jvm.Cond.soleField "PromiseDeskModel" "reactionNext") ∈ lw_all := lw_g (lw_at lw_m3 155 rfl) rfl
theorem q696 : (Jvm.Cond.laysFinal "PromiseDeskModel" "PromiseDeskModel" "reactionTo" "[I") ∈ lw_all := lw_g (lw_at lw_m3 156 rfl) rfl
theorem q697 : (Jvm.Cond.soleField "PromiseDeskModel" "reactionTo") ∈ lw_all := lw_g (lw_at lw_m3 157 rfl) rfl
theorem q698 : (Jvm.Cond.laysFinal "PromiseDeskModel" "PromiseDeskModel" "yesKind" "[I") ∈ lw_all := lw_g (lw_at lw_m3 158 rfl) rfl
theorem q699 : (Jvm.Cond.soleField "PromiseDeskModel" "yesKind") ∈ lw_all := lw_g (lw_at lw_m3 159 rfl) rfl
theorem q700 : (Jvm.Cond.laysFinal "PromiseDeskModel" "PromiseDeskModel" "yesOf" "[I") ∈ lw_all := lw_g (lw_at lw_m3 160 rfl) rfl
theorem q701 : (Jvm.Cond.soleField "PromiseDeskModel" "yesOf") ∈ lw_all := lw_g (lw_at lw_m3 161 rfl) rfl
theorem q702 : (Jvm.Cond.laysFinal "PromiseDeskModel" "PromiseDeskModel" "noKind" "[I") ∈ lw_all := lw_g (lw_at lw_m3 162 rfl) rfl
theorem q703 : (Jvm.Cond.soleField "PromiseDeskModel" "noKind") ∈ lw_all := lw_g (lw_at lw_m3 163 rfl) rfl
theorem q704 : (Jvm.Cond.laysFinal "PromiseDeskModel" "PromiseDeskModel" "noOf" "[I") ∈ lw_all := lw_g (lw_at lw_m3 164 rfl) rfl
theorem q705 : (Jvm.Cond.soleField "PromiseDeskModel" "noOf") ∈ lw_all := lw_g (lw_at lw_m3 165 rfl) rfl
theorem q706 : (Jvm.Cond.lays "PromiseDeskModel" "PromiseDeskModel" "reactionMany" "I") ∈ lw_all := lw_g (lw_at lw_m3 166 rfl) rfl
theorem q707 : (Jvm.Cond.soleField "PromiseDeskModel" "reactionMany") ∈ lw_all := lw_g (lw_at lw_m3 167 rfl) rfl
theorem q708 : (Jvm.Cond.laysFinal "PromiseDeskModel" "PromiseDeskModel" "jobKind" "[I") ∈ lw_all := lw_g (lw_at lw_m3 168 rfl) rfl
theorem q709 : (Jvm.Cond.soleField "PromiseDeskModel" "jobKind") ∈ lw_all := lw_g (lw_at lw_m3 169 rfl) rfl
theorem q710 : (Jvm.Cond.laysFinal "PromiseDeskModel" "PromiseDeskModel" "jobOf" "[I") ∈ lw_all := lw_g (lw_at lw_m3 170 rfl) rfl
theorem q711 : (Jvm.Cond.soleField "PromiseDeskModel" "jobOf") ∈ lw_all := lw_g (lw_at lw_m3 171 rfl) rfl
theorem q712 : (Jvm.Cond.laysFinal "PromiseDeskModel" "PromiseDeskModel" "jobTo" "[I") ∈ lw_all := lw_g (lw_at lw_m3 172 rfl) rfl
theorem q713 : (Jvm.Cond.soleField "PromiseDeskModel" "jobTo") ∈ lw_all := lw_g (lw_at lw_m3 173 rfl) rfl
theorem q714 : (Jvm.Cond.laysFinal "PromiseDeskModel" "PromiseDeskModel" "jobArgument" "[I") ∈ lw_all := lw_g (lw_at lw_m3 174 rfl) rfl
theorem q715 : (Jvm.Cond.soleField "PromiseDeskModel" "jobArgument") ∈ lw_all := lw_g (lw_at lw_m3 175 rfl) rfl
theorem q716 : (Jvm.Cond.laysFinal "PromiseDeskModel" "PromiseDeskModel" "jobRejects" "[Z") ∈ lw_all := lw_g (lw_at lw_m3 176 rfl) rfl
theorem q717 : (Jvm.Cond.soleField "PromiseDeskModel" "jobRejects") ∈ lw_all := lw_g (lw_at lw_m3 177 rfl) rfl
theorem q718 : (Jvm.Cond.laysFinal "PromiseDeskModel" "PromiseDeskModel" "jobThen" "[Z") ∈ lw_all := lw_g (lw_at lw_m3 178 rfl) rfl
theorem q719 : (Jvm.Cond.soleField "PromiseDeskModel" "jobThen") ∈ lw_all := lw_g (lw_at lw_m3 179 rfl) rfl
theorem q720 : (Jvm.Cond.lays "PromiseDeskModel" "PromiseDeskModel" "jobFirst" "I") ∈ lw_all := lw_g (lw_at lw_m3 180 rfl) rfl
theorem q721 : (Jvm.Cond.soleField "PromiseDeskModel" "jobFirst") ∈ lw_all := lw_g (lw_at lw_m3 181 rfl) rfl
theorem q722 : (Jvm.Cond.lays "PromiseDeskModel" "PromiseDeskModel" "jobEnd" "I") ∈ lw_all := lw_g (lw_at lw_m3 182 rfl) rfl
theorem q723 : (Jvm.Cond.soleField "PromiseDeskModel" "jobEnd") ∈ lw_all := lw_g (lw_at lw_m3 183 rfl) rfl
theorem q724 : (Jvm.Cond.laysFinal "PromiseDeskModel" "PromiseDeskModel" "act" "[I") ∈ lw_all := lw_g (lw_at lw_m3 184 rfl) rfl
theorem q725 : (Jvm.Cond.soleField "PromiseDeskModel" "act") ∈ lw_all := lw_g (lw_at lw_m3 185 rfl) rfl
theorem q726 : (Jvm.Cond.laysFinal "PromiseDeskModel" "PromiseDeskModel" "actValue" "[I") ∈ lw_all := lw_g (lw_at lw_m3 186 rfl) rfl
theorem q727 : (Jvm.Cond.soleField "PromiseDeskModel" "actValue") ∈ lw_all := lw_g (lw_at lw_m3 187 rfl) rfl
theorem q728 : (Jvm.Cond.lays "PromiseDeskModel" "PromiseDeskModel" "handlers" "I") ∈ lw_all := lw_g (lw_at lw_m3 188 rfl) rfl
theorem q729 : (Jvm.Cond.soleField "PromiseDeskModel" "handlers") ∈ lw_all := lw_g (lw_at lw_m3 189 rfl) rfl
theorem q730 : (Jvm.Cond.laysFinal "PromiseDeskModel" "PromiseDeskModel" "logWho" "[I") ∈ lw_all := lw_g (lw_at lw_m3 190 rfl) rfl
theorem q731 : (Jvm.Cond.soleField "PromiseDeskModel" "logWho") ∈ lw_all := lw_g (lw_at lw_m3 191 rfl) rfl
theorem q732 : (Jvm.Cond.laysFinal "PromiseDeskModel" "PromiseDeskModel" "logWhat" "[I") ∈ lw_all := lw_g (lw_at lw_m3 192 rfl) rfl
theorem q733 : (Jvm.Cond.soleField "PromiseDeskModel" "logWhat") ∈ lw_all := lw_g (lw_at lw_m3 193 rfl) rfl
theorem q734 : (Jvm.Cond.lays "PromiseDeskModel" "PromiseDeskModel" "logs" "I") ∈ lw_all := lw_g (lw_at lw_m3 194 rfl) rfl
theorem q735 : (Jvm.Cond.soleField "PromiseDeskModel" "logs") ∈ lw_all := lw_g (lw_at lw_m3 195 rfl) rfl
theorem q736 : (Jvm.Cond.laysFinal "PromiseDeskModel" "PromiseDeskModel" "list" "[I") ∈ lw_all := lw_g (lw_at lw_m3 196 rfl) rfl
theorem q737 : (Jvm.Cond.soleField "PromiseDeskModel" "list") ∈ lw_all := lw_g (lw_at lw_m3 197 rfl) rfl
theorem q738 : (Jvm.Cond.lays "PromiseDeskModel" "PromiseDeskModel" "listed" "I") ∈ lw_all := lw_g (lw_at lw_m3 198 rfl) rfl
theorem q739 : (Jvm.Cond.soleField "PromiseDeskModel" "listed") ∈ lw_all := lw_g (lw_at lw_m3 199 rfl) rfl
theorem q740 : (Jvm.Cond.laysFinal "PromiseDeskModel" "PromiseDeskModel" "value" "[I") ∈ lw_all := lw_g (lw_at lw_m3 200 rfl) rfl
theorem q741 : (Jvm.Cond.soleField "PromiseDeskModel" "value") ∈ lw_all := lw_g (lw_at lw_m3 201 rfl) rfl
theorem q742 : (Jvm.Cond.laysFinal "PromiseDeskModel" "PromiseDeskModel" "elementOf" "[I") ∈ lw_all := lw_g (lw_at lw_m3 202 rfl) rfl
theorem q743 : (Jvm.Cond.soleField "PromiseDeskModel" "elementOf") ∈ lw_all := lw_g (lw_at lw_m3 203 rfl) rfl
theorem q744 : (Jvm.Cond.laysFinal "PromiseDeskModel" "PromiseDeskModel" "elementDone" "[Z") ∈ lw_all := lw_g (lw_at lw_m3 204 rfl) rfl
theorem q745 : (Jvm.Cond.soleField "PromiseDeskModel" "elementDone") ∈ lw_all := lw_g (lw_at lw_m3 205 rfl) rfl
theorem q746 : (Jvm.Cond.lays "PromiseDeskModel" "PromiseDeskModel" "values" "I") ∈ lw_all := lw_g (lw_at lw_m3 206 rfl) rfl
theorem q747 : (Jvm.Cond.soleField "PromiseDeskModel" "values") ∈ lw_all := lw_g (lw_at lw_m3 207 rfl) rfl
theorem q748 : (Jvm.Cond.laysFinal "PromiseDeskModel" "PromiseDeskModel" "from" "[I") ∈ lw_all := lw_g (lw_at lw_m3 208 rfl) rfl
theorem q749 : (Jvm.Cond.soleField "PromiseDeskModel" "from") ∈ lw_all := lw_g (lw_at lw_m3 209 rfl) rfl
theorem q750 : (Jvm.Cond.laysFinal "PromiseDeskModel" "PromiseDeskModel" "many" "[I") ∈ lw_all := lw_g (lw_at lw_m3 210 rfl) rfl
theorem q751 : (Jvm.Cond.soleField "PromiseDeskModel" "many") ∈ lw_all := lw_g (lw_at lw_m3 211 rfl) rfl
theorem q752 : (Jvm.Cond.laysFinal "PromiseDeskModel" "PromiseDeskModel" "left" "[I") ∈ lw_all := lw_g (lw_at lw_m3 212 rfl) rfl
theorem q753 : (Jvm.Cond.soleField "PromiseDeskModel" "left") ∈ lw_all := lw_g (lw_at lw_m3 213 rfl) rfl
theorem q754 : (Jvm.Cond.laysFinal "PromiseDeskModel" "PromiseDeskModel" "to" "[I") ∈ lw_all := lw_g (lw_at lw_m3 214 rfl) rfl
theorem q755 : (Jvm.Cond.soleField "PromiseDeskModel" "to") ∈ lw_all := lw_g (lw_at lw_m3 215 rfl) rfl
theorem q756 : (Jvm.Cond.laysFinal "PromiseDeskModel" "PromiseDeskModel" "end" "[I") ∈ lw_all := lw_g (lw_at lw_m3 216 rfl) rfl
theorem q757 : (Jvm.Cond.soleField "PromiseDeskModel" "end") ∈ lw_all := lw_g (lw_at lw_m3 217 rfl) rfl
theorem q758 : (Jvm.Cond.laysFinal "PromiseDeskModel" "PromiseDeskModel" "calls" "[I") ∈ lw_all := lw_g (lw_at lw_m3 218 rfl) rfl
theorem q759 : (Jvm.Cond.soleField "PromiseDeskModel" "calls") ∈ lw_all := lw_g (lw_at lw_m3 219 rfl) rfl
theorem q760 : (Jvm.Cond.laysFinal "PromiseDeskModel" "PromiseDeskModel" "at" "[I") ∈ lw_all := lw_g (lw_at lw_m3 220 rfl) rfl
theorem q761 : (Jvm.Cond.soleField "PromiseDeskModel" "at") ∈ lw_all := lw_g (lw_at lw_m3 221 rfl) rfl
theorem q762 : (Jvm.Cond.lays "PromiseDeskModel" "PromiseDeskModel" "groups" "I") ∈ lw_all := lw_g (lw_at lw_m3 222 rfl) rfl
theorem q763 : (Jvm.Cond.soleField "PromiseDeskModel" "groups") ∈ lw_all := lw_g (lw_at lw_m3 223 rfl) rfl
theorem q764 : (Jvm.Cond.lays "PromiseDeskModel" "PromiseDeskModel" "threw" "Z") ∈ lw_all := lw_g (lw_at lw_m3 224 rfl) rfl
theorem q765 : (Jvm.Cond.soleField "PromiseDeskModel" "threw") ∈ lw_all := lw_g (lw_at lw_m3 225 rfl) rfl
theorem q766 : (Jvm.Cond.superclass "PromiseDeskModel" "java/lang/Object") ∈ lw_all := lw_g (lw_at lw_m3 226 rfl) rfl
theorem q768 : (Jvm.Cond.instanceMethod ({ cls := "PromiseDeskModel", name := "thrown", desc := "()I" } : Jvm.MethodName)) ∈ lw_all := lw_g (lw_at lw_m3 228 rfl) rfl
theorem q769 : (Jvm.Cond.selects "PromiseDeskModel" ({ cls := "PromiseDeskModel", name := "thrown", desc := "()I" } : Jvm.MethodName) ({ cls := "PromiseDeskModel", name := "thrown", desc := "()I" } : Jvm.MethodName)) ∈ lw_all := lw_g (lw_at lw_m3 229 rfl) rfl
theorem q770 : (Jvm.Cond.code ({ cls := "PromiseDeskModel", name := "thrown", desc := "()I" } : Jvm.MethodName) prog_3_method_2_code (1 : Nat) (Option.some Jvm.ClassFile.FieldType.int)) ∈ lw_all := lw_g (lw_at lw_m3 230 rfl) rfl
theorem q772 : (Jvm.Cond.instanceMethod ({ cls := "PromiseDeskModel", name := "promise", desc := "()I" } : Jvm.MethodName)) ∈ lw_all := lw_g (lw_at lw_m3 232 rfl) rfl
theorem q773 : (Jvm.Cond.selects "PromiseDeskModel" ({ cls := "PromiseDeskModel", name := "promise", desc := "()I" } : Jvm.MethodName) ({ cls := "PromiseDeskModel", name := "promise", desc := "()I" } : Jvm.MethodName)) ∈ lw_all := lw_g (lw_at lw_m3 233 rfl) rfl
theorem q774 : (Jvm.Cond.code ({ cls := "PromiseDeskModel", name := "promise", desc := "()I" } : Jvm.MethodName) prog_3_method_33_code (3 : Nat) (Option.some Jvm.ClassFile.FieldType.int)) ∈ lw_all := lw_g (lw_at lw_m3 234 rfl) rfl
theorem q775 : (Jvm.Cond.methodLink "PromiseDeskModel" (254 : Nat) ({ cls := "PromiseDeskModel", name := "isFull", desc := "(I)Z" } : Jvm.MethodName)) ∈ lw_all := lw_g (lw_at lw_m3 235 rfl) rfl
theorem q776 : (Jvm.Cond.privateMethod ({ cls := "PromiseDeskModel", name := "isFull", desc := "(I)Z" } : Jvm.MethodName)) ∈ lw_tbl := lw_at lw_m3 236 rfl
theorem q777 : (Jvm.Cond.instanceMethod ({ cls := "PromiseDeskModel", name := "isFull", desc := "(I)Z" } : Jvm.MethodName)) ∈ lw_all := lw_g (lw_at lw_m3 237 rfl) rfl
theorem q778 : (Jvm.Cond.code ({ cls := "PromiseDeskModel", name := "isFull", desc := "(I)Z" } : Jvm.MethodName) prog_3_method_9_code (2 : Nat) (Option.some Jvm.ClassFile.FieldType.boolean)) ∈ lw_all := lw_g (lw_at lw_m3 238 rfl) rfl
theorem q779 : (Jvm.Cond.methodLink "PromiseDeskModel" (257 : Nat) ({ cls := "PromiseDeskModel", name := "fails", desc := "(I)I" } : Jvm.MethodName)) ∈ lw_all := lw_g (lw_at lw_m3 239 rfl) rfl
theorem q780 : (Jvm.Cond.privateMethod ({ cls := "PromiseDeskModel", name := "fails", desc := "(I)I" } : Jvm.MethodName)) ∈ lw_tbl := lw_at lw_m4 0 rfl
theorem q781 : (Jvm.Cond.instanceMethod ({ cls := "PromiseDeskModel", name := "fails", desc := "(I)I" } : Jvm.MethodName)) ∈ lw_all := lw_g (lw_at lw_m4 1 rfl) rfl
theorem q782 : (Jvm.Cond.code ({ cls := "PromiseDeskModel", name := "fails", desc := "(I)I" } : Jvm.MethodName) prog_3_method_3_code (2 : Nat) (Option.some Jvm.ClassFile.FieldType.int)) ∈ lw_all := lw_g (lw_at lw_m4 2 rfl) rfl
theorem q783 : (Jvm.Cond.methodLink "PromiseDeskModel" (171 : Nat) ({ cls := "PromiseDeskModel", name := "capability", desc := "()I" } : Jvm.MethodName)) ∈ lw_all := lw_g (lw_at lw_m4 3 rfl) rfl
theorem q784 : (Jvm.Cond.privateMethod ({ cls := "PromiseDeskModel", name := "capability", desc := "()I" } : Jvm.MethodName)) ∈ lw_tbl := lw_at lw_m4 4 rfl
theorem q785 : (Jvm.Cond.instanceMethod ({ cls := "PromiseDeskModel", name := "capability", desc := "()I" } : Jvm.MethodName)) ∈ lw_all := lw_g (lw_at lw_m4 5 rfl) rfl
theorem q786 : (Jvm.Cond.code ({ cls := "PromiseDeskModel", name := "capability", desc := "()I" } : Jvm.MethodName) prog_3_method_12_code (1 : Nat) (Option.some Jvm.ClassFile.FieldType.int)) ∈ lw_all := lw_g (lw_at lw_m4 6 rfl) rfl
theorem q787 : (Jvm.Cond.methodLink "PromiseDeskModel" (148 : Nat) ({ cls := "PromiseDeskModel", name := "newObject", desc := "(I)I" } : Jvm.MethodName)) ∈ lw_all := lw_g (lw_at lw_m4 7 rfl) rfl
theorem q788 : (Jvm.Cond.privateMethod ({ cls := "PromiseDeskModel", name := "newObject", desc := "(I)I" } : Jvm.MethodName)) ∈ lw_tbl := lw_at lw_m4 8 rfl
theorem q789 : (Jvm.Cond.instanceMethod ({ cls := "PromiseDeskModel", name := "newObject", desc := "(I)I" } : Jvm.MethodName)) ∈ lw_all := lw_g (lw_at lw_m4 9 rfl) rfl
theorem q790 : (Jvm.Cond.code ({ cls := "PromiseDeskModel", name := "newObject", desc := "(I)I" } : Jvm.MethodName) prog_3_method_10_code (3 : Nat) (Option.some Jvm.ClassFile.FieldType.int)) ∈ lw_all := lw_g (lw_at lw_m4 10 rfl) rfl
theorem q791 : (Jvm.Cond.methodLink "PromiseDeskModel" (152 : Nat) ({ cls := "PromiseDeskModel", name := "record", desc := "(I)I" } : Jvm.MethodName)) ∈ lw_all := lw_g (lw_at lw_m4 11 rfl) rfl
theorem q792 : (Jvm.Cond.privateMethod ({ cls := "PromiseDeskModel", name := "record", desc := "(I)I" } : Jvm.MethodName)) ∈ lw_tbl := lw_at lw_m4 12 rfl
theorem q793 : (Jvm.Cond.instanceMethod ({ cls := "PromiseDeskModel", name := "record", desc := "(I)I" } : Jvm.MethodName)) ∈ lw_all := lw_g (lw_at lw_m4 13 rfl) rfl
theorem q794 : (Jvm.Cond.code ({ cls := "PromiseDeskModel", name := "record", desc := "(I)I" } : Jvm.MethodName) prog_3_method_11_code (3 : Nat) (Option.some Jvm.ClassFile.FieldType.int)) ∈ lw_all := lw_g (lw_at lw_m4 14 rfl) rfl
theorem q795 : (Jvm.Cond.methodLink "PromiseDeskModel" (155 : Nat) ({ cls := "PromiseDeskModel", name := "valueOf", desc := "(I)I" } : Jvm.MethodName)) ∈ lw_all := lw_g (lw_at lw_m4 15 rfl) rfl
theorem q796 : (Jvm.Cond.static ({ cls := "PromiseDeskModel", name := "valueOf", desc := "(I)I" } : Jvm.MethodName)) ∈ lw_all := lw_g (lw_at lw_m4 16 rfl) rfl
theorem q797 : (Jvm.Cond.code ({ cls := "PromiseDeskModel", name := "valueOf", desc := "(I)I" } : Jvm.MethodName) prog_3_method_4_code (1 : Nat) (Option.some Jvm.ClassFile.FieldType.int)) ∈ lw_all := lw_g (lw_at lw_m4 17 rfl) rfl
theorem q799 : (Jvm.Cond.instanceMethod ({ cls := "PromiseDeskModel", name := "handler", desc := "(II)I" } : Jvm.MethodName)) ∈ lw_all := lw_g (lw_at lw_m4 19 rfl) rfl
theorem q800 : (Jvm.Cond.selects "PromiseDeskModel" ({ cls := "PromiseDeskModel", name := "handler", desc := "(II)I" } : Jvm.MethodName) ({ cls := "PromiseDeskModel", name := "handler", desc := "(II)I" } : Jvm.MethodName)) ∈ lw_all := lw_g (lw_at lw_m4 20 rfl) rfl
theorem q801 : (Jvm.Cond.code ({ cls := "PromiseDeskModel", name := "handler", desc := "(II)I" } : Jvm.MethodName) prog_3_method_35_code (3 : Nat) (Option.some Jvm.ClassFile.FieldType.int)) ∈ lw_all := lw_g (lw_at lw_m4 21 rfl) rfl
theorem q802 : (Jvm.Cond.methodLink "PromiseDeskModel" (260 : Nat) ({ cls := "PromiseDeskModel", name := "isValue", desc := "(I)Z" } : Jvm.MethodName)) ∈ lw_all := lw_g (lw_at lw_m4 22 rfl) rfl
theorem q803 : (Jvm.Cond.privateMethod ({ cls := "PromiseDeskModel", name := "isValue", desc := "(I)Z" } : Jvm.MethodName)) ∈ lw_tbl := lw_at lw_m4 23 rfl
theorem q804 : (Jvm.Cond.instanceMethod ({ cls := "PromiseDeskModel", name := "isValue", desc := "(I)Z" } : Jvm.MethodName)) ∈ lw_all := lw_g (lw_at lw_m4 24 rfl) rfl
theorem q805 : (Jvm.Cond.code ({ cls := "PromiseDeskModel", name := "isValue", desc := "(I)Z" } : Jvm.MethodName) prog_3_method_6_code (2 : Nat) (Option.some Jvm.ClassFile.FieldType.boolean)) ∈ lw_all := lw_g (lw_at lw_m4 25 rfl) rfl
theorem q806 : (Jvm.Cond.methodLink "PromiseDeskModel" (138 : Nat) ({ cls := "PromiseDeskModel", name := "isObject", desc := "(I)Z" } : Jvm.MethodName)) ∈ lw_all := lw_g (lw_at lw_m4 26 rfl) rfl
theorem q807 : (Jvm.Cond.privateMethod ({ cls := "PromiseDeskModel", name := "isObject", desc := "(I)Z" } : Jvm.MethodName)) ∈ lw_tbl := lw_at lw_m4 27 rfl
theorem q808 : (Jvm.Cond.instanceMethod ({ cls := "PromiseDeskModel", name := "isObject", desc := "(I)Z" } : Jvm.MethodName)) ∈ lw_all := lw_g (lw_at lw_m4 28 rfl) rfl
theorem q809 : (Jvm.Cond.code ({ cls := "PromiseDeskModel", name := "isObject", desc := "(I)Z" } : Jvm.MethodName) prog_3_method_5_code (2 : Nat) (Option.some Jvm.ClassFile.FieldType.boolean)) ∈ lw_all := lw_g (lw_at lw_m4 29 rfl) rfl
theorem q810 : (Jvm.Cond.methodLink "PromiseDeskModel" (263 : Nat) ({ cls := "PromiseDeskModel", name := "isKept", desc := "(I)Z" } : Jvm.MethodName)) ∈ lw_all := lw_g (lw_at lw_m4 30 rfl) rfl
theorem q811 : (Jvm.Cond.privateMethod ({ cls := "PromiseDeskModel", name := "isKept", desc := "(I)Z" } : Jvm.MethodName)) ∈ lw_tbl := lw_at lw_m4 31 rfl
theorem q812 : (Jvm.Cond.instanceMethod ({ cls := "PromiseDeskModel", name := "isKept", desc := "(I)Z" } : Jvm.MethodName)) ∈ lw_all := lw_g (lw_at lw_m4 32 rfl) rfl
theorem q813 : (Jvm.Cond.code ({ cls := "PromiseDeskModel", name := "isKept", desc := "(I)Z" } : Jvm.MethodName) prog_3_method_34_code (2 : Nat) (Option.some Jvm.ClassFile.FieldType.boolean)) ∈ lw_all := lw_g (lw_at lw_m4 33 rfl) rfl
theorem q814 : (Jvm.Cond.methodLink "PromiseDeskModel" (179 : Nat) ({ cls := "PromiseDeskModel", name := "isKind", desc := "(II)Z" } : Jvm.MethodName)) ∈ lw_all := lw_g (lw_at lw_m4 34 rfl) rfl
theorem q815 : (Jvm.Cond.privateMethod ({ cls := "PromiseDeskModel", name := "isKind", desc := "(II)Z" } : Jvm.MethodName)) ∈ lw_tbl := lw_at lw_m4 35 rfl
theorem q816 : (Jvm.Cond.instanceMethod ({ cls := "PromiseDeskModel", name := "isKind", desc := "(II)Z" } : Jvm.MethodName)) ∈ lw_all := lw_g (lw_at lw_m4 36 rfl) rfl
theorem q817 : (Jvm.Cond.code ({ cls := "PromiseDeskModel", name := "isKind", desc := "(II)Z" } : Jvm.MethodName) prog_3_method_7_code (3 : Nat) (Option.some Jvm.ClassFile.FieldType.boolean)) ∈ lw_all := lw_g (lw_at lw_m4 37 rfl) rfl
theorem q819 : (Jvm.Cond.instanceMethod ({ cls := "PromiseDeskModel", name := "thenable", desc := "(IIIII)I" } : Jvm.MethodName)) ∈ lw_all := lw_g (lw_at lw_m4 39 rfl) rfl
theorem q820 : (Jvm.Cond.selects "PromiseDeskModel" ({ cls := "PromiseDeskModel", name := "thenable", desc := "(IIIII)I" } : Jvm.MethodName) ({ cls := "PromiseDeskModel", name := "thenable", desc := "(IIIII)I" } : Jvm.MethodName)) ∈ lw_all := lw_g (lw_at lw_m4 40 rfl) rfl
theorem q821 : (Jvm.Cond.code ({ cls := "PromiseDeskModel", name := "thenable", desc := "(IIIII)I" } : Jvm.MethodName) prog_3_method_36_code (7 : Nat) (Option.some Jvm.ClassFile.FieldType.int)) ∈ lw_all := lw_g (lw_at lw_m4 41 rfl) rfl
theorem q823 : (Jvm.Cond.instanceMethod ({ cls := "PromiseDeskModel", name := "settle", desc := "(IZI)Z" } : Jvm.MethodName)) ∈ lw_all := lw_g (lw_at lw_m4 43 rfl) rfl
theorem q824 : (Jvm.Cond.selects "PromiseDeskModel" ({ cls := "PromiseDeskModel", name := "settle", desc := "(IZI)Z" } : Jvm.MethodName) ({ cls := "PromiseDeskModel", name := "settle", desc := "(IZI)Z" } : Jvm.MethodName)) ∈ lw_all := lw_g (lw_at lw_m4 44 rfl) rfl
theorem q825 : (Jvm.Cond.code ({ cls := "PromiseDeskModel", name := "settle", desc := "(IZI)Z" } : Jvm.MethodName) prog_3_method_37_code (6 : Nat) (Option.some Jvm.ClassFile.FieldType.boolean)) ∈ lw_all := lw_g (lw_at lw_m4 45 rfl) rfl
theorem q826 : (Jvm.Cond.methodLink "PromiseDeskModel" (197 : Nat) ({ cls := "PromiseDeskModel", name := "reject", desc := "(II)V" } : Jvm.MethodName)) ∈ lw_all := lw_g (lw_at lw_m4 46 rfl) rfl
theorem q827 : (Jvm.Cond.privateMethod ({ cls := "PromiseDeskModel", name := "reject", desc := "(II)V" } : Jvm.MethodName)) ∈ lw_tbl := lw_at lw_m4 47 rfl
theorem q828 : (Jvm.Cond.instanceMethod ({ cls := "PromiseDeskModel", name := "reject", desc := "(II)V" } : Jvm.MethodName)) ∈ lw_all := lw_g (lw_at lw_m4 48 rfl) rfl
theorem q829 : (Jvm.Cond.code ({ cls := "PromiseDeskModel", name := "reject", desc := "(II)V" } : Jvm.MethodName) prog_3_method_14_code (3 : Nat) (Option.none : Option Jvm.ClassFile.FieldType)) ∈ lw_all := lw_g (lw_at lw_m4 49 rfl) rfl
theorem q830 : (Jvm.Cond.methodLink "PromiseDeskModel" (158 : Nat) ({ cls := "PromiseDeskModel", name := "settle", desc := "(III)V" } : Jvm.MethodName)) ∈ lw_all := lw_g (lw_at lw_m4 50 rfl) rfl
theorem q831 : (Jvm.Cond.privateMethod ({ cls := "PromiseDeskModel", name := "settle", desc := "(III)V" } : Jvm.MethodName)) ∈ lw_tbl := lw_at lw_m4 51 rfl
theorem q832 : (Jvm.Cond.instanceMethod ({ cls := "PromiseDeskModel", name := "settle", desc := "(III)V" } : Jvm.MethodName)) ∈ lw_all := lw_g (lw_at lw_m4 52 rfl) rfl
theorem q833 : (Jvm.Cond.code ({ cls := "PromiseDeskModel", name := "settle", desc := "(III)V" } : Jvm.MethodName) prog_3_method_15_code (5 : Nat) (Option.none : Option Jvm.ClassFile.FieldType)) ∈ lw_all := lw_g (lw_at lw_m4 53 rfl) rfl
theorem q834 : (Jvm.Cond.methodLink "PromiseDeskModel" (165 : Nat) ({ cls := "PromiseDeskModel", name := "react", desc := "(III)V" } : Jvm.MethodName)) ∈ lw_all := lw_g (lw_at lw_m4 54 rfl) rfl
theorem q835 : (Jvm.Cond.privateMethod ({ cls := "PromiseDeskModel", name := "react", desc := "(III)V" } : Jvm.MethodName)) ∈ lw_tbl := lw_at lw_m4 55 rfl
theorem q836 : (Jvm.Cond.instanceMethod ({ cls := "PromiseDeskModel", name := "react", desc := "(III)V" } : Jvm.MethodName)) ∈ lw_all := lw_g (lw_at lw_m4 56 rfl) rfl
theorem q837 : (Jvm.Cond.code ({ cls := "PromiseDeskModel", name := "react", desc := "(III)V" } : Jvm.MethodName) prog_3_method_16_code (4 : Nat) (Option.none : Option Jvm.ClassFile.FieldType)) ∈ lw_all := lw_g (lw_at lw_m4 57 rfl) rfl
theorem q838 : (Jvm.Cond.methodLink "PromiseDeskModel" (183 : Nat) ({ cls := "PromiseDeskModel", name := "resolve", desc := "(II)V" } : Jvm.MethodName)) ∈ lw_all := lw_g (lw_at lw_m4 58 rfl) rfl
theorem q839 : (Jvm.Cond.privateMethod ({ cls := "PromiseDeskModel", name := "resolve", desc := "(II)V" } : Jvm.MethodName)) ∈ lw_tbl := lw_at lw_m4 59 rfl
theorem q840 : (Jvm.Cond.instanceMethod ({ cls := "PromiseDeskModel", name := "resolve", desc := "(II)V" } : Jvm.MethodName)) ∈ lw_all := lw_g (lw_at lw_m4 60 rfl) rfl
theorem q841 : (Jvm.Cond.code ({ cls := "PromiseDeskModel", name := "resolve", desc := "(II)V" } : Jvm.MethodName) prog_3_method_13_code (5 : Nat) (Option.none : Option Jvm.ClassFile.FieldType)) ∈ lw_all := lw_g (lw_at lw_m4 61 rfl) rfl
theorem q843 : (Jvm.Cond.instanceMethod ({ cls := "PromiseDeskModel", name := "later", desc := "(IZI)I" } : Jvm.MethodName)) ∈ lw_all := lw_g (lw_at lw_m4 63 rfl) rfl
theorem q844 : (Jvm.Cond.selects "PromiseDeskModel" ({ cls := "PromiseDeskModel", name := "later", desc := "(IZI)I" } : Jvm.MethodName) ({ cls := "PromiseDeskModel", name := "later", desc := "(IZI)I" } : Jvm.MethodName)) ∈ lw_all := lw_g (lw_at lw_m4 64 rfl) rfl
theorem q845 : (Jvm.Cond.code ({ cls := "PromiseDeskModel", name := "later", desc := "(IZI)I" } : Jvm.MethodName) prog_3_method_38_code (6 : Nat) (Option.some Jvm.ClassFile.FieldType.int)) ∈ lw_all := lw_g (lw_at lw_m4 65 rfl) rfl
theorem q847 : (Jvm.Cond.instanceMethod ({ cls := "PromiseDeskModel", name := "then", desc := "(IIIZ)I" } : Jvm.MethodName)) ∈ lw_all := lw_g (lw_at lw_m4 67 rfl) rfl
theorem q848 : (Jvm.Cond.selects "PromiseDeskModel" ({ cls := "PromiseDeskModel", name := "then", desc := "(IIIZ)I" } : Jvm.MethodName) ({ cls := "PromiseDeskModel", name := "then", desc := "(IIIZ)I" } : Jvm.MethodName)) ∈ lw_all := lw_g (lw_at lw_m4 68 rfl) rfl
theorem q849 : (Jvm.Cond.code ({ cls := "PromiseDeskModel", name := "then", desc := "(IIIZ)I" } : Jvm.MethodName) prog_3_method_39_code (6 : Nat) (Option.some Jvm.ClassFile.FieldType.int)) ∈ lw_all := lw_g (lw_at lw_m4 69 rfl) rfl
theorem q850 : (Jvm.Cond.methodLink "PromiseDeskModel" (266 : Nat) ({ cls := "PromiseDeskModel", name := "isHandler", desc := "(I)Z" } : Jvm.MethodName)) ∈ lw_all := lw_g (lw_at lw_m4 70 rfl) rfl
theorem q851 : (Jvm.Cond.privateMethod ({ cls := "PromiseDeskModel", name := "isHandler", desc := "(I)Z" } : Jvm.MethodName)) ∈ lw_tbl := lw_at lw_m4 71 rfl
theorem q852 : (Jvm.Cond.instanceMethod ({ cls := "PromiseDeskModel", name := "isHandler", desc := "(I)Z" } : Jvm.MethodName)) ∈ lw_all := lw_g (lw_at lw_m4 72 rfl) rfl
theorem q853 : (Jvm.Cond.code ({ cls := "PromiseDeskModel", name := "isHandler", desc := "(I)Z" } : Jvm.MethodName) prog_3_method_8_code (2 : Nat) (Option.some Jvm.ClassFile.FieldType.boolean)) ∈ lw_all := lw_g (lw_at lw_m4 73 rfl) rfl
theorem q854 : (Jvm.Cond.methodLink "PromiseDeskModel" (220 : Nat) ({ cls := "PromiseDeskModel", name := "then", desc := "(IIIII)I" } : Jvm.MethodName)) ∈ lw_all := lw_g (lw_at lw_m4 74 rfl) rfl
theorem q855 : (Jvm.Cond.privateMethod ({ cls := "PromiseDeskModel", name := "then", desc := "(IIIII)I" } : Jvm.MethodName)) ∈ lw_tbl := lw_at lw_m4 75 rfl
theorem q856 : (Jvm.Cond.instanceMethod ({ cls := "PromiseDeskModel", name := "then", desc := "(IIIII)I" } : Jvm.MethodName)) ∈ lw_all := lw_g (lw_at lw_m4 76 rfl) rfl
theorem q857 : (Jvm.Cond.code ({ cls := "PromiseDeskModel", name := "then", desc := "(IIIII)I" } : Jvm.MethodName) prog_3_method_18_code (7 : Nat) (Option.some Jvm.ClassFile.FieldType.int)) ∈ lw_all := lw_g (lw_at lw_m4 77 rfl) rfl
theorem q858 : (Jvm.Cond.methodLink "PromiseDeskModel" (175 : Nat) ({ cls := "PromiseDeskModel", name := "performThen", desc := "(IIIIII)V" } : Jvm.MethodName)) ∈ lw_all := lw_g (lw_at lw_m4 78 rfl) rfl
theorem q859 : (Jvm.Cond.privateMethod ({ cls := "PromiseDeskModel", name := "performThen", desc := "(IIIIII)V" } : Jvm.MethodName)) ∈ lw_tbl := lw_at lw_m4 79 rfl
theorem q860 : (Jvm.Cond.instanceMethod ({ cls := "PromiseDeskModel", name := "performThen", desc := "(IIIIII)V" } : Jvm.MethodName)) ∈ lw_all := lw_g (lw_at lw_m4 80 rfl) rfl
theorem q861 : (Jvm.Cond.code ({ cls := "PromiseDeskModel", name := "performThen", desc := "(IIIIII)V" } : Jvm.MethodName) prog_3_method_17_code (9 : Nat) (Option.none : Option Jvm.ClassFile.FieldType)) ∈ lw_all := lw_g (lw_at lw_m4 81 rfl) rfl
theorem q863 : (Jvm.Cond.instanceMethod ({ cls := "PromiseDeskModel", name := "lastly", desc := "(II)I" } : Jvm.MethodName)) ∈ lw_all := lw_g (lw_at lw_m4 83 rfl) rfl
theorem q864 : (Jvm.Cond.selects "PromiseDeskModel" ({ cls := "PromiseDeskModel", name := "lastly", desc := "(II)I" } : Jvm.MethodName) ({ cls := "PromiseDeskModel", name := "lastly", desc := "(II)I" } : Jvm.MethodName)) ∈ lw_all := lw_g (lw_at lw_m4 84 rfl) rfl
theorem q865 : (Jvm.Cond.code ({ cls := "PromiseDeskModel", name := "lastly", desc := "(II)I" } : Jvm.MethodName) prog_3_method_40_code (3 : Nat) (Option.some Jvm.ClassFile.FieldType.int)) ∈ lw_all := lw_g (lw_at lw_m4 85 rfl) rfl
theorem q867 : (Jvm.Cond.instanceMethod ({ cls := "PromiseDeskModel", name := "wrap", desc := "(I)I" } : Jvm.MethodName)) ∈ lw_all := lw_g (lw_at lw_m4 87 rfl) rfl
theorem q868 : (Jvm.Cond.selects "PromiseDeskModel" ({ cls := "PromiseDeskModel", name := "wrap", desc := "(I)I" } : Jvm.MethodName) ({ cls := "PromiseDeskModel", name := "wrap", desc := "(I)I" } : Jvm.MethodName)) ∈ lw_all := lw_g (lw_at lw_m4 88 rfl) rfl
theorem q869 : (Jvm.Cond.code ({ cls := "PromiseDeskModel", name := "wrap", desc := "(I)I" } : Jvm.MethodName) prog_3_method_41_code (2 : Nat) (Option.some Jvm.ClassFile.FieldType.int)) ∈ lw_all := lw_g (lw_at lw_m4 89 rfl) rfl
theorem q870 : (Jvm.Cond.methodLink "PromiseDeskModel" (214 : Nat) ({ cls := "PromiseDeskModel", name := "promiseOf", desc := "(I)I" } : Jvm.MethodName)) ∈ lw_all := lw_g (lw_at lw_m4 90 rfl) rfl
theorem q871 : (Jvm.Cond.privateMethod ({ cls := "PromiseDeskModel", name := "promiseOf", desc := "(I)I" } : Jvm.MethodName)) ∈ lw_tbl := lw_at lw_m4 91 rfl
theorem q872 : (Jvm.Cond.instanceMethod ({ cls := "PromiseDeskModel", name := "promiseOf", desc := "(I)I" } : Jvm.MethodName)) ∈ lw_all := lw_g (lw_at lw_m4 92 rfl) rfl
theorem q873 : (Jvm.Cond.code ({ cls := "PromiseDeskModel", name := "promiseOf", desc := "(I)I" } : Jvm.MethodName) prog_3_method_19_code (3 : Nat) (Option.some Jvm.ClassFile.FieldType.int)) ∈ lw_all := lw_g (lw_at lw_m4 93 rfl) rfl
theorem q875 : (Jvm.Cond.instanceMethod ({ cls := "PromiseDeskModel", name := "broken", desc := "(I)I" } : Jvm.MethodName)) ∈ lw_all := lw_g (lw_at lw_m4 95 rfl) rfl
theorem q876 : (Jvm.Cond.selects "PromiseDeskModel" ({ cls := "PromiseDeskModel", name := "broken", desc := "(I)I" } : Jvm.MethodName) ({ cls := "PromiseDeskModel", name := "broken", desc := "(I)I" } : Jvm.MethodName)) ∈ lw_all := lw_g (lw_at lw_m4 96 rfl) rfl
theorem q877 : (Jvm.Cond.code ({ cls := "PromiseDeskModel", name := "broken", desc := "(I)I" } : Jvm.MethodName) prog_3_method_42_code (3 : Nat) (Option.some Jvm.ClassFile.FieldType.int)) ∈ lw_all := lw_g (lw_at lw_m4 97 rfl) rfl
theorem q879 : (Jvm.Cond.instanceMethod ({ cls := "PromiseDeskModel", name := "item", desc := "(I)I" } : Jvm.MethodName)) ∈ lw_all := lw_g (lw_at lw_m4 99 rfl) rfl
theorem q880 : (Jvm.Cond.selects "PromiseDeskModel" ({ cls := "PromiseDeskModel", name := "item", desc := "(I)I" } : Jvm.MethodName) ({ cls := "PromiseDeskModel", name := "item", desc := "(I)I" } : Jvm.MethodName)) ∈ lw_all := lw_g (lw_at lw_m4 100 rfl) rfl
theorem q881 : (Jvm.Cond.code ({ cls := "PromiseDeskModel", name := "item", desc := "(I)I" } : Jvm.MethodName) prog_3_method_43_code (2 : Nat) (Option.some Jvm.ClassFile.FieldType.int)) ∈ lw_all := lw_g (lw_at lw_m4 101 rfl) rfl
theorem q883 : (Jvm.Cond.instanceMethod ({ cls := "PromiseDeskModel", name := "combine", desc := "(I)I" } : Jvm.MethodName)) ∈ lw_all := lw_g (lw_at lw_m4 103 rfl) rfl
theorem q884 : (Jvm.Cond.selects "PromiseDeskModel" ({ cls := "PromiseDeskModel", name := "combine", desc := "(I)I" } : Jvm.MethodName) ({ cls := "PromiseDeskModel", name := "combine", desc := "(I)I" } : Jvm.MethodName)) ∈ lw_all := lw_g (lw_at lw_m4 104 rfl) rfl
theorem q885 : (Jvm.Cond.code ({ cls := "PromiseDeskModel", name := "combine", desc := "(I)I" } : Jvm.MethodName) prog_3_method_44_code (7 : Nat) (Option.some Jvm.ClassFile.FieldType.int)) ∈ lw_all := lw_g (lw_at lw_m4 105 rfl) rfl
theorem q886 : (Jvm.Cond.methodLink "PromiseDeskModel" (269 : Nat) ({ cls := "PromiseDeskModel", name := "group", desc := "()I" } : Jvm.MethodName)) ∈ lw_all := lw_g (lw_at lw_m4 106 rfl) rfl
theorem q887 : (Jvm.Cond.privateMethod ({ cls := "PromiseDeskModel", name := "group", desc := "()I" } : Jvm.MethodName)) ∈ lw_tbl := lw_at lw_m4 107 rfl
theorem q888 : (Jvm.Cond.instanceMethod ({ cls := "PromiseDeskModel", name := "group", desc := "()I" } : Jvm.MethodName)) ∈ lw_all := lw_g (lw_at lw_m4 108 rfl) rfl
theorem q889 : (Jvm.Cond.code ({ cls := "PromiseDeskModel", name := "group", desc := "()I" } : Jvm.MethodName) prog_3_method_32_code (3 : Nat) (Option.some Jvm.ClassFile.FieldType.int)) ∈ lw_all := lw_g (lw_at lw_m4 109 rfl) rfl
theorem q890 : (Jvm.Cond.methodLink "PromiseDeskModel" (224 : Nat) ({ cls := "PromiseDeskModel", name := "finish", desc := "(IZ)V" } : Jvm.MethodName)) ∈ lw_all := lw_g (lw_at lw_m4 110 rfl) rfl
theorem q891 : (Jvm.Cond.privateMethod ({ cls := "PromiseDeskModel", name := "finish", desc := "(IZ)V" } : Jvm.MethodName)) ∈ lw_tbl := lw_at lw_m4 111 rfl
theorem q892 : (Jvm.Cond.instanceMethod ({ cls := "PromiseDeskModel", name := "finish", desc := "(IZ)V" } : Jvm.MethodName)) ∈ lw_all := lw_g (lw_at lw_m4 112 rfl) rfl
theorem q893 : (Jvm.Cond.code ({ cls := "PromiseDeskModel", name := "finish", desc := "(IZ)V" } : Jvm.MethodName) prog_3_method_26_code (4 : Nat) (Option.none : Option Jvm.ClassFile.FieldType)) ∈ lw_all := lw_g (lw_at lw_m4 113 rfl) rfl
theorem q894 : (Jvm.Cond.methodLink "PromiseDeskModel" (228 : Nat) ({ cls := "PromiseDeskModel", name := "array", desc := "(II)I" } : Jvm.MethodName)) ∈ lw_all := lw_g (lw_at lw_m4 114 rfl) rfl
theorem q895 : (Jvm.Cond.privateMethod ({ cls := "PromiseDeskModel", name := "array", desc := "(II)I" } : Jvm.MethodName)) ∈ lw_tbl := lw_at lw_m4 115 rfl
theorem q896 : (Jvm.Cond.instanceMethod ({ cls := "PromiseDeskModel", name := "array", desc := "(II)I" } : Jvm.MethodName)) ∈ lw_all := lw_g (lw_at lw_m4 116 rfl) rfl
theorem q897 : (Jvm.Cond.code ({ cls := "PromiseDeskModel", name := "array", desc := "(II)I" } : Jvm.MethodName) prog_3_method_24_code (4 : Nat) (Option.some Jvm.ClassFile.FieldType.int)) ∈ lw_all := lw_g (lw_at lw_m4 117 rfl) rfl
theorem q899 : (Jvm.Cond.instanceMethod ({ cls := "PromiseDeskModel", name := "async", desc := "(II)I" } : Jvm.MethodName)) ∈ lw_all := lw_g (lw_at lw_m4 119 rfl) rfl
theorem q900 : (Jvm.Cond.selects "PromiseDeskModel" ({ cls := "PromiseDeskModel", name := "async", desc := "(II)I" } : Jvm.MethodName) ({ cls := "PromiseDeskModel", name := "async", desc := "(II)I" } : Jvm.MethodName)) ∈ lw_all := lw_g (lw_at lw_m4 120 rfl) rfl
theorem q901 : (Jvm.Cond.code ({ cls := "PromiseDeskModel", name := "async", desc := "(II)I" } : Jvm.MethodName) prog_3_method_45_code (5 : Nat) (Option.some Jvm.ClassFile.FieldType.int)) ∈ lw_all := lw_g (lw_at lw_m4 121 rfl) rfl
theorem q902 : (Jvm.Cond.methodLink "PromiseDeskModel" (244 : Nat) ({ cls := "PromiseDeskModel", name := "goOn", desc := "(I)V" } : Jvm.MethodName)) ∈ lw_all := lw_g (lw_at lw_m4 122 rfl) rfl
theorem q903 : (Jvm.Cond.privateMethod ({ cls := "PromiseDeskModel", name := "goOn", desc := "(I)V" } : Jvm.MethodName)) ∈ lw_tbl := lw_at lw_m4 123 rfl
theorem q904 : (Jvm.Cond.instanceMethod ({ cls := "PromiseDeskModel", name := "goOn", desc := "(I)V" } : Jvm.MethodName)) ∈ lw_all := lw_g (lw_at lw_m4 124 rfl) rfl
theorem q905 : (Jvm.Cond.code ({ cls := "PromiseDeskModel", name := "goOn", desc := "(I)V" } : Jvm.MethodName) prog_3_method_30_code (3 : Nat) (Option.none : Option Jvm.ClassFile.FieldType)) ∈ lw_all := lw_g (lw_at lw_m4 125 rfl) rfl
theorem q907 : (Jvm.Cond.instanceMethod ({ cls := "PromiseDeskModel", name := "jobs", desc := "(I)I" } : Jvm.MethodName)) ∈ lw_all := lw_g (lw_at lw_m4 127 rfl) rfl
theorem q908 : (Jvm.Cond.selects "PromiseDeskModel" ({ cls := "PromiseDeskModel", name := "jobs", desc := "(I)I" } : Jvm.MethodName) ({ cls := "PromiseDeskModel", name := "jobs", desc := "(I)I" } : Jvm.MethodName)) ∈ lw_all := lw_g (lw_at lw_m4 128 rfl) rfl
theorem q909 : (Jvm.Cond.code ({ cls := "PromiseDeskModel", name := "jobs", desc := "(I)I" } : Jvm.MethodName) prog_3_method_46_code (3 : Nat) (Option.some Jvm.ClassFile.FieldType.int)) ∈ lw_all := lw_g (lw_at lw_m4 129 rfl) rfl
theorem q910 : (Jvm.Cond.methodLink "PromiseDeskModel" (272 : Nat) ({ cls := "PromiseDeskModel", name := "job", desc := "()V" } : Jvm.MethodName)) ∈ lw_all := lw_g (lw_at lw_m4 130 rfl) rfl
theorem q911 : (Jvm.Cond.privateMethod ({ cls := "PromiseDeskModel", name := "job", desc := "()V" } : Jvm.MethodName)) ∈ lw_tbl := lw_at lw_m4 131 rfl
theorem q912 : (Jvm.Cond.instanceMethod ({ cls := "PromiseDeskModel", name := "job", desc := "()V" } : Jvm.MethodName)) ∈ lw_all := lw_g (lw_at lw_m4 132 rfl) rfl
theorem q913 : (Jvm.Cond.code ({ cls := "PromiseDeskModel", name := "job", desc := "()V" } : Jvm.MethodName) prog_3_method_27_code (3 : Nat) (Option.none : Option Jvm.ClassFile.FieldType)) ∈ lw_all := lw_g (lw_at lw_m4 133 rfl) rfl
theorem q914 : (Jvm.Cond.methodLink "PromiseDeskModel" (234 : Nat) ({ cls := "PromiseDeskModel", name := "thenJob", desc := "(II)V" } : Jvm.MethodName)) ∈ lw_all := lw_g (lw_at lw_m4 134 rfl) rfl
theorem q915 : (Jvm.Cond.privateMethod ({ cls := "PromiseDeskModel", name := "thenJob", desc := "(II)V" } : Jvm.MethodName)) ∈ lw_tbl := lw_at lw_m4 135 rfl
theorem q916 : (Jvm.Cond.instanceMethod ({ cls := "PromiseDeskModel", name := "thenJob", desc := "(II)V" } : Jvm.MethodName)) ∈ lw_all := lw_g (lw_at lw_m4 136 rfl) rfl
theorem q917 : (Jvm.Cond.code ({ cls := "PromiseDeskModel", name := "thenJob", desc := "(II)V" } : Jvm.MethodName) prog_3_method_28_code (4 : Nat) (Option.none : Option Jvm.ClassFile.FieldType)) ∈ lw_all := lw_g (lw_at lw_m4 137 rfl) rfl
theorem q918 : (Jvm.Cond.methodLink "PromiseDeskModel" (190 : Nat) ({ cls := "PromiseDeskModel", name := "note", desc := "(II)V" } : Jvm.MethodName)) ∈ lw_all := lw_g (lw_at lw_m4 138 rfl) rfl
theorem q919 : (Jvm.Cond.privateMethod ({ cls := "PromiseDeskModel", name := "note", desc := "(II)V" } : Jvm.MethodName)) ∈ lw_tbl := lw_at lw_m4 139 rfl
theorem q920 : (Jvm.Cond.instanceMethod ({ cls := "PromiseDeskModel", name := "note", desc := "(II)V" } : Jvm.MethodName)) ∈ lw_all := lw_g (lw_at lw_m4 140 rfl) rfl
theorem q921 : (Jvm.Cond.code ({ cls := "PromiseDeskModel", name := "note", desc := "(II)V" } : Jvm.MethodName) prog_3_method_20_code (3 : Nat) (Option.none : Option Jvm.ClassFile.FieldType)) ∈ lw_all := lw_g (lw_at lw_m4 141 rfl) rfl
theorem q922 : (Jvm.Cond.methodLink "PromiseDeskModel" (240 : Nat) ({ cls := "PromiseDeskModel", name := "does", desc := "(IIII)Z" } : Jvm.MethodName)) ∈ lw_all := lw_g (lw_at lw_m4 142 rfl) rfl
theorem q923 : (Jvm.Cond.privateMethod ({ cls := "PromiseDeskModel", name := "does", desc := "(IIII)Z" } : Jvm.MethodName)) ∈ lw_tbl := lw_at lw_m4 143 rfl
theorem q924 : (Jvm.Cond.instanceMethod ({ cls := "PromiseDeskModel", name := "does", desc := "(IIII)Z" } : Jvm.MethodName)) ∈ lw_all := lw_g (lw_at lw_m4 144 rfl) rfl
theorem q925 : (Jvm.Cond.code ({ cls := "PromiseDeskModel", name := "does", desc := "(IIII)Z" } : Jvm.MethodName) prog_3_method_29_code (5 : Nat) (Option.some Jvm.ClassFile.FieldType.boolean)) ∈ lw_all := lw_g (lw_at lw_m4 145 rfl) rfl
theorem q926 : (Jvm.Cond.methodLink "PromiseDeskModel" (237 : Nat) ({ cls := "PromiseDeskModel", name := "call", desc := "(III)I" } : Jvm.MethodName)) ∈ lw_all := lw_g (lw_at lw_m4 146 rfl) rfl
theorem q927 : (Jvm.Cond.privateMethod ({ cls := "PromiseDeskModel", name := "call", desc := "(III)I" } : Jvm.MethodName)) ∈ lw_tbl := lw_at lw_m4 147 rfl
theorem q928 : (Jvm.Cond.instanceMethod ({ cls := "PromiseDeskModel", name := "call", desc := "(III)I" } : Jvm.MethodName)) ∈ lw_all := lw_g (lw_at lw_m4 148 rfl) rfl
theorem q929 : (Jvm.Cond.code ({ cls := "PromiseDeskModel", name := "call", desc := "(III)I" } : Jvm.MethodName) prog_3_method_22_code (4 : Nat) (Option.some Jvm.ClassFile.FieldType.int)) ∈ lw_all := lw_g (lw_at lw_m4 149 rfl) rfl
theorem q930 : (Jvm.Cond.methodLink "PromiseDeskModel" (200 : Nat) ({ cls := "PromiseDeskModel", name := "handle", desc := "(II)I" } : Jvm.MethodName)) ∈ lw_all := lw_g (lw_at lw_m4 150 rfl) rfl
theorem q931 : (Jvm.Cond.privateMethod ({ cls := "PromiseDeskModel", name := "handle", desc := "(II)I" } : Jvm.MethodName)) ∈ lw_tbl := lw_at lw_m4 151 rfl
theorem q932 : (Jvm.Cond.instanceMethod ({ cls := "PromiseDeskModel", name := "handle", desc := "(II)I" } : Jvm.MethodName)) ∈ lw_all := lw_g (lw_at lw_m4 152 rfl) rfl
theorem q933 : (Jvm.Cond.code ({ cls := "PromiseDeskModel", name := "handle", desc := "(II)I" } : Jvm.MethodName) prog_3_method_21_code (4 : Nat) (Option.some Jvm.ClassFile.FieldType.int)) ∈ lw_all := lw_g (lw_at lw_m4 153 rfl) rfl
theorem q934 : (Jvm.Cond.methodLink "PromiseDeskModel" (204 : Nat) ({ cls := "PromiseDeskModel", name := "element", desc := "(III)V" } : Jvm.MethodName)) ∈ lw_all := lw_g (lw_at lw_m4 154 rfl) rfl
theorem q935 : (Jvm.Cond.privateMethod ({ cls := "PromiseDeskModel", name := "element", desc := "(III)V" } : Jvm.MethodName)) ∈ lw_tbl := lw_at lw_m4 155 rfl
theorem q936 : (Jvm.Cond.instanceMethod ({ cls := "PromiseDeskModel", name := "element", desc := "(III)V" } : Jvm.MethodName)) ∈ lw_all := lw_g (lw_at lw_m4 156 rfl) rfl
theorem q937 : (Jvm.Cond.code ({ cls := "PromiseDeskModel", name := "element", desc := "(III)V" } : Jvm.MethodName) prog_3_method_25_code (6 : Nat) (Option.none : Option Jvm.ClassFile.FieldType)) ∈ lw_all := lw_g (lw_at lw_m4 157 rfl) rfl
theorem q938 : (Jvm.Cond.methodLink "PromiseDeskModel" (207 : Nat) ({ cls := "PromiseDeskModel", name := "last", desc := "(III)I" } : Jvm.MethodName)) ∈ lw_all := lw_g (lw_at lw_m4 158 rfl) rfl
theorem q939 : (Jvm.Cond.privateMethod ({ cls := "PromiseDeskModel", name := "last", desc := "(III)I" } : Jvm.MethodName)) ∈ lw_tbl := lw_at lw_m4 159 rfl
theorem q940 : (Jvm.Cond.instanceMethod ({ cls := "PromiseDeskModel", name := "last", desc := "(III)I" } : Jvm.MethodName)) ∈ lw_all := lw_g (lw_at lw_m4 160 rfl) rfl
theorem q941 : (Jvm.Cond.code ({ cls := "PromiseDeskModel", name := "last", desc := "(III)I" } : Jvm.MethodName) prog_3_method_23_code (8 : Nat) (Option.some Jvm.ClassFile.FieldType.int)) ∈ lw_all := lw_g (lw_at lw_m4 161 rfl) rfl
theorem q942 : (Jvm.Cond.methodLink "PromiseDeskModel" (211 : Nat) ({ cls := "PromiseDeskModel", name := "resume", desc := "(II)V" } : Jvm.MethodName)) ∈ lw_all := lw_g (lw_at lw_m4 162 rfl) rfl
theorem q943 : (Jvm.Cond.privateMethod ({ cls := "PromiseDeskModel", name := "resume", desc := "(II)V" } : Jvm.MethodName)) ∈ lw_tbl := lw_at lw_m4 163 rfl
theorem q944 : (Jvm.Cond.instanceMethod ({ cls := "PromiseDeskModel", name := "resume", desc := "(II)V" } : Jvm.MethodName)) ∈ lw_all := lw_g (lw_at lw_m4 164 rfl) rfl
theorem q945 : (Jvm.Cond.code ({ cls := "PromiseDeskModel", name := "resume", desc := "(II)V" } : Jvm.MethodName) prog_3_method_31_code (4 : Nat) (Option.none : Option Jvm.ClassFile.FieldType)) ∈ lw_all := lw_g (lw_at lw_m4 165 rfl) rfl
theorem q947 : (Jvm.Cond.instanceMethod ({ cls := "PromiseDeskModel", name := "state", desc := "(I)I" } : Jvm.MethodName)) ∈ lw_all := lw_g (lw_at lw_m4 167 rfl) rfl
theorem q948 : (Jvm.Cond.selects "PromiseDeskModel" ({ cls := "PromiseDeskModel", name := "state", desc := "(I)I" } : Jvm.MethodName) ({ cls := "PromiseDeskModel", name := "state", desc := "(I)I" } : Jvm.MethodName)) ∈ lw_all := lw_g (lw_at lw_m4 168 rfl) rfl
theorem q949 : (Jvm.Cond.code ({ cls := "PromiseDeskModel", name := "state", desc := "(I)I" } : Jvm.MethodName) prog_3_method_47_code (2 : Nat) (Option.some Jvm.ClassFile.FieldType.int)) ∈ lw_all := lw_g (lw_at lw_m4 169 rfl) rfl
theorem q951 : (Jvm.Cond.instanceMethod ({ cls := "PromiseDeskModel", name := "result", desc := "(I)I" } : Jvm.MethodName)) ∈ lw_all := lw_g (lw_at lw_m4 171 rfl) rfl
theorem q952 : (Jvm.Cond.selects "PromiseDeskModel" ({ cls := "PromiseDeskModel", name := "result", desc := "(I)I" } : Jvm.MethodName) ({ cls := "PromiseDeskModel", name := "result", desc := "(I)I" } : Jvm.MethodName)) ∈ lw_all := lw_g (lw_at lw_m4 172 rfl) rfl
theorem q953 : (Jvm.Cond.code ({ cls := "PromiseDeskModel", name := "result", desc := "(I)I" } : Jvm.MethodName) prog_3_method_48_code (2 : Nat) (Option.some Jvm.ClassFile.FieldType.int)) ∈ lw_all := lw_g (lw_at lw_m4 173 rfl) rfl
theorem q955 : (Jvm.Cond.instanceMethod ({ cls := "PromiseDeskModel", name := "kind", desc := "(I)I" } : Jvm.MethodName)) ∈ lw_all := lw_g (lw_at lw_m4 175 rfl) rfl
theorem q956 : (Jvm.Cond.selects "PromiseDeskModel" ({ cls := "PromiseDeskModel", name := "kind", desc := "(I)I" } : Jvm.MethodName) ({ cls := "PromiseDeskModel", name := "kind", desc := "(I)I" } : Jvm.MethodName)) ∈ lw_all := lw_g (lw_at lw_m4 176 rfl) rfl
theorem q957 : (Jvm.Cond.code ({ cls := "PromiseDeskModel", name := "kind", desc := "(I)I" } : Jvm.MethodName) prog_3_method_49_code (2 : Nat) (Option.some Jvm.ClassFile.FieldType.int)) ∈ lw_all := lw_g (lw_at lw_m4 177 rfl) rfl
theorem q959 : (Jvm.Cond.instanceMethod ({ cls := "PromiseDeskModel", name := "part", desc := "(II)I" } : Jvm.MethodName)) ∈ lw_all := lw_g (lw_at lw_m4 179 rfl) rfl
theorem q960 : (Jvm.Cond.selects "PromiseDeskModel" ({ cls := "PromiseDeskModel", name := "part", desc := "(II)I" } : Jvm.MethodName) ({ cls := "PromiseDeskModel", name := "part", desc := "(II)I" } : Jvm.MethodName)) ∈ lw_all := lw_g (lw_at lw_m4 180 rfl) rfl
theorem q961 : (Jvm.Cond.code ({ cls := "PromiseDeskModel", name := "part", desc := "(II)I" } : Jvm.MethodName) prog_3_method_50_code (4 : Nat) (Option.some Jvm.ClassFile.FieldType.int)) ∈ lw_all := lw_g (lw_at lw_m4 181 rfl) rfl
theorem q963 : (Jvm.Cond.instanceMethod ({ cls := "PromiseDeskModel", name := "log", desc := "(IZ)I" } : Jvm.MethodName)) ∈ lw_all := lw_g (lw_at lw_m4 183 rfl) rfl
theorem q964 : (Jvm.Cond.selects "PromiseDeskModel" ({ cls := "PromiseDeskModel", name := "log", desc := "(IZ)I" } : Jvm.MethodName) ({ cls := "PromiseDeskModel", name := "log", desc := "(IZ)I" } : Jvm.MethodName)) ∈ lw_all := lw_g (lw_at lw_m4 184 rfl) rfl
theorem q965 : (Jvm.Cond.code ({ cls := "PromiseDeskModel", name := "log", desc := "(IZ)I" } : Jvm.MethodName) prog_3_method_51_code (3 : Nat) (Option.some Jvm.ClassFile.FieldType.int)) ∈ lw_all := lw_g (lw_at lw_m4 185 rfl) rfl
theorem q966 : (Jvm.Cond.constant "PromiseDeskModel" (275 : Nat) (-1000000 : Int32)) ∈ lw_all := lw_g (lw_at lw_m4 186 rfl) rfl
theorem q968 : (Jvm.Cond.instanceMethod ({ cls := "PromiseDeskModel", name := "count", desc := "(I)I" } : Jvm.MethodName)) ∈ lw_all := lw_g (lw_at lw_m4 188 rfl) rfl
theorem q969 : (Jvm.Cond.selects "PromiseDeskModel" ({ cls := "PromiseDeskModel", name := "count", desc := "(I)I" } : Jvm.MethodName) ({ cls := "PromiseDeskModel", name := "count", desc := "(I)I" } : Jvm.MethodName)) ∈ lw_all := lw_g (lw_at lw_m4 189 rfl) rfl
theorem q970 : (Jvm.Cond.code ({ cls := "PromiseDeskModel", name := "count", desc := "(I)I" } : Jvm.MethodName) prog_3_method_52_code (2 : Nat) (Option.some Jvm.ClassFile.FieldType.int)) ∈ lw_all := lw_g (lw_at lw_m4 190 rfl) rfl
theorem in_X2 : ∀ w ∈ wsX20, w ∈ lw_all := lw_in wsX20 [662, 664, 666, 668, 670, 672, 674, 676, 678, 680, 682, 684, 686, 688, 690, 692, 694, 696, 698, 700, 702, 704, 706, 708, 710, 712, 714, 716, 718, 720, 722, 724, 726, 728, 730, 732, 734, 736, 738, 740, 742, 744, 746, 748, 750, 752, 754, 756, 758, 760, 762, 764] (by decide +kernel) (by decide +kernel)
