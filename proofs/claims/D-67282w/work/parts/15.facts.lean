set_option maxRecDepth 100000
/-! facts of fields and links (printed by gen/wp.py) -/
theorem f1_0 : fA 0 0 9 := ⟨by decide, rfl, q79, rfl⟩
theorem a1_0 : aI 0 0 := ⟨by decide, rfl⟩
theorem f1_1 : fA 0 1 13 := ⟨by decide, rfl, q80, rfl⟩
theorem a1_1 : aI 0 1 := ⟨by decide, rfl⟩
theorem f1_2 : fA 0 2 16 := ⟨by decide, rfl, q81, rfl⟩
theorem a1_2 : aI 0 2 := ⟨by decide, rfl⟩
theorem f1_3 : fA 0 3 19 := ⟨by decide, rfl, q82, rfl⟩
theorem a1_3 : aI 0 3 := ⟨by decide, rfl⟩
theorem f1_4 : fA 0 4 22 := ⟨by decide, rfl, q83, rfl⟩
theorem a1_4 : aI 0 4 := ⟨by decide, rfl⟩
theorem f1_5 : fA 0 5 25 := ⟨by decide, rfl, q84, rfl⟩
theorem a1_5 : aI 0 5 := ⟨by decide, rfl⟩
theorem f1_6 : fA 0 6 28 := ⟨by decide, rfl, q85, rfl⟩
theorem a1_6 : aZ 0 6 := ⟨by decide, rfl⟩
theorem f1_7 : fI 0 7 138 := ⟨by decide, rfl, q86, rfl⟩
theorem p1_7 : fP 0 7 := ⟨rfl, rfl⟩
theorem f1_8 : fA 0 8 32 := ⟨by decide, rfl, q87, rfl⟩
theorem a1_8 : aI 0 8 := ⟨by decide, rfl⟩
theorem f1_9 : fA 0 9 35 := ⟨by decide, rfl, q88, rfl⟩
theorem a1_9 : aI 0 9 := ⟨by decide, rfl⟩
theorem f1_10 : fA 0 10 38 := ⟨by decide, rfl, q89, rfl⟩
theorem a1_10 : aI 0 10 := ⟨by decide, rfl⟩
theorem f1_11 : fA 0 11 41 := ⟨by decide, rfl, q90, rfl⟩
theorem a1_11 : aI 0 11 := ⟨by decide, rfl⟩
theorem f1_12 : fA 0 12 44 := ⟨by decide, rfl, q91, rfl⟩
theorem a1_12 : aI 0 12 := ⟨by decide, rfl⟩
theorem f1_13 : fA 0 13 47 := ⟨by decide, rfl, q92, rfl⟩
theorem a1_13 : aI 0 13 := ⟨by decide, rfl⟩
theorem f1_14 : fA 0 14 50 := ⟨by decide, rfl, q93, rfl⟩
theorem a1_14 : aI 0 14 := ⟨by decide, rfl⟩
theorem f1_15 : fA 0 15 53 := ⟨by decide, rfl, q94, rfl⟩
theorem a1_15 : aI 0 15 := ⟨by decide, rfl⟩
theorem f1_16 : fA 0 16 56 := ⟨by decide, rfl, q95, rfl⟩
theorem a1_16 : aI 0 16 := ⟨by decide, rfl⟩
theorem f1_17 : fA 0 17 59 := ⟨by decide, rfl, q96, rfl⟩
theorem a1_17 : aI 0 17 := ⟨by decide, rfl⟩
theorem f1_18 : fA 0 18 62 := ⟨by decide, rfl, q97, rfl⟩
theorem a1_18 : aI 0 18 := ⟨by decide, rfl⟩
theorem f1_19 : fI 0 19 141 := ⟨by decide, rfl, q98, rfl⟩
theorem p1_19 : fP 0 19 := ⟨rfl, rfl⟩
theorem f1_20 : fA 0 20 65 := ⟨by decide, rfl, q99, rfl⟩
theorem a1_20 : aI 0 20 := ⟨by decide, rfl⟩
theorem f1_21 : fI 0 21 150 := ⟨by decide, rfl, q100, rfl⟩
theorem p1_21 : fP 0 21 := ⟨rfl, rfl⟩
theorem f1_22 : fA 0 22 68 := ⟨by decide, rfl, q101, rfl⟩
theorem a1_22 : aI 0 22 := ⟨by decide, rfl⟩
theorem f1_23 : fA 0 23 71 := ⟨by decide, rfl, q102, rfl⟩
theorem a1_23 : aI 0 23 := ⟨by decide, rfl⟩
theorem f1_24 : fA 0 24 74 := ⟨by decide, rfl, q103, rfl⟩
theorem a1_24 : aI 0 24 := ⟨by decide, rfl⟩
theorem f1_25 : fA 0 25 77 := ⟨by decide, rfl, q104, rfl⟩
theorem a1_25 : aI 0 25 := ⟨by decide, rfl⟩
theorem f1_26 : fA 0 26 80 := ⟨by decide, rfl, q105, rfl⟩
theorem a1_26 : aI 0 26 := ⟨by decide, rfl⟩
theorem f1_27 : fA 0 27 83 := ⟨by decide, rfl, q106, rfl⟩
theorem a1_27 : aI 0 27 := ⟨by decide, rfl⟩
theorem f1_28 : fI 0 28 86 := ⟨by decide, rfl, q107, rfl⟩
theorem p1_28 : fP 0 28 := ⟨rfl, rfl⟩
theorem f1_29 : fA 0 29 90 := ⟨by decide, rfl, q108, rfl⟩
theorem a1_29 : aI 0 29 := ⟨by decide, rfl⟩
theorem f1_30 : fA 0 30 93 := ⟨by decide, rfl, q109, rfl⟩
theorem a1_30 : aI 0 30 := ⟨by decide, rfl⟩
theorem f1_31 : fA 0 31 96 := ⟨by decide, rfl, q110, rfl⟩
theorem a1_31 : aI 0 31 := ⟨by decide, rfl⟩
theorem f1_32 : fA 0 32 99 := ⟨by decide, rfl, q111, rfl⟩
theorem a1_32 : aI 0 32 := ⟨by decide, rfl⟩
theorem f1_33 : fI 0 33 102 := ⟨by decide, rfl, q112, rfl⟩
theorem p1_33 : fP 0 33 := ⟨rfl, rfl⟩
theorem f1_34 : fI 0 34 177 := ⟨by decide, rfl, q113, rfl⟩
theorem p1_34 : fP 0 34 := ⟨rfl, rfl⟩
theorem f1_35 : fI 0 35 180 := ⟨by decide, rfl, q114, rfl⟩
theorem p1_35 : fP 0 35 := ⟨rfl, rfl⟩
theorem f1_36 : fI 0 36 183 := ⟨by decide, rfl, q115, rfl⟩
theorem p1_36 : fP 0 36 := ⟨rfl, rfl⟩
theorem f1_37 : fI 0 37 174 := ⟨by decide, rfl, q116, rfl⟩
theorem p1_37 : fP 0 37 := ⟨rfl, rfl⟩
theorem f1_38 : fA 0 38 105 := ⟨by decide, rfl, q117, rfl⟩
theorem a1_38 : aI 0 38 := ⟨by decide, rfl⟩
theorem f1_39 : fI 0 39 153 := ⟨by decide, rfl, q118, rfl⟩
theorem p1_39 : fP 0 39 := ⟨rfl, rfl⟩
theorem f1_40 : fA 0 40 108 := ⟨by decide, rfl, q119, rfl⟩
theorem a1_40 : aI 0 40 := ⟨by decide, rfl⟩
theorem f1_41 : fI 0 41 295 := ⟨by decide, rfl, q120, rfl⟩
theorem p1_41 : fP 0 41 := ⟨rfl, rfl⟩
theorem f1_42 : fA 0 42 111 := ⟨by decide, rfl, q121, rfl⟩
theorem a1_42 : aI 0 42 := ⟨by decide, rfl⟩
theorem f1_43 : fA 0 43 114 := ⟨by decide, rfl, q122, rfl⟩
theorem a1_43 : aI 0 43 := ⟨by decide, rfl⟩
theorem f1_44 : fA 0 44 117 := ⟨by decide, rfl, q123, rfl⟩
theorem a1_44 : aI 0 44 := ⟨by decide, rfl⟩
theorem f1_45 : fA 0 45 120 := ⟨by decide, rfl, q124, rfl⟩
theorem a1_45 : aI 0 45 := ⟨by decide, rfl⟩
theorem f1_46 : fA 0 46 123 := ⟨by decide, rfl, q125, rfl⟩
theorem a1_46 : aI 0 46 := ⟨by decide, rfl⟩
theorem f1_47 : fA 0 47 126 := ⟨by decide, rfl, q126, rfl⟩
theorem a1_47 : aI 0 47 := ⟨by decide, rfl⟩
theorem f1_48 : fI 0 48 298 := ⟨by decide, rfl, q127, rfl⟩
theorem p1_48 : fP 0 48 := ⟨rfl, rfl⟩
theorem f1_49 : fA 0 49 129 := ⟨by decide, rfl, q128, rfl⟩
theorem a1_49 : aI 0 49 := ⟨by decide, rfl⟩
theorem f1_50 : fI 0 50 279 := ⟨by decide, rfl, q129, rfl⟩
theorem p1_50 : fP 0 50 := ⟨rfl, rfl⟩
theorem f1_51 : fA 0 51 132 := ⟨by decide, rfl, q130, rfl⟩
theorem a1_51 : aI 0 51 := ⟨by decide, rfl⟩
theorem f1_52 : fA 0 52 135 := ⟨by decide, rfl, q131, rfl⟩
theorem a1_52 : aI 0 52 := ⟨by decide, rfl⟩
theorem f1_53 : fI 0 53 241 := ⟨by decide, rfl, q132, rfl⟩
theorem p1_53 : fP 0 53 := ⟨rfl, rfl⟩
theorem f1_54 : fI 0 54 163 := ⟨by decide, rfl, q133, rfl⟩
theorem p1_54 : fZ 0 54 := ⟨rfl, rfl⟩
theorem f1_55 : fI 0 55 260 := ⟨by decide, rfl, q134, rfl⟩
theorem p1_55 : fP 0 55 := ⟨rfl, rfl⟩
theorem f2_0 : fI 1 0 131 := ⟨by decide, rfl, q610, rfl⟩
theorem p2_0 : fP 1 0 := ⟨rfl, rfl⟩
theorem f2_1 : fI 1 1 135 := ⟨by decide, rfl, q611, rfl⟩
theorem p2_1 : fP 1 1 := ⟨rfl, rfl⟩
theorem f2_2 : fA 1 2 7 := ⟨by decide, rfl, q612, rfl⟩
theorem a2_2 : aI 1 2 := ⟨by decide, rfl⟩
theorem f2_3 : fA 1 3 13 := ⟨by decide, rfl, q613, rfl⟩
theorem a2_3 : aI 1 3 := ⟨by decide, rfl⟩
theorem f2_4 : fA 1 4 16 := ⟨by decide, rfl, q614, rfl⟩
theorem a2_4 : aI 1 4 := ⟨by decide, rfl⟩
theorem f2_5 : fA 1 5 19 := ⟨by decide, rfl, q615, rfl⟩
theorem a2_5 : aI 1 5 := ⟨by decide, rfl⟩
theorem f2_6 : fA 1 6 22 := ⟨by decide, rfl, q616, rfl⟩
theorem a2_6 : aI 1 6 := ⟨by decide, rfl⟩
theorem f2_7 : fA 1 7 25 := ⟨by decide, rfl, q617, rfl⟩
theorem a2_7 : aZ 1 7 := ⟨by decide, rfl⟩
theorem f2_8 : fA 1 8 29 := ⟨by decide, rfl, q618, rfl⟩
theorem a2_8 : aI 1 8 := ⟨by decide, rfl⟩
theorem f2_9 : fA 1 9 32 := ⟨by decide, rfl, q619, rfl⟩
theorem a2_9 : aI 1 9 := ⟨by decide, rfl⟩
theorem f2_10 : fA 1 10 35 := ⟨by decide, rfl, q620, rfl⟩
theorem a2_10 : aI 1 10 := ⟨by decide, rfl⟩
theorem f2_11 : fA 1 11 38 := ⟨by decide, rfl, q621, rfl⟩
theorem a2_11 : aI 1 11 := ⟨by decide, rfl⟩
theorem f2_12 : fA 1 12 41 := ⟨by decide, rfl, q622, rfl⟩
theorem a2_12 : aI 1 12 := ⟨by decide, rfl⟩
theorem f2_13 : fA 1 13 44 := ⟨by decide, rfl, q623, rfl⟩
theorem a2_13 : aI 1 13 := ⟨by decide, rfl⟩
theorem f2_14 : fA 1 14 47 := ⟨by decide, rfl, q624, rfl⟩
theorem a2_14 : aZ 1 14 := ⟨by decide, rfl⟩
theorem f2_15 : fI 1 15 145 := ⟨by decide, rfl, q625, rfl⟩
theorem p2_15 : fP 1 15 := ⟨rfl, rfl⟩
theorem f2_16 : fA 1 16 50 := ⟨by decide, rfl, q626, rfl⟩
theorem a2_16 : aI 1 16 := ⟨by decide, rfl⟩
theorem f2_17 : fA 1 17 53 := ⟨by decide, rfl, q627, rfl⟩
theorem a2_17 : aI 1 17 := ⟨by decide, rfl⟩
theorem f2_18 : fA 1 18 56 := ⟨by decide, rfl, q628, rfl⟩
theorem a2_18 : aI 1 18 := ⟨by decide, rfl⟩
theorem f2_19 : fA 1 19 59 := ⟨by decide, rfl, q629, rfl⟩
theorem a2_19 : aI 1 19 := ⟨by decide, rfl⟩
theorem f2_20 : fA 1 20 62 := ⟨by decide, rfl, q630, rfl⟩
theorem a2_20 : aI 1 20 := ⟨by decide, rfl⟩
theorem f2_21 : fA 1 21 65 := ⟨by decide, rfl, q631, rfl⟩
theorem a2_21 : aI 1 21 := ⟨by decide, rfl⟩
theorem f2_22 : fI 1 22 168 := ⟨by decide, rfl, q632, rfl⟩
theorem p2_22 : fP 1 22 := ⟨rfl, rfl⟩
theorem f2_23 : fA 1 23 68 := ⟨by decide, rfl, q633, rfl⟩
theorem a2_23 : aI 1 23 := ⟨by decide, rfl⟩
theorem f2_24 : fA 1 24 71 := ⟨by decide, rfl, q634, rfl⟩
theorem a2_24 : aI 1 24 := ⟨by decide, rfl⟩
theorem f2_25 : fA 1 25 74 := ⟨by decide, rfl, q635, rfl⟩
theorem a2_25 : aI 1 25 := ⟨by decide, rfl⟩
theorem f2_26 : fA 1 26 77 := ⟨by decide, rfl, q636, rfl⟩
theorem a2_26 : aI 1 26 := ⟨by decide, rfl⟩
theorem f2_27 : fA 1 27 80 := ⟨by decide, rfl, q637, rfl⟩
theorem a2_27 : aZ 1 27 := ⟨by decide, rfl⟩
theorem f2_28 : fA 1 28 83 := ⟨by decide, rfl, q638, rfl⟩
theorem a2_28 : aZ 1 28 := ⟨by decide, rfl⟩
theorem f2_29 : fI 1 29 231 := ⟨by decide, rfl, q639, rfl⟩
theorem p2_29 : fP 1 29 := ⟨rfl, rfl⟩
theorem f2_30 : fI 1 30 162 := ⟨by decide, rfl, q640, rfl⟩
theorem p2_30 : fP 1 30 := ⟨rfl, rfl⟩
theorem f2_31 : fA 1 31 86 := ⟨by decide, rfl, q641, rfl⟩
theorem a2_31 : aI 1 31 := ⟨by decide, rfl⟩
theorem f2_32 : fA 1 32 89 := ⟨by decide, rfl, q642, rfl⟩
theorem a2_32 : aI 1 32 := ⟨by decide, rfl⟩
theorem f2_33 : fI 1 33 142 := ⟨by decide, rfl, q643, rfl⟩
theorem p2_33 : fP 1 33 := ⟨rfl, rfl⟩
theorem f2_34 : fA 1 34 92 := ⟨by decide, rfl, q644, rfl⟩
theorem a2_34 : aI 1 34 := ⟨by decide, rfl⟩
theorem f2_35 : fA 1 35 95 := ⟨by decide, rfl, q645, rfl⟩
theorem a2_35 : aI 1 35 := ⟨by decide, rfl⟩
theorem f2_36 : fI 1 36 187 := ⟨by decide, rfl, q646, rfl⟩
theorem p2_36 : fP 1 36 := ⟨rfl, rfl⟩
theorem f2_37 : fA 1 37 98 := ⟨by decide, rfl, q647, rfl⟩
theorem a2_37 : aI 1 37 := ⟨by decide, rfl⟩
theorem f2_38 : fI 1 38 251 := ⟨by decide, rfl, q648, rfl⟩
theorem p2_38 : fP 1 38 := ⟨rfl, rfl⟩
theorem f2_39 : fA 1 39 101 := ⟨by decide, rfl, q649, rfl⟩
theorem a2_39 : aI 1 39 := ⟨by decide, rfl⟩
theorem f2_40 : fA 1 40 104 := ⟨by decide, rfl, q650, rfl⟩
theorem a2_40 : aI 1 40 := ⟨by decide, rfl⟩
theorem f2_41 : fA 1 41 107 := ⟨by decide, rfl, q651, rfl⟩
theorem a2_41 : aZ 1 41 := ⟨by decide, rfl⟩
theorem f2_42 : fI 1 42 217 := ⟨by decide, rfl, q652, rfl⟩
theorem p2_42 : fP 1 42 := ⟨rfl, rfl⟩
theorem f2_43 : fA 1 43 110 := ⟨by decide, rfl, q653, rfl⟩
theorem a2_43 : aI 1 43 := ⟨by decide, rfl⟩
theorem f2_44 : fA 1 44 113 := ⟨by decide, rfl, q654, rfl⟩
theorem a2_44 : aI 1 44 := ⟨by decide, rfl⟩
theorem f2_45 : fA 1 45 116 := ⟨by decide, rfl, q655, rfl⟩
theorem a2_45 : aI 1 45 := ⟨by decide, rfl⟩
theorem f2_46 : fA 1 46 119 := ⟨by decide, rfl, q656, rfl⟩
theorem a2_46 : aI 1 46 := ⟨by decide, rfl⟩
theorem f2_47 : fA 1 47 122 := ⟨by decide, rfl, q657, rfl⟩
theorem a2_47 : aI 1 47 := ⟨by decide, rfl⟩
theorem f2_48 : fA 1 48 125 := ⟨by decide, rfl, q658, rfl⟩
theorem a2_48 : aI 1 48 := ⟨by decide, rfl⟩
theorem f2_49 : fA 1 49 128 := ⟨by decide, rfl, q659, rfl⟩
theorem a2_49 : aI 1 49 := ⟨by decide, rfl⟩
theorem f2_50 : fI 1 50 248 := ⟨by decide, rfl, q660, rfl⟩
theorem p2_50 : fP 1 50 := ⟨rfl, rfl⟩
theorem f2_51 : fI 1 51 193 := ⟨by decide, rfl, q661, rfl⟩
theorem p2_51 : fZ 1 51 := ⟨rfl, rfl⟩
theorem hy1_async : yX1_async.cls = gR 0 ∧ yX1_async.cls ≠ "java/lang/invoke/MethodHandle" ∧ yX1_async.cls ≠ "java/lang/invoke/VarHandle" ∧ (parseMethodDescriptor yX1_async.desc).map (fun d => d.parameters.length) = some 2 := by decide +kernel
theorem hy1_broken : yX1_broken.cls = gR 0 ∧ yX1_broken.cls ≠ "java/lang/invoke/MethodHandle" ∧ yX1_broken.cls ≠ "java/lang/invoke/VarHandle" ∧ (parseMethodDescriptor yX1_broken.desc).map (fun d => d.parameters.length) = some 1 := by decide +kernel
theorem hy1_call : yX1_call.cls = gR 0 ∧ yX1_call.cls ≠ "java/lang/invoke/MethodHandle" ∧ yX1_call.cls ≠ "java/lang/invoke/VarHandle" ∧ (parseMethodDescriptor yX1_call.desc).map (fun d => d.parameters.length) = some 2 := by decide +kernel
theorem hy1_callThen : yX1_callThen.cls = gR 0 ∧ yX1_callThen.cls ≠ "java/lang/invoke/MethodHandle" ∧ yX1_callThen.cls ≠ "java/lang/invoke/VarHandle" ∧ (parseMethodDescriptor yX1_callThen.desc).map (fun d => d.parameters.length) = some 3 := by decide +kernel
theorem hy1_combine : yX1_combine.cls = gR 0 ∧ yX1_combine.cls ≠ "java/lang/invoke/MethodHandle" ∧ yX1_combine.cls ≠ "java/lang/invoke/VarHandle" ∧ (parseMethodDescriptor yX1_combine.desc).map (fun d => d.parameters.length) = some 1 := by decide +kernel
theorem hy1_count : yX1_count.cls = gR 0 ∧ yX1_count.cls ≠ "java/lang/invoke/MethodHandle" ∧ yX1_count.cls ≠ "java/lang/invoke/VarHandle" ∧ (parseMethodDescriptor yX1_count.desc).map (fun d => d.parameters.length) = some 1 := by decide +kernel
theorem hy1_element : yX1_element.cls = gR 0 ∧ yX1_element.cls ≠ "java/lang/invoke/MethodHandle" ∧ yX1_element.cls ≠ "java/lang/invoke/VarHandle" ∧ (parseMethodDescriptor yX1_element.desc).map (fun d => d.parameters.length) = some 2 := by decide +kernel
theorem hy1_enqueue : yX1_enqueue.cls = gR 0 ∧ yX1_enqueue.cls ≠ "java/lang/invoke/MethodHandle" ∧ yX1_enqueue.cls ≠ "java/lang/invoke/VarHandle" ∧ (parseMethodDescriptor yX1_enqueue.desc).map (fun d => d.parameters.length) = some 3 := by decide +kernel
theorem hy1_error : yX1_error.cls = gR 0 ∧ yX1_error.cls ≠ "java/lang/invoke/MethodHandle" ∧ yX1_error.cls ≠ "java/lang/invoke/VarHandle" ∧ (parseMethodDescriptor yX1_error.desc).map (fun d => d.parameters.length) = some 0 := by decide +kernel
theorem hy1_function : yX1_function.cls = gR 0 ∧ yX1_function.cls ≠ "java/lang/invoke/MethodHandle" ∧ yX1_function.cls ≠ "java/lang/invoke/VarHandle" ∧ (parseMethodDescriptor yX1_function.desc).map (fun d => d.parameters.length) = some 4 := by decide +kernel
theorem hy1_functionsOf : yX1_functionsOf.cls = gR 0 ∧ yX1_functionsOf.cls ≠ "java/lang/invoke/MethodHandle" ∧ yX1_functionsOf.cls ≠ "java/lang/invoke/VarHandle" ∧ (parseMethodDescriptor yX1_functionsOf.desc).map (fun d => d.parameters.length) = some 1 := by decide +kernel
theorem hy1_goOn : yX1_goOn.cls = gR 0 ∧ yX1_goOn.cls ≠ "java/lang/invoke/MethodHandle" ∧ yX1_goOn.cls ≠ "java/lang/invoke/VarHandle" ∧ (parseMethodDescriptor yX1_goOn.desc).map (fun d => d.parameters.length) = some 3 := by decide +kernel
theorem hy1_handler : yX1_handler.cls = gR 0 ∧ yX1_handler.cls ≠ "java/lang/invoke/MethodHandle" ∧ yX1_handler.cls ≠ "java/lang/invoke/VarHandle" ∧ (parseMethodDescriptor yX1_handler.desc).map (fun d => d.parameters.length) = some 2 := by decide +kernel
theorem hy1_handlerOf : yX1_handlerOf.cls = gR 0 ∧ yX1_handlerOf.cls ≠ "java/lang/invoke/MethodHandle" ∧ yX1_handlerOf.cls ≠ "java/lang/invoke/VarHandle" ∧ (parseMethodDescriptor yX1_handlerOf.desc).map (fun d => d.parameters.length) = some 1 := by decide +kernel
theorem hy1_holder : yX1_holder.cls = gR 0 ∧ yX1_holder.cls ≠ "java/lang/invoke/MethodHandle" ∧ yX1_holder.cls ≠ "java/lang/invoke/VarHandle" ∧ (parseMethodDescriptor yX1_holder.desc).map (fun d => d.parameters.length) = some 3 := by decide +kernel
theorem hy1_isValue : yX1_isValue.cls = gR 0 ∧ yX1_isValue.cls ≠ "java/lang/invoke/MethodHandle" ∧ yX1_isValue.cls ≠ "java/lang/invoke/VarHandle" ∧ (parseMethodDescriptor yX1_isValue.desc).map (fun d => d.parameters.length) = some 1 := by decide +kernel
theorem hy1_item : yX1_item.cls = gR 0 ∧ yX1_item.cls ≠ "java/lang/invoke/MethodHandle" ∧ yX1_item.cls ≠ "java/lang/invoke/VarHandle" ∧ (parseMethodDescriptor yX1_item.desc).map (fun d => d.parameters.length) = some 1 := by decide +kernel
theorem hy1_job : yX1_job.cls = gR 0 ∧ yX1_job.cls ≠ "java/lang/invoke/MethodHandle" ∧ yX1_job.cls ≠ "java/lang/invoke/VarHandle" ∧ (parseMethodDescriptor yX1_job.desc).map (fun d => d.parameters.length) = some 1 := by decide +kernel
theorem hy1_jobs : yX1_jobs.cls = gR 0 ∧ yX1_jobs.cls ≠ "java/lang/invoke/MethodHandle" ∧ yX1_jobs.cls ≠ "java/lang/invoke/VarHandle" ∧ (parseMethodDescriptor yX1_jobs.desc).map (fun d => d.parameters.length) = some 1 := by decide +kernel
theorem hy1_kind : yX1_kind.cls = gR 0 ∧ yX1_kind.cls ≠ "java/lang/invoke/MethodHandle" ∧ yX1_kind.cls ≠ "java/lang/invoke/VarHandle" ∧ (parseMethodDescriptor yX1_kind.desc).map (fun d => d.parameters.length) = some 1 := by decide +kernel
theorem hy1_lastly : yX1_lastly.cls = gR 0 ∧ yX1_lastly.cls ≠ "java/lang/invoke/MethodHandle" ∧ yX1_lastly.cls ≠ "java/lang/invoke/VarHandle" ∧ (parseMethodDescriptor yX1_lastly.desc).map (fun d => d.parameters.length) = some 2 := by decide +kernel
theorem hy1_later : yX1_later.cls = gR 0 ∧ yX1_later.cls ≠ "java/lang/invoke/MethodHandle" ∧ yX1_later.cls ≠ "java/lang/invoke/VarHandle" ∧ (parseMethodDescriptor yX1_later.desc).map (fun d => d.parameters.length) = some 3 := by decide +kernel
theorem hy1_lessLeft : yX1_lessLeft.cls = gR 0 ∧ yX1_lessLeft.cls ≠ "java/lang/invoke/MethodHandle" ∧ yX1_lessLeft.cls ≠ "java/lang/invoke/VarHandle" ∧ (parseMethodDescriptor yX1_lessLeft.desc).map (fun d => d.parameters.length) = some 2 := by decide +kernel
theorem hy1_log : yX1_log.cls = gR 0 ∧ yX1_log.cls ≠ "java/lang/invoke/MethodHandle" ∧ yX1_log.cls ≠ "java/lang/invoke/VarHandle" ∧ (parseMethodDescriptor yX1_log.desc).map (fun d => d.parameters.length) = some 2 := by decide +kernel
theorem hy1_log_2 : yX1_log_2.cls = gR 0 ∧ yX1_log_2.cls ≠ "java/lang/invoke/MethodHandle" ∧ yX1_log_2.cls ≠ "java/lang/invoke/VarHandle" ∧ (parseMethodDescriptor yX1_log_2.desc).map (fun d => d.parameters.length) = some 2 := by decide +kernel
theorem hy1_manyError : yX1_manyError.cls = gR 0 ∧ yX1_manyError.cls ≠ "java/lang/invoke/MethodHandle" ∧ yX1_manyError.cls ≠ "java/lang/invoke/VarHandle" ∧ (parseMethodDescriptor yX1_manyError.desc).map (fun d => d.parameters.length) = some 1 := by decide +kernel
theorem hy1_newCell : yX1_newCell.cls = gR 0 ∧ yX1_newCell.cls ≠ "java/lang/invoke/MethodHandle" ∧ yX1_newCell.cls ≠ "java/lang/invoke/VarHandle" ∧ (parseMethodDescriptor yX1_newCell.desc).map (fun d => d.parameters.length) = some 1 := by decide +kernel
theorem hy1_newPromise : yX1_newPromise.cls = gR 0 ∧ yX1_newPromise.cls ≠ "java/lang/invoke/MethodHandle" ∧ yX1_newPromise.cls ≠ "java/lang/invoke/VarHandle" ∧ (parseMethodDescriptor yX1_newPromise.desc).map (fun d => d.parameters.length) = some 0 := by decide +kernel
theorem hy1_object : yX1_object.cls = gR 0 ∧ yX1_object.cls ≠ "java/lang/invoke/MethodHandle" ∧ yX1_object.cls ≠ "java/lang/invoke/VarHandle" ∧ (parseMethodDescriptor yX1_object.desc).map (fun d => d.parameters.length) = some 1 := by decide +kernel
theorem hy1_part : yX1_part.cls = gR 0 ∧ yX1_part.cls ≠ "java/lang/invoke/MethodHandle" ∧ yX1_part.cls ≠ "java/lang/invoke/VarHandle" ∧ (parseMethodDescriptor yX1_part.desc).map (fun d => d.parameters.length) = some 2 := by decide +kernel
theorem hy1_perform : yX1_perform.cls = gR 0 ∧ yX1_perform.cls ≠ "java/lang/invoke/MethodHandle" ∧ yX1_perform.cls ≠ "java/lang/invoke/VarHandle" ∧ (parseMethodDescriptor yX1_perform.desc).map (fun d => d.parameters.length) = some 2 := by decide +kernel
theorem hy1_promise : yX1_promise.cls = gR 0 ∧ yX1_promise.cls ≠ "java/lang/invoke/MethodHandle" ∧ yX1_promise.cls ≠ "java/lang/invoke/VarHandle" ∧ (parseMethodDescriptor yX1_promise.desc).map (fun d => d.parameters.length) = some 0 := by decide +kernel
theorem hy1_promiseOf : yX1_promiseOf.cls = gR 0 ∧ yX1_promiseOf.cls ≠ "java/lang/invoke/MethodHandle" ∧ yX1_promiseOf.cls ≠ "java/lang/invoke/VarHandle" ∧ (parseMethodDescriptor yX1_promiseOf.desc).map (fun d => d.parameters.length) = some 1 := by decide +kernel
theorem hy1_raise : yX1_raise.cls = gR 0 ∧ yX1_raise.cls ≠ "java/lang/invoke/MethodHandle" ∧ yX1_raise.cls ≠ "java/lang/invoke/VarHandle" ∧ (parseMethodDescriptor yX1_raise.desc).map (fun d => d.parameters.length) = some 1 := by decide +kernel
theorem hy1_resolve : yX1_resolve.cls = gR 0 ∧ yX1_resolve.cls ≠ "java/lang/invoke/MethodHandle" ∧ yX1_resolve.cls ≠ "java/lang/invoke/VarHandle" ∧ (parseMethodDescriptor yX1_resolve.desc).map (fun d => d.parameters.length) = some 2 := by decide +kernel
theorem hy1_result : yX1_result.cls = gR 0 ∧ yX1_result.cls ≠ "java/lang/invoke/MethodHandle" ∧ yX1_result.cls ≠ "java/lang/invoke/VarHandle" ∧ (parseMethodDescriptor yX1_result.desc).map (fun d => d.parameters.length) = some 1 := by decide +kernel
theorem hy1_room : yX1_room.cls = gR 0 ∧ yX1_room.cls ≠ "java/lang/invoke/MethodHandle" ∧ yX1_room.cls ≠ "java/lang/invoke/VarHandle" ∧ (parseMethodDescriptor yX1_room.desc).map (fun d => d.parameters.length) = some 1 := by decide +kernel
theorem hy1_row : yX1_row.cls = gR 0 ∧ yX1_row.cls ≠ "java/lang/invoke/MethodHandle" ∧ yX1_row.cls ≠ "java/lang/invoke/VarHandle" ∧ (parseMethodDescriptor yX1_row.desc).map (fun d => d.parameters.length) = some 1 := by decide +kernel
theorem hy1_settle : yX1_settle.cls = gR 0 ∧ yX1_settle.cls ≠ "java/lang/invoke/MethodHandle" ∧ yX1_settle.cls ≠ "java/lang/invoke/VarHandle" ∧ (parseMethodDescriptor yX1_settle.desc).map (fun d => d.parameters.length) = some 3 := by decide +kernel
theorem hy1_settle_2 : yX1_settle_2.cls = gR 0 ∧ yX1_settle_2.cls ≠ "java/lang/invoke/MethodHandle" ∧ yX1_settle_2.cls ≠ "java/lang/invoke/VarHandle" ∧ (parseMethodDescriptor yX1_settle_2.desc).map (fun d => d.parameters.length) = some 3 := by decide +kernel
theorem hy1_state : yX1_state.cls = gR 0 ∧ yX1_state.cls ≠ "java/lang/invoke/MethodHandle" ∧ yX1_state.cls ≠ "java/lang/invoke/VarHandle" ∧ (parseMethodDescriptor yX1_state.desc).map (fun d => d.parameters.length) = some 1 := by decide +kernel
theorem hy1_then : yX1_then.cls = gR 0 ∧ yX1_then.cls ≠ "java/lang/invoke/MethodHandle" ∧ yX1_then.cls ≠ "java/lang/invoke/VarHandle" ∧ (parseMethodDescriptor yX1_then.desc).map (fun d => d.parameters.length) = some 3 := by decide +kernel
theorem hy1_then_2 : yX1_then_2.cls = gR 0 ∧ yX1_then_2.cls ≠ "java/lang/invoke/MethodHandle" ∧ yX1_then_2.cls ≠ "java/lang/invoke/VarHandle" ∧ (parseMethodDescriptor yX1_then_2.desc).map (fun d => d.parameters.length) = some 4 := by decide +kernel
theorem hy1_thenable : yX1_thenable.cls = gR 0 ∧ yX1_thenable.cls ≠ "java/lang/invoke/MethodHandle" ∧ yX1_thenable.cls ≠ "java/lang/invoke/VarHandle" ∧ (parseMethodDescriptor yX1_thenable.desc).map (fun d => d.parameters.length) = some 5 := by decide +kernel
theorem hy1_user : yX1_user.cls = gR 0 ∧ yX1_user.cls ≠ "java/lang/invoke/MethodHandle" ∧ yX1_user.cls ≠ "java/lang/invoke/VarHandle" ∧ (parseMethodDescriptor yX1_user.desc).map (fun d => d.parameters.length) = some 2 := by decide +kernel
theorem hy1_wait : yX1_wait.cls = gR 0 ∧ yX1_wait.cls ≠ "java/lang/invoke/MethodHandle" ∧ yX1_wait.cls ≠ "java/lang/invoke/VarHandle" ∧ (parseMethodDescriptor yX1_wait.desc).map (fun d => d.parameters.length) = some 5 := by decide +kernel
theorem hy1_wrap : yX1_wrap.cls = gR 0 ∧ yX1_wrap.cls ≠ "java/lang/invoke/MethodHandle" ∧ yX1_wrap.cls ≠ "java/lang/invoke/VarHandle" ∧ (parseMethodDescriptor yX1_wrap.desc).map (fun d => d.parameters.length) = some 1 := by decide +kernel
theorem hy1_wrapped : yX1_wrapped.cls = gR 0 ∧ yX1_wrapped.cls ≠ "java/lang/invoke/MethodHandle" ∧ yX1_wrapped.cls ≠ "java/lang/invoke/VarHandle" ∧ (parseMethodDescriptor yX1_wrapped.desc).map (fun d => d.parameters.length) = some 1 := by decide +kernel
theorem gs1_144 : GoodIn lw_all (va_wsS (gR 0) 144 yJ4_copyOf (ws_ yJ4_copyOf cJ4_copyOf 3 (some (.array .int)))) := lw_S q345 q346 q67 q347
theorem gv1_156 : GoodIn lw_all (wsV (gR 0) 156 (gR 0) yX1_object (ws_ yX1_object cX1_object 2 (some .int))) := lw_V q333 q335 qs3 q61 q336
theorem gs1_160 : GoodIn lw_all (va_wsS (gR 0) 160 yX1_valueOf (ws_ yX1_valueOf cX1_valueOf 1 (some .int))) := lw_S q365 q366 q61 q367
theorem gv1_167 : GoodIn lw_all (wsV (gR 0) 167 (gR 0) yX1_newCell (ws_ yX1_newCell cX1_newCell 2 (some .int))) := lw_V q341 q343 qs5 q61 q344
theorem gv1_170 : GoodIn lw_all (wsV (gR 0) 170 (gR 0) yX1_function (ws_ yX1_function cX1_function 6 (some .int))) := lw_V q361 q363 qs6 q61 q364
theorem gv1_186 : GoodIn lw_all (wsV (gR 0) 186 (gR 0) yX1_enqueue (ws_ yX1_enqueue cX1_enqueue 6 none)) := lw_V q450 q452 qs16 q61 q453
theorem gv1_190 : GoodIn lw_all (wsV (gR 0) 190 (gR 0) yX1_error (ws_ yX1_error cX1_error 1 (some .int))) := lw_V q442 q444 qs14 q61 q445
theorem gv1_194 : GoodIn lw_all (wsV (gR 0) 194 (gR 0) yX1_settle_2 (ws_ yX1_settle_2 cX1_settle_2 5 none)) := lw_V q446 q448 qs15 q61 q449
theorem gs1_197 : GoodIn lw_all (va_wsS (gR 0) 197 yX1_isObject (ws_ yX1_isObject cX1_isObject 1 (some .boolean))) := lw_S q405 q406 q61 q407
theorem gs1_201 : GoodIn lw_all (va_wsS (gR 0) 201 yX1_id (ws_ yX1_id cX1_id 1 (some .int))) := lw_S q380 q381 q61 q382
theorem gv1_204 : GoodIn lw_all (wsV (gR 0) 204 (gR 0) yX1_newPromise (ws_ yX1_newPromise cX1_newPromise 1 (some .int))) := lw_V q329 q331 qs2 q61 q332
theorem gv1_207 : GoodIn lw_all (wsV (gR 0) 207 (gR 0) yX1_functionsOf (ws_ yX1_functionsOf cX1_functionsOf 4 (some .int))) := lw_V q337 q339 qs4 q61 q340
theorem gv1_210 : GoodIn lw_all (wsV (gR 0) 210 (gR 0) yX1_wait (ws_ yX1_wait cX1_wait 7 (some .int))) := lw_V q482 q484 qs24 q61 q485
theorem gv1_214 : GoodIn lw_all (wsV (gR 0) 214 (gR 0) yX1_perform (ws_ yX1_perform cX1_perform 3 none)) := lw_V q486 q488 qs25 q61 q489
theorem gv1_218 : GoodIn lw_all (wsV (gR 0) 218 (gR 0) yX1_call (ws_ yX1_call cX1_call 5 (some .int))) := lw_V q422 q424 qs9 q61 q425
theorem gv1_222 : GoodIn lw_all (wsV (gR 0) 222 (gR 0) yX1_user (ws_ yX1_user cX1_user 3 (some .int))) := lw_V q426 q428 qs10 q61 q429
theorem gv1_225 : GoodIn lw_all (wsV (gR 0) 225 (gR 0) yX1_resolve (ws_ yX1_resolve cX1_resolve 4 none)) := lw_V q438 q440 qs13 q61 q441
theorem gv1_228 : GoodIn lw_all (wsV (gR 0) 228 (gR 0) yX1_element (ws_ yX1_element cX1_element 7 (some .int))) := lw_V q454 q456 qs17 q61 q457
theorem gv1_231 : GoodIn lw_all (wsV (gR 0) 231 (gR 0) yX1_wrapped (ws_ yX1_wrapped cX1_wrapped 3 (some .int))) := lw_V q474 q476 qs22 q61 q477
theorem gv1_234 : GoodIn lw_all (wsV (gR 0) 234 (gR 0) yX1_then (ws_ yX1_then cX1_then 6 (some .int))) := lw_V q478 q480 qs23 q61 q481
theorem gv1_238 : GoodIn lw_all (wsV (gR 0) 238 (gR 0) yX1_raise (ws_ yX1_raise cX1_raise 2 (some .int))) := lw_V q434 q436 qs12 q61 q437
theorem gv1_244 : GoodIn lw_all (wsV (gR 0) 244 (gR 0) yX1_log_2 (ws_ yX1_log_2 cX1_log_2 3 none)) := lw_V q430 q432 qs11 q61 q433
theorem gv1_247 : GoodIn lw_all (wsV (gR 0) 247 (gR 0) yX1_row (ws_ yX1_row cX1_row 3 (some .int))) := lw_V q458 q460 qs18 q61 q461
theorem gv1_250 : GoodIn lw_all (wsV (gR 0) 250 (gR 0) yX1_holder (ws_ yX1_holder cX1_holder 5 (some .int))) := lw_V q462 q464 qs19 q61 q465
theorem gv1_253 : GoodIn lw_all (wsV (gR 0) 253 (gR 0) yX1_lessLeft (ws_ yX1_lessLeft cX1_lessLeft 4 (some .int))) := lw_V q466 q468 qs20 q61 q469
theorem gv1_257 : GoodIn lw_all (wsV (gR 0) 257 (gR 0) yX1_manyError (ws_ yX1_manyError cX1_manyError 3 (some .int))) := lw_V q470 q472 qs21 q61 q473
theorem gv1_263 : GoodIn lw_all (wsV (gR 0) 263 (gR 0) yX1_callThen (ws_ yX1_callThen cX1_callThen 7 none)) := lw_V q565 q567 qs29 q61 q568
theorem gv1_266 : GoodIn lw_all (wsV (gR 0) 266 (gR 0) yX1_goOn (ws_ yX1_goOn cX1_goOn 5 none)) := lw_V q550 q552 qs27 q61 q553
theorem gs1_275 : GoodIn lw_all (va_wsS (gR 0) 275 yX1_need (ws_ yX1_need cX1_need 1 none)) := lw_S q383 q384 q61 q385
theorem gv1_282 : GoodIn lw_all (wsV (gR 0) 282 (gR 0) yX1_room (ws_ yX1_room cX1_room 2 none)) := lw_V q263 q265 qs0 q61 q266
theorem gv1_286 : GoodIn lw_all (wsV (gR 0) 286 (gR 0) yX1_isValue (ws_ yX1_isValue cX1_isValue 2 (some .boolean))) := lw_V q376 q378 qs7 q61 q379
theorem gv1_289 : GoodIn lw_all (wsV (gR 0) 289 (gR 0) yX1_promiseOf (ws_ yX1_promiseOf cX1_promiseOf 2 (some .int))) := lw_V q401 q403 qs8 q61 q404
theorem gv1_292 : GoodIn lw_all (wsV (gR 0) 292 (gR 0) yX1_handlerOf (ws_ yX1_handlerOf cX1_handlerOf 2 (some .int))) := lw_V q504 q506 qs26 q61 q507
theorem gv1_301 : GoodIn lw_all (wsV (gR 0) 301 (gR 0) yX1_job (ws_ yX1_job cX1_job 8 none)) := lw_V q561 q563 qs28 q61 q564
theorem hy2_array : yX2_array.cls = gR 1 ∧ yX2_array.cls ≠ "java/lang/invoke/MethodHandle" ∧ yX2_array.cls ≠ "java/lang/invoke/VarHandle" ∧ (parseMethodDescriptor yX2_array.desc).map (fun d => d.parameters.length) = some 2 := by decide +kernel
theorem hy2_async : yX2_async.cls = gR 1 ∧ yX2_async.cls ≠ "java/lang/invoke/MethodHandle" ∧ yX2_async.cls ≠ "java/lang/invoke/VarHandle" ∧ (parseMethodDescriptor yX2_async.desc).map (fun d => d.parameters.length) = some 2 := by decide +kernel
theorem hy2_broken : yX2_broken.cls = gR 1 ∧ yX2_broken.cls ≠ "java/lang/invoke/MethodHandle" ∧ yX2_broken.cls ≠ "java/lang/invoke/VarHandle" ∧ (parseMethodDescriptor yX2_broken.desc).map (fun d => d.parameters.length) = some 1 := by decide +kernel
theorem hy2_call : yX2_call.cls = gR 1 ∧ yX2_call.cls ≠ "java/lang/invoke/MethodHandle" ∧ yX2_call.cls ≠ "java/lang/invoke/VarHandle" ∧ (parseMethodDescriptor yX2_call.desc).map (fun d => d.parameters.length) = some 3 := by decide +kernel
theorem hy2_capability : yX2_capability.cls = gR 1 ∧ yX2_capability.cls ≠ "java/lang/invoke/MethodHandle" ∧ yX2_capability.cls ≠ "java/lang/invoke/VarHandle" ∧ (parseMethodDescriptor yX2_capability.desc).map (fun d => d.parameters.length) = some 0 := by decide +kernel
theorem hy2_combine : yX2_combine.cls = gR 1 ∧ yX2_combine.cls ≠ "java/lang/invoke/MethodHandle" ∧ yX2_combine.cls ≠ "java/lang/invoke/VarHandle" ∧ (parseMethodDescriptor yX2_combine.desc).map (fun d => d.parameters.length) = some 1 := by decide +kernel
theorem hy2_count : yX2_count.cls = gR 1 ∧ yX2_count.cls ≠ "java/lang/invoke/MethodHandle" ∧ yX2_count.cls ≠ "java/lang/invoke/VarHandle" ∧ (parseMethodDescriptor yX2_count.desc).map (fun d => d.parameters.length) = some 1 := by decide +kernel
theorem hy2_does : yX2_does.cls = gR 1 ∧ yX2_does.cls ≠ "java/lang/invoke/MethodHandle" ∧ yX2_does.cls ≠ "java/lang/invoke/VarHandle" ∧ (parseMethodDescriptor yX2_does.desc).map (fun d => d.parameters.length) = some 4 := by decide +kernel
theorem hy2_element : yX2_element.cls = gR 1 ∧ yX2_element.cls ≠ "java/lang/invoke/MethodHandle" ∧ yX2_element.cls ≠ "java/lang/invoke/VarHandle" ∧ (parseMethodDescriptor yX2_element.desc).map (fun d => d.parameters.length) = some 3 := by decide +kernel
theorem hy2_fails : yX2_fails.cls = gR 1 ∧ yX2_fails.cls ≠ "java/lang/invoke/MethodHandle" ∧ yX2_fails.cls ≠ "java/lang/invoke/VarHandle" ∧ (parseMethodDescriptor yX2_fails.desc).map (fun d => d.parameters.length) = some 1 := by decide +kernel
theorem hy2_finish : yX2_finish.cls = gR 1 ∧ yX2_finish.cls ≠ "java/lang/invoke/MethodHandle" ∧ yX2_finish.cls ≠ "java/lang/invoke/VarHandle" ∧ (parseMethodDescriptor yX2_finish.desc).map (fun d => d.parameters.length) = some 2 := by decide +kernel
theorem hy2_goOn : yX2_goOn.cls = gR 1 ∧ yX2_goOn.cls ≠ "java/lang/invoke/MethodHandle" ∧ yX2_goOn.cls ≠ "java/lang/invoke/VarHandle" ∧ (parseMethodDescriptor yX2_goOn.desc).map (fun d => d.parameters.length) = some 1 := by decide +kernel
theorem hy2_group : yX2_group.cls = gR 1 ∧ yX2_group.cls ≠ "java/lang/invoke/MethodHandle" ∧ yX2_group.cls ≠ "java/lang/invoke/VarHandle" ∧ (parseMethodDescriptor yX2_group.desc).map (fun d => d.parameters.length) = some 0 := by decide +kernel
theorem hy2_handle : yX2_handle.cls = gR 1 ∧ yX2_handle.cls ≠ "java/lang/invoke/MethodHandle" ∧ yX2_handle.cls ≠ "java/lang/invoke/VarHandle" ∧ (parseMethodDescriptor yX2_handle.desc).map (fun d => d.parameters.length) = some 2 := by decide +kernel
theorem hy2_handler : yX2_handler.cls = gR 1 ∧ yX2_handler.cls ≠ "java/lang/invoke/MethodHandle" ∧ yX2_handler.cls ≠ "java/lang/invoke/VarHandle" ∧ (parseMethodDescriptor yX2_handler.desc).map (fun d => d.parameters.length) = some 2 := by decide +kernel
theorem hy2_isFull : yX2_isFull.cls = gR 1 ∧ yX2_isFull.cls ≠ "java/lang/invoke/MethodHandle" ∧ yX2_isFull.cls ≠ "java/lang/invoke/VarHandle" ∧ (parseMethodDescriptor yX2_isFull.desc).map (fun d => d.parameters.length) = some 1 := by decide +kernel
theorem hy2_isHandler : yX2_isHandler.cls = gR 1 ∧ yX2_isHandler.cls ≠ "java/lang/invoke/MethodHandle" ∧ yX2_isHandler.cls ≠ "java/lang/invoke/VarHandle" ∧ (parseMethodDescriptor yX2_isHandler.desc).map (fun d => d.parameters.length) = some 1 := by decide +kernel
theorem hy2_isKept : yX2_isKept.cls = gR 1 ∧ yX2_isKept.cls ≠ "java/lang/invoke/MethodHandle" ∧ yX2_isKept.cls ≠ "java/lang/invoke/VarHandle" ∧ (parseMethodDescriptor yX2_isKept.desc).map (fun d => d.parameters.length) = some 1 := by decide +kernel
theorem hy2_isKind : yX2_isKind.cls = gR 1 ∧ yX2_isKind.cls ≠ "java/lang/invoke/MethodHandle" ∧ yX2_isKind.cls ≠ "java/lang/invoke/VarHandle" ∧ (parseMethodDescriptor yX2_isKind.desc).map (fun d => d.parameters.length) = some 2 := by decide +kernel
theorem hy2_isObject : yX2_isObject.cls = gR 1 ∧ yX2_isObject.cls ≠ "java/lang/invoke/MethodHandle" ∧ yX2_isObject.cls ≠ "java/lang/invoke/VarHandle" ∧ (parseMethodDescriptor yX2_isObject.desc).map (fun d => d.parameters.length) = some 1 := by decide +kernel
theorem hy2_isValue : yX2_isValue.cls = gR 1 ∧ yX2_isValue.cls ≠ "java/lang/invoke/MethodHandle" ∧ yX2_isValue.cls ≠ "java/lang/invoke/VarHandle" ∧ (parseMethodDescriptor yX2_isValue.desc).map (fun d => d.parameters.length) = some 1 := by decide +kernel
theorem hy2_item : yX2_item.cls = gR 1 ∧ yX2_item.cls ≠ "java/lang/invoke/MethodHandle" ∧ yX2_item.cls ≠ "java/lang/invoke/VarHandle" ∧ (parseMethodDescriptor yX2_item.desc).map (fun d => d.parameters.length) = some 1 := by decide +kernel
theorem hy2_job : yX2_job.cls = gR 1 ∧ yX2_job.cls ≠ "java/lang/invoke/MethodHandle" ∧ yX2_job.cls ≠ "java/lang/invoke/VarHandle" ∧ (parseMethodDescriptor yX2_job.desc).map (fun d => d.parameters.length) = some 0 := by decide +kernel
theorem hy2_jobs : yX2_jobs.cls = gR 1 ∧ yX2_jobs.cls ≠ "java/lang/invoke/MethodHandle" ∧ yX2_jobs.cls ≠ "java/lang/invoke/VarHandle" ∧ (parseMethodDescriptor yX2_jobs.desc).map (fun d => d.parameters.length) = some 1 := by decide +kernel
theorem hy2_kind : yX2_kind.cls = gR 1 ∧ yX2_kind.cls ≠ "java/lang/invoke/MethodHandle" ∧ yX2_kind.cls ≠ "java/lang/invoke/VarHandle" ∧ (parseMethodDescriptor yX2_kind.desc).map (fun d => d.parameters.length) = some 1 := by decide +kernel
theorem hy2_last : yX2_last.cls = gR 1 ∧ yX2_last.cls ≠ "java/lang/invoke/MethodHandle" ∧ yX2_last.cls ≠ "java/lang/invoke/VarHandle" ∧ (parseMethodDescriptor yX2_last.desc).map (fun d => d.parameters.length) = some 3 := by decide +kernel
theorem hy2_lastly : yX2_lastly.cls = gR 1 ∧ yX2_lastly.cls ≠ "java/lang/invoke/MethodHandle" ∧ yX2_lastly.cls ≠ "java/lang/invoke/VarHandle" ∧ (parseMethodDescriptor yX2_lastly.desc).map (fun d => d.parameters.length) = some 2 := by decide +kernel
theorem hy2_later : yX2_later.cls = gR 1 ∧ yX2_later.cls ≠ "java/lang/invoke/MethodHandle" ∧ yX2_later.cls ≠ "java/lang/invoke/VarHandle" ∧ (parseMethodDescriptor yX2_later.desc).map (fun d => d.parameters.length) = some 3 := by decide +kernel
theorem hy2_log : yX2_log.cls = gR 1 ∧ yX2_log.cls ≠ "java/lang/invoke/MethodHandle" ∧ yX2_log.cls ≠ "java/lang/invoke/VarHandle" ∧ (parseMethodDescriptor yX2_log.desc).map (fun d => d.parameters.length) = some 2 := by decide +kernel
theorem hy2_newObject : yX2_newObject.cls = gR 1 ∧ yX2_newObject.cls ≠ "java/lang/invoke/MethodHandle" ∧ yX2_newObject.cls ≠ "java/lang/invoke/VarHandle" ∧ (parseMethodDescriptor yX2_newObject.desc).map (fun d => d.parameters.length) = some 1 := by decide +kernel
theorem hy2_note : yX2_note.cls = gR 1 ∧ yX2_note.cls ≠ "java/lang/invoke/MethodHandle" ∧ yX2_note.cls ≠ "java/lang/invoke/VarHandle" ∧ (parseMethodDescriptor yX2_note.desc).map (fun d => d.parameters.length) = some 2 := by decide +kernel
theorem hy2_part : yX2_part.cls = gR 1 ∧ yX2_part.cls ≠ "java/lang/invoke/MethodHandle" ∧ yX2_part.cls ≠ "java/lang/invoke/VarHandle" ∧ (parseMethodDescriptor yX2_part.desc).map (fun d => d.parameters.length) = some 2 := by decide +kernel
theorem hy2_performThen : yX2_performThen.cls = gR 1 ∧ yX2_performThen.cls ≠ "java/lang/invoke/MethodHandle" ∧ yX2_performThen.cls ≠ "java/lang/invoke/VarHandle" ∧ (parseMethodDescriptor yX2_performThen.desc).map (fun d => d.parameters.length) = some 6 := by decide +kernel
theorem hy2_promise : yX2_promise.cls = gR 1 ∧ yX2_promise.cls ≠ "java/lang/invoke/MethodHandle" ∧ yX2_promise.cls ≠ "java/lang/invoke/VarHandle" ∧ (parseMethodDescriptor yX2_promise.desc).map (fun d => d.parameters.length) = some 0 := by decide +kernel
theorem hy2_promiseOf : yX2_promiseOf.cls = gR 1 ∧ yX2_promiseOf.cls ≠ "java/lang/invoke/MethodHandle" ∧ yX2_promiseOf.cls ≠ "java/lang/invoke/VarHandle" ∧ (parseMethodDescriptor yX2_promiseOf.desc).map (fun d => d.parameters.length) = some 1 := by decide +kernel
theorem hy2_react : yX2_react.cls = gR 1 ∧ yX2_react.cls ≠ "java/lang/invoke/MethodHandle" ∧ yX2_react.cls ≠ "java/lang/invoke/VarHandle" ∧ (parseMethodDescriptor yX2_react.desc).map (fun d => d.parameters.length) = some 3 := by decide +kernel
theorem hy2_record : yX2_record.cls = gR 1 ∧ yX2_record.cls ≠ "java/lang/invoke/MethodHandle" ∧ yX2_record.cls ≠ "java/lang/invoke/VarHandle" ∧ (parseMethodDescriptor yX2_record.desc).map (fun d => d.parameters.length) = some 1 := by decide +kernel
theorem hy2_reject : yX2_reject.cls = gR 1 ∧ yX2_reject.cls ≠ "java/lang/invoke/MethodHandle" ∧ yX2_reject.cls ≠ "java/lang/invoke/VarHandle" ∧ (parseMethodDescriptor yX2_reject.desc).map (fun d => d.parameters.length) = some 2 := by decide +kernel
theorem hy2_resolve : yX2_resolve.cls = gR 1 ∧ yX2_resolve.cls ≠ "java/lang/invoke/MethodHandle" ∧ yX2_resolve.cls ≠ "java/lang/invoke/VarHandle" ∧ (parseMethodDescriptor yX2_resolve.desc).map (fun d => d.parameters.length) = some 2 := by decide +kernel
theorem hy2_result : yX2_result.cls = gR 1 ∧ yX2_result.cls ≠ "java/lang/invoke/MethodHandle" ∧ yX2_result.cls ≠ "java/lang/invoke/VarHandle" ∧ (parseMethodDescriptor yX2_result.desc).map (fun d => d.parameters.length) = some 1 := by decide +kernel
theorem hy2_resume : yX2_resume.cls = gR 1 ∧ yX2_resume.cls ≠ "java/lang/invoke/MethodHandle" ∧ yX2_resume.cls ≠ "java/lang/invoke/VarHandle" ∧ (parseMethodDescriptor yX2_resume.desc).map (fun d => d.parameters.length) = some 2 := by decide +kernel
theorem hy2_settle : yX2_settle.cls = gR 1 ∧ yX2_settle.cls ≠ "java/lang/invoke/MethodHandle" ∧ yX2_settle.cls ≠ "java/lang/invoke/VarHandle" ∧ (parseMethodDescriptor yX2_settle.desc).map (fun d => d.parameters.length) = some 3 := by decide +kernel
theorem hy2_settle_2 : yX2_settle_2.cls = gR 1 ∧ yX2_settle_2.cls ≠ "java/lang/invoke/MethodHandle" ∧ yX2_settle_2.cls ≠ "java/lang/invoke/VarHandle" ∧ (parseMethodDescriptor yX2_settle_2.desc).map (fun d => d.parameters.length) = some 3 := by decide +kernel
theorem hy2_state : yX2_state.cls = gR 1 ∧ yX2_state.cls ≠ "java/lang/invoke/MethodHandle" ∧ yX2_state.cls ≠ "java/lang/invoke/VarHandle" ∧ (parseMethodDescriptor yX2_state.desc).map (fun d => d.parameters.length) = some 1 := by decide +kernel
theorem hy2_then : yX2_then.cls = gR 1 ∧ yX2_then.cls ≠ "java/lang/invoke/MethodHandle" ∧ yX2_then.cls ≠ "java/lang/invoke/VarHandle" ∧ (parseMethodDescriptor yX2_then.desc).map (fun d => d.parameters.length) = some 4 := by decide +kernel
theorem hy2_thenJob : yX2_thenJob.cls = gR 1 ∧ yX2_thenJob.cls ≠ "java/lang/invoke/MethodHandle" ∧ yX2_thenJob.cls ≠ "java/lang/invoke/VarHandle" ∧ (parseMethodDescriptor yX2_thenJob.desc).map (fun d => d.parameters.length) = some 2 := by decide +kernel
theorem hy2_then_2 : yX2_then_2.cls = gR 1 ∧ yX2_then_2.cls ≠ "java/lang/invoke/MethodHandle" ∧ yX2_then_2.cls ≠ "java/lang/invoke/VarHandle" ∧ (parseMethodDescriptor yX2_then_2.desc).map (fun d => d.parameters.length) = some 5 := by decide +kernel
theorem hy2_thenable : yX2_thenable.cls = gR 1 ∧ yX2_thenable.cls ≠ "java/lang/invoke/MethodHandle" ∧ yX2_thenable.cls ≠ "java/lang/invoke/VarHandle" ∧ (parseMethodDescriptor yX2_thenable.desc).map (fun d => d.parameters.length) = some 5 := by decide +kernel
theorem hy2_thrown : yX2_thrown.cls = gR 1 ∧ yX2_thrown.cls ≠ "java/lang/invoke/MethodHandle" ∧ yX2_thrown.cls ≠ "java/lang/invoke/VarHandle" ∧ (parseMethodDescriptor yX2_thrown.desc).map (fun d => d.parameters.length) = some 0 := by decide +kernel
theorem hy2_wrap : yX2_wrap.cls = gR 1 ∧ yX2_wrap.cls ≠ "java/lang/invoke/MethodHandle" ∧ yX2_wrap.cls ≠ "java/lang/invoke/VarHandle" ∧ (parseMethodDescriptor yX2_wrap.desc).map (fun d => d.parameters.length) = some 1 := by decide +kernel
theorem gv2_138 : GoodIn lw_all (wsV (gR 1) 138 (gR 1) yX2_isObject (ws_ yX2_isObject cX2_isObject 2 (some .boolean))) := lw_V q806 q808 qs36 q62 q809
theorem gv2_148 : GoodIn lw_all (wsV (gR 1) 148 (gR 1) yX2_newObject (ws_ yX2_newObject cX2_newObject 3 (some .int))) := lw_V q787 q789 qs33 q62 q790
theorem gv2_152 : GoodIn lw_all (wsV (gR 1) 152 (gR 1) yX2_record (ws_ yX2_record cX2_record 3 (some .int))) := lw_V q791 q793 qs34 q62 q794
theorem gs2_155 : GoodIn lw_all (va_wsS (gR 1) 155 yX2_valueOf (ws_ yX2_valueOf cX2_valueOf 1 (some .int))) := lw_S q795 q796 q62 q797
theorem gv2_158 : GoodIn lw_all (wsV (gR 1) 158 (gR 1) yX2_settle_2 (ws_ yX2_settle_2 cX2_settle_2 5 none)) := lw_V q830 q832 qs40 q62 q833
theorem gv2_165 : GoodIn lw_all (wsV (gR 1) 165 (gR 1) yX2_react (ws_ yX2_react cX2_react 4 none)) := lw_V q834 q836 qs41 q62 q837
theorem gv2_171 : GoodIn lw_all (wsV (gR 1) 171 (gR 1) yX2_capability (ws_ yX2_capability cX2_capability 1 (some .int))) := lw_V q783 q785 qs32 q62 q786
theorem gv2_175 : GoodIn lw_all (wsV (gR 1) 175 (gR 1) yX2_performThen (ws_ yX2_performThen cX2_performThen 9 none)) := lw_V q858 q860 qs45 q62 q861
theorem gv2_179 : GoodIn lw_all (wsV (gR 1) 179 (gR 1) yX2_isKind (ws_ yX2_isKind cX2_isKind 3 (some .boolean))) := lw_V q814 q816 qs38 q62 q817
theorem gv2_183 : GoodIn lw_all (wsV (gR 1) 183 (gR 1) yX2_resolve (ws_ yX2_resolve cX2_resolve 5 none)) := lw_V q838 q840 qs42 q62 q841
theorem gv2_190 : GoodIn lw_all (wsV (gR 1) 190 (gR 1) yX2_note (ws_ yX2_note cX2_note 3 none)) := lw_V q918 q920 qs53 q62 q921
theorem gv2_197 : GoodIn lw_all (wsV (gR 1) 197 (gR 1) yX2_reject (ws_ yX2_reject cX2_reject 3 none)) := lw_V q826 q828 qs39 q62 q829
theorem gv2_200 : GoodIn lw_all (wsV (gR 1) 200 (gR 1) yX2_handle (ws_ yX2_handle cX2_handle 4 (some .int))) := lw_V q930 q932 qs56 q62 q933
theorem gv2_204 : GoodIn lw_all (wsV (gR 1) 204 (gR 1) yX2_element (ws_ yX2_element cX2_element 6 none)) := lw_V q934 q936 qs57 q62 q937
theorem gv2_207 : GoodIn lw_all (wsV (gR 1) 207 (gR 1) yX2_last (ws_ yX2_last cX2_last 8 (some .int))) := lw_V q938 q940 qs58 q62 q941
theorem gv2_211 : GoodIn lw_all (wsV (gR 1) 211 (gR 1) yX2_resume (ws_ yX2_resume cX2_resume 4 none)) := lw_V q942 q944 qs59 q62 q945
theorem gv2_214 : GoodIn lw_all (wsV (gR 1) 214 (gR 1) yX2_promiseOf (ws_ yX2_promiseOf cX2_promiseOf 3 (some .int))) := lw_V q870 q872 qs46 q62 q873
theorem gv2_220 : GoodIn lw_all (wsV (gR 1) 220 (gR 1) yX2_then_2 (ws_ yX2_then_2 cX2_then_2 7 (some .int))) := lw_V q854 q856 qs44 q62 q857
theorem gv2_224 : GoodIn lw_all (wsV (gR 1) 224 (gR 1) yX2_finish (ws_ yX2_finish cX2_finish 4 none)) := lw_V q890 q892 qs48 q62 q893
theorem gv2_228 : GoodIn lw_all (wsV (gR 1) 228 (gR 1) yX2_array (ws_ yX2_array cX2_array 4 (some .int))) := lw_V q894 q896 qs49 q62 q897
theorem gv2_234 : GoodIn lw_all (wsV (gR 1) 234 (gR 1) yX2_thenJob (ws_ yX2_thenJob cX2_thenJob 4 none)) := lw_V q914 q916 qs52 q62 q917
theorem gv2_237 : GoodIn lw_all (wsV (gR 1) 237 (gR 1) yX2_call (ws_ yX2_call cX2_call 4 (some .int))) := lw_V q926 q928 qs55 q62 q929
theorem gv2_240 : GoodIn lw_all (wsV (gR 1) 240 (gR 1) yX2_does (ws_ yX2_does cX2_does 5 (some .boolean))) := lw_V q922 q924 qs54 q62 q925
theorem gv2_244 : GoodIn lw_all (wsV (gR 1) 244 (gR 1) yX2_goOn (ws_ yX2_goOn cX2_goOn 3 none)) := lw_V q902 q904 qs50 q62 q905
theorem gv2_254 : GoodIn lw_all (wsV (gR 1) 254 (gR 1) yX2_isFull (ws_ yX2_isFull cX2_isFull 2 (some .boolean))) := lw_V q775 q777 qs30 q62 q778
theorem gv2_257 : GoodIn lw_all (wsV (gR 1) 257 (gR 1) yX2_fails (ws_ yX2_fails cX2_fails 2 (some .int))) := lw_V q779 q781 qs31 q62 q782
theorem gv2_260 : GoodIn lw_all (wsV (gR 1) 260 (gR 1) yX2_isValue (ws_ yX2_isValue cX2_isValue 2 (some .boolean))) := lw_V q802 q804 qs35 q62 q805
theorem gv2_263 : GoodIn lw_all (wsV (gR 1) 263 (gR 1) yX2_isKept (ws_ yX2_isKept cX2_isKept 2 (some .boolean))) := lw_V q810 q812 qs37 q62 q813
theorem gv2_266 : GoodIn lw_all (wsV (gR 1) 266 (gR 1) yX2_isHandler (ws_ yX2_isHandler cX2_isHandler 2 (some .boolean))) := lw_V q850 q852 qs43 q62 q853
theorem gv2_269 : GoodIn lw_all (wsV (gR 1) 269 (gR 1) yX2_group (ws_ yX2_group cX2_group 3 (some .int))) := lw_V q886 q888 qs47 q62 q889
theorem gv2_272 : GoodIn lw_all (wsV (gR 1) 272 (gR 1) yX2_job (ws_ yX2_job cX2_job 3 none)) := lw_V q910 q912 qs51 q62 q913
