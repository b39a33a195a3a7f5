set_option maxRecDepth 100000
theorem dX1_item_0 : decode cX1_item 0 = .ok (.aload_n 0, 1) := by decide +kernel
theorem dX1_item_1 : decode cX1_item 1 = .ok (.iload_n 1, 1) := by decide +kernel
theorem dX1_item_2 : decode cX1_item 2 = .ok (.invokevirtual 286, 3) := by decide +kernel
theorem dX1_item_5 : decode cX1_item 5 = .ok (.invokestatic 275, 3) := by decide +kernel
theorem dX1_item_8 : decode cX1_item 8 = .ok (.aload_n 0, 1) := by decide +kernel
theorem dX1_item_9 : decode cX1_item 9 = .ok (.getfield 295, 3) := by decide +kernel
theorem dX1_item_12 : decode cX1_item 12 = .ok (.aload_n 0, 1) := by decide +kernel
theorem dX1_item_13 : decode cX1_item 13 = .ok (.getfield 108, 3) := by decide +kernel
theorem dX1_item_16 : decode cX1_item 16 = .ok (.arraylength, 1) := by decide +kernel
theorem dX1_item_17 : decode cX1_item 17 = .ok (.if_icmp .ne 11, 3) := by decide +kernel
theorem dX1_item_20 : decode cX1_item 20 = .ok (.new 272, 3) := by decide +kernel
theorem dX1_item_23 : decode cX1_item 23 = .ok (.dup, 1) := by decide +kernel
theorem dX1_item_24 : decode cX1_item 24 = .ok (.invokespecial 274, 3) := by decide +kernel
theorem dX1_item_27 : decode cX1_item 27 = .ok (.athrow, 1) := by decide +kernel
theorem dX1_item_28 : decode cX1_item 28 = .ok (.aload_n 0, 1) := by decide +kernel
theorem dX1_item_29 : decode cX1_item 29 = .ok (.getfield 108, 3) := by decide +kernel
theorem dX1_item_32 : decode cX1_item 32 = .ok (.aload_n 0, 1) := by decide +kernel
theorem dX1_item_33 : decode cX1_item 33 = .ok (.getfield 295, 3) := by decide +kernel
theorem dX1_item_36 : decode cX1_item 36 = .ok (.iload_n 1, 1) := by decide +kernel
theorem dX1_item_37 : decode cX1_item 37 = .ok (.iastore, 1) := by decide +kernel
theorem dX1_item_38 : decode cX1_item 38 = .ok (.aload_n 0, 1) := by decide +kernel
theorem dX1_item_39 : decode cX1_item 39 = .ok (.dup, 1) := by decide +kernel
theorem dX1_item_40 : decode cX1_item 40 = .ok (.getfield 295, 3) := by decide +kernel
theorem dX1_item_43 : decode cX1_item 43 = .ok (.iconst 1, 1) := by decide +kernel
theorem dX1_item_44 : decode cX1_item 44 = .ok (.iadd, 1) := by decide +kernel
theorem dX1_item_45 : decode cX1_item 45 = .ok (.putfield 295, 3) := by decide +kernel
theorem dX1_item_48 : decode cX1_item 48 = .ok (.aload_n 0, 1) := by decide +kernel
theorem dX1_item_49 : decode cX1_item 49 = .ok (.getfield 295, 3) := by decide +kernel
theorem dX1_item_52 : decode cX1_item 52 = .ok (.ireturn, 1) := by decide +kernel
theorem dX1_combine_0 : decode cX1_combine 0 = .ok (.iload_n 1, 1) := by decide +kernel
theorem dX1_combine_1 : decode cX1_combine 1 = .ok (.ifCond .lt 12, 3) := by decide +kernel
theorem dX1_combine_4 : decode cX1_combine 4 = .ok (.iload_n 1, 1) := by decide +kernel
theorem dX1_combine_5 : decode cX1_combine 5 = .ok (.iconst 3, 1) := by decide +kernel
theorem dX1_combine_6 : decode cX1_combine 6 = .ok (.if_icmp .gt 7, 3) := by decide +kernel
theorem dX1_combine_9 : decode cX1_combine 9 = .ok (.iconst 1, 1) := by decide +kernel
theorem dX1_combine_10 : decode cX1_combine 10 = .ok (.goto 4, 3) := by decide +kernel
theorem dX1_combine_13 : decode cX1_combine 13 = .ok (.iconst 0, 1) := by decide +kernel
theorem dX1_combine_14 : decode cX1_combine 14 = .ok (.invokestatic 275, 3) := by decide +kernel
theorem dX1_combine_17 : decode cX1_combine 17 = .ok (.aload_n 0, 1) := by decide +kernel
theorem dX1_combine_18 : decode cX1_combine 18 = .ok (.bipush 8, 2) := by decide +kernel
theorem dX1_combine_20 : decode cX1_combine 20 = .ok (.iconst 2, 1) := by decide +kernel
theorem dX1_combine_21 : decode cX1_combine 21 = .ok (.aload_n 0, 1) := by decide +kernel
theorem dX1_combine_22 : decode cX1_combine 22 = .ok (.getfield 295, 3) := by decide +kernel
theorem dX1_combine_25 : decode cX1_combine 25 = .ok (.imul, 1) := by decide +kernel
theorem dX1_combine_26 : decode cX1_combine 26 = .ok (.iadd, 1) := by decide +kernel
theorem dX1_combine_27 : decode cX1_combine 27 = .ok (.invokevirtual 282, 3) := by decide +kernel
theorem dX1_combine_30 : decode cX1_combine 30 = .ok (.aload_n 0, 1) := by decide +kernel
theorem dX1_combine_31 : decode cX1_combine 31 = .ok (.getfield 295, 3) := by decide +kernel
theorem dX1_combine_34 : decode cX1_combine 34 = .ok (.istore_n 2, 1) := by decide +kernel
theorem dX1_combine_35 : decode cX1_combine 35 = .ok (.aload_n 0, 1) := by decide +kernel
theorem dX1_combine_36 : decode cX1_combine 36 = .ok (.iconst 0, 1) := by decide +kernel
theorem dX1_combine_37 : decode cX1_combine 37 = .ok (.putfield 295, 3) := by decide +kernel
theorem dX1_combine_40 : decode cX1_combine 40 = .ok (.aload_n 0, 1) := by decide +kernel
theorem dX1_combine_41 : decode cX1_combine 41 = .ok (.invokevirtual 204, 3) := by decide +kernel
theorem dX1_combine_44 : decode cX1_combine 44 = .ok (.istore_n 3, 1) := by decide +kernel
theorem dX1_combine_45 : decode cX1_combine 45 = .ok (.aload_n 0, 1) := by decide +kernel
theorem dX1_combine_46 : decode cX1_combine 46 = .ok (.iload_n 3, 1) := by decide +kernel
theorem dX1_combine_47 : decode cX1_combine 47 = .ok (.invokevirtual 207, 3) := by decide +kernel
theorem dX1_combine_50 : decode cX1_combine 50 = .ok (.istore 4, 2) := by decide +kernel
theorem dX1_combine_52 : decode cX1_combine 52 = .ok (.aload_n 0, 1) := by decide +kernel
theorem dX1_combine_53 : decode cX1_combine 53 = .ok (.iconst 4, 1) := by decide +kernel
theorem dX1_combine_54 : decode cX1_combine 54 = .ok (.iload_n 2, 1) := by decide +kernel
theorem dX1_combine_55 : decode cX1_combine 55 = .ok (.iadd, 1) := by decide +kernel
theorem dX1_combine_56 : decode cX1_combine 56 = .ok (.invokevirtual 247, 3) := by decide +kernel
theorem dX1_combine_59 : decode cX1_combine 59 = .ok (.istore 5, 2) := by decide +kernel
theorem dX1_combine_61 : decode cX1_combine 61 = .ok (.aload_n 0, 1) := by decide +kernel
theorem dX1_combine_62 : decode cX1_combine 62 = .ok (.getfield 105, 3) := by decide +kernel
theorem dX1_combine_65 : decode cX1_combine 65 = .ok (.iload 5, 2) := by decide +kernel
theorem dX1_combine_67 : decode cX1_combine 67 = .ok (.aload_n 0, 1) := by decide +kernel
theorem dX1_combine_68 : decode cX1_combine 68 = .ok (.iconst 1, 1) := by decide +kernel
theorem dX1_combine_69 : decode cX1_combine 69 = .ok (.invokevirtual 167, 3) := by decide +kernel
theorem dX1_combine_72 : decode cX1_combine 72 = .ok (.iastore, 1) := by decide +kernel
theorem dX1_combine_73 : decode cX1_combine 73 = .ok (.aload_n 0, 1) := by decide +kernel
theorem dX1_combine_74 : decode cX1_combine 74 = .ok (.getfield 105, 3) := by decide +kernel
theorem dX1_combine_77 : decode cX1_combine 77 = .ok (.iload 5, 2) := by decide +kernel
theorem dX1_combine_79 : decode cX1_combine 79 = .ok (.iconst 1, 1) := by decide +kernel
theorem dX1_combine_80 : decode cX1_combine 80 = .ok (.iadd, 1) := by decide +kernel
theorem dX1_combine_81 : decode cX1_combine 81 = .ok (.iload_n 2, 1) := by decide +kernel
theorem dX1_combine_82 : decode cX1_combine 82 = .ok (.iastore, 1) := by decide +kernel
theorem dX1_combine_83 : decode cX1_combine 83 = .ok (.aload_n 0, 1) := by decide +kernel
theorem dX1_combine_84 : decode cX1_combine 84 = .ok (.getfield 105, 3) := by decide +kernel
theorem dX1_combine_87 : decode cX1_combine 87 = .ok (.iload 5, 2) := by decide +kernel
theorem dX1_combine_89 : decode cX1_combine 89 = .ok (.iconst 2, 1) := by decide +kernel
theorem dX1_combine_90 : decode cX1_combine 90 = .ok (.iadd, 1) := by decide +kernel
theorem dX1_combine_91 : decode cX1_combine 91 = .ok (.iload 4, 2) := by decide +kernel
theorem dX1_combine_93 : decode cX1_combine 93 = .ok (.iastore, 1) := by decide +kernel
theorem dX1_combine_94 : decode cX1_combine 94 = .ok (.aload_n 0, 1) := by decide +kernel
theorem dX1_combine_95 : decode cX1_combine 95 = .ok (.getfield 105, 3) := by decide +kernel
theorem dX1_combine_98 : decode cX1_combine 98 = .ok (.iload 5, 2) := by decide +kernel
theorem dX1_combine_100 : decode cX1_combine 100 = .ok (.iconst 3, 1) := by decide +kernel
theorem dX1_combine_101 : decode cX1_combine 101 = .ok (.iadd, 1) := by decide +kernel
theorem dX1_combine_102 : decode cX1_combine 102 = .ok (.iload 4, 2) := by decide +kernel
theorem dX1_combine_104 : decode cX1_combine 104 = .ok (.iconst 1, 1) := by decide +kernel
theorem dX1_combine_105 : decode cX1_combine 105 = .ok (.iadd, 1) := by decide +kernel
theorem dX1_combine_106 : decode cX1_combine 106 = .ok (.iastore, 1) := by decide +kernel
theorem dX1_combine_107 : decode cX1_combine 107 = .ok (.iconst 0, 1) := by decide +kernel
theorem dX1_combine_108 : decode cX1_combine 108 = .ok (.istore 6, 2) := by decide +kernel
theorem dX1_combine_110 : decode cX1_combine 110 = .ok (.iload 6, 2) := by decide +kernel
theorem dX1_combine_112 : decode cX1_combine 112 = .ok (.iload_n 2, 1) := by decide +kernel
theorem dX1_combine_113 : decode cX1_combine 113 = .ok (.if_icmp .ge 139, 3) := by decide +kernel
theorem dX1_combine_116 : decode cX1_combine 116 = .ok (.aload_n 0, 1) := by decide +kernel
theorem dX1_combine_117 : decode cX1_combine 117 = .ok (.aload_n 0, 1) := by decide +kernel
theorem dX1_combine_118 : decode cX1_combine 118 = .ok (.getfield 108, 3) := by decide +kernel
theorem dX1_combine_121 : decode cX1_combine 121 = .ok (.iload 6, 2) := by decide +kernel
theorem dX1_combine_123 : decode cX1_combine 123 = .ok (.iaload, 1) := by decide +kernel
theorem dX1_combine_124 : decode cX1_combine 124 = .ok (.invokevirtual 231, 3) := by decide +kernel
theorem dX1_combine_127 : decode cX1_combine 127 = .ok (.istore 7, 2) := by decide +kernel
theorem dX1_combine_129 : decode cX1_combine 129 = .ok (.iload 4, 2) := by decide +kernel
theorem dX1_combine_131 : decode cX1_combine 131 = .ok (.istore 8, 2) := by decide +kernel
theorem dX1_combine_133 : decode cX1_combine 133 = .ok (.iload 4, 2) := by decide +kernel
theorem dX1_combine_135 : decode cX1_combine 135 = .ok (.iconst 1, 1) := by decide +kernel
theorem dX1_combine_136 : decode cX1_combine 136 = .ok (.iadd, 1) := by decide +kernel
theorem dX1_combine_137 : decode cX1_combine 137 = .ok (.istore 9, 2) := by decide +kernel
theorem dX1_combine_139 : decode cX1_combine 139 = .ok (.iload_n 1, 1) := by decide +kernel
theorem dX1_combine_140 : decode cX1_combine 140 = .ok (.iconst 3, 1) := by decide +kernel
theorem dX1_combine_141 : decode cX1_combine 141 = .ok (.if_icmp .ge 94, 3) := by decide +kernel
theorem dX1_combine_144 : decode cX1_combine 144 = .ok (.aload_n 0, 1) := by decide +kernel
theorem dX1_combine_145 : decode cX1_combine 145 = .ok (.iconst 0, 1) := by decide +kernel
theorem dX1_combine_146 : decode cX1_combine 146 = .ok (.invokevirtual 167, 3) := by decide +kernel
theorem dX1_combine_149 : decode cX1_combine 149 = .ok (.istore 10, 2) := by decide +kernel
theorem dX1_combine_151 : decode cX1_combine 151 = .ok (.iload_n 1, 1) := by decide +kernel
theorem dX1_combine_152 : decode cX1_combine 152 = .ok (.ifCond .ne 19, 3) := by decide +kernel
theorem dX1_combine_155 : decode cX1_combine 155 = .ok (.aload_n 0, 1) := by decide +kernel
theorem dX1_combine_156 : decode cX1_combine 156 = .ok (.iconst 3, 1) := by decide +kernel
theorem dX1_combine_157 : decode cX1_combine 157 = .ok (.iload 5, 2) := by decide +kernel
theorem dX1_combine_159 : decode cX1_combine 159 = .ok (.iload 6, 2) := by decide +kernel
theorem dX1_combine_161 : decode cX1_combine 161 = .ok (.iload 10, 2) := by decide +kernel
theorem dX1_combine_163 : decode cX1_combine 163 = .ok (.invokevirtual 170, 3) := by decide +kernel
theorem dX1_combine_166 : decode cX1_combine 166 = .ok (.istore 8, 2) := by decide +kernel
theorem dX1_combine_168 : decode cX1_combine 168 = .ok (.goto 51, 3) := by decide +kernel
theorem dX1_combine_171 : decode cX1_combine 171 = .ok (.iload_n 1, 1) := by decide +kernel
theorem dX1_combine_172 : decode cX1_combine 172 = .ok (.iconst 2, 1) := by decide +kernel
theorem dX1_combine_173 : decode cX1_combine 173 = .ok (.if_icmp .ne 20, 3) := by decide +kernel
theorem dX1_combine_176 : decode cX1_combine 176 = .ok (.aload_n 0, 1) := by decide +kernel
theorem dX1_combine_177 : decode cX1_combine 177 = .ok (.bipush 6, 2) := by decide +kernel
theorem dX1_combine_179 : decode cX1_combine 179 = .ok (.iload 5, 2) := by decide +kernel
theorem dX1_combine_181 : decode cX1_combine 181 = .ok (.iload 6, 2) := by decide +kernel
theorem dX1_combine_183 : decode cX1_combine 183 = .ok (.iload 10, 2) := by decide +kernel
theorem dX1_combine_185 : decode cX1_combine 185 = .ok (.invokevirtual 170, 3) := by decide +kernel
theorem dX1_combine_188 : decode cX1_combine 188 = .ok (.istore 9, 2) := by decide +kernel
theorem dX1_combine_190 : decode cX1_combine 190 = .ok (.goto 29, 3) := by decide +kernel
theorem dX1_combine_193 : decode cX1_combine 193 = .ok (.aload_n 0, 1) := by decide +kernel
theorem dX1_combine_194 : decode cX1_combine 194 = .ok (.iconst 4, 1) := by decide +kernel
theorem dX1_combine_195 : decode cX1_combine 195 = .ok (.iload 5, 2) := by decide +kernel
theorem dX1_combine_197 : decode cX1_combine 197 = .ok (.iload 6, 2) := by decide +kernel
theorem dX1_combine_199 : decode cX1_combine 199 = .ok (.iload 10, 2) := by decide +kernel
theorem dX1_combine_201 : decode cX1_combine 201 = .ok (.invokevirtual 170, 3) := by decide +kernel
theorem dX1_combine_204 : decode cX1_combine 204 = .ok (.istore 8, 2) := by decide +kernel
theorem dX1_combine_206 : decode cX1_combine 206 = .ok (.aload_n 0, 1) := by decide +kernel
theorem dX1_combine_207 : decode cX1_combine 207 = .ok (.iconst 5, 1) := by decide +kernel
theorem dX1_combine_208 : decode cX1_combine 208 = .ok (.iload 5, 2) := by decide +kernel
theorem dX1_combine_210 : decode cX1_combine 210 = .ok (.iload 6, 2) := by decide +kernel
theorem dX1_combine_212 : decode cX1_combine 212 = .ok (.iload 10, 2) := by decide +kernel
theorem dX1_combine_214 : decode cX1_combine 214 = .ok (.invokevirtual 170, 3) := by decide +kernel
theorem dX1_combine_217 : decode cX1_combine 217 = .ok (.istore 9, 2) := by decide +kernel
theorem dX1_combine_219 : decode cX1_combine 219 = .ok (.aload_n 0, 1) := by decide +kernel
theorem dX1_combine_220 : decode cX1_combine 220 = .ok (.getfield 65, 3) := by decide +kernel
theorem dX1_combine_223 : decode cX1_combine 223 = .ok (.aload_n 0, 1) := by decide +kernel
theorem dX1_combine_224 : decode cX1_combine 224 = .ok (.getfield 105, 3) := by decide +kernel
theorem dX1_combine_227 : decode cX1_combine 227 = .ok (.iload 5, 2) := by decide +kernel
theorem dX1_combine_229 : decode cX1_combine 229 = .ok (.iaload, 1) := by decide +kernel
theorem dX1_combine_230 : decode cX1_combine 230 = .ok (.dup2, 1) := by decide +kernel
theorem dX1_combine_231 : decode cX1_combine 231 = .ok (.iaload, 1) := by decide +kernel
theorem dX1_combine_232 : decode cX1_combine 232 = .ok (.iconst 1, 1) := by decide +kernel
theorem dX1_combine_233 : decode cX1_combine 233 = .ok (.iadd, 1) := by decide +kernel
theorem dX1_combine_234 : decode cX1_combine 234 = .ok (.iastore, 1) := by decide +kernel
theorem dX1_combine_235 : decode cX1_combine 235 = .ok (.aload_n 0, 1) := by decide +kernel
theorem dX1_combine_236 : decode cX1_combine 236 = .ok (.iload 7, 2) := by decide +kernel
theorem dX1_combine_238 : decode cX1_combine 238 = .ok (.iload 8, 2) := by decide +kernel
theorem dX1_combine_240 : decode cX1_combine 240 = .ok (.iload 9, 2) := by decide +kernel
theorem dX1_combine_242 : decode cX1_combine 242 = .ok (.invokevirtual 234, 3) := by decide +kernel
theorem dX1_combine_245 : decode cX1_combine 245 = .ok (.pop, 1) := by decide +kernel
theorem dX1_combine_246 : decode cX1_combine 246 = .ok (.iinc 6 1, 3) := by decide +kernel
theorem dX1_combine_249 : decode cX1_combine 249 = .ok (.goto (-139), 3) := by decide +kernel
theorem dX1_combine_252 : decode cX1_combine 252 = .ok (.iload_n 1, 1) := by decide +kernel
theorem dX1_combine_253 : decode cX1_combine 253 = .ok (.iconst 3, 1) := by decide +kernel
theorem dX1_combine_254 : decode cX1_combine 254 = .ok (.if_icmp .ge 20, 3) := by decide +kernel
theorem dX1_combine_257 : decode cX1_combine 257 = .ok (.aload_n 0, 1) := by decide +kernel
theorem dX1_combine_258 : decode cX1_combine 258 = .ok (.iload 5, 2) := by decide +kernel
theorem dX1_combine_260 : decode cX1_combine 260 = .ok (.iload_n 1, 1) := by decide +kernel
theorem dX1_combine_261 : decode cX1_combine 261 = .ok (.iconst 2, 1) := by decide +kernel
theorem dX1_combine_262 : decode cX1_combine 262 = .ok (.if_icmp .ne 7, 3) := by decide +kernel
theorem dX1_combine_265 : decode cX1_combine 265 = .ok (.iconst 1, 1) := by decide +kernel
theorem dX1_combine_266 : decode cX1_combine 266 = .ok (.goto 4, 3) := by decide +kernel
theorem dX1_combine_269 : decode cX1_combine 269 = .ok (.iconst 0, 1) := by decide +kernel
theorem dX1_combine_270 : decode cX1_combine 270 = .ok (.invokevirtual 253, 3) := by decide +kernel
theorem dX1_combine_273 : decode cX1_combine 273 = .ok (.pop, 1) := by decide +kernel
theorem dX1_combine_274 : decode cX1_combine 274 = .ok (.iload_n 3, 1) := by decide +kernel
theorem dX1_combine_275 : decode cX1_combine 275 = .ok (.invokestatic 160, 3) := by decide +kernel
theorem dX1_combine_278 : decode cX1_combine 278 = .ok (.ireturn, 1) := by decide +kernel
section WALK
variable {p : Program} {l : Launch} {e : Env} {R : Room} {s : State} {m : MethodId} {args : Array Value} {below : List Frame} {meth : Method} {c : Code} {H : Heap} {locs : List Loc} {cells slots : Nat}
variable {E : Ev} {h0 : Nat} {P0 : Le} {kc0 ks0 : Nat} {S0 : State} {A : Nat → Prop} {P : Le} {ls : Array Slot}
theorem m1_item {a1 : Int} {V : Mv} {Z : Le} {Q : Po} {PX : Px} (r1 : inR a1) (hM : inM V) (hw : w1_item a1 V Z Q PX) : MT l S0 E 0 h0 yX1_item cX1_item 2 (some .int) 7 true (sbs []) [.int (I3 a1)] (toC V) Z (QL Q) (PL PX) := by
  refine mt_of Gk0 (by decide) rfl (Nat.le_of_ble_eq_true rfl) ?_
  intro p e s m below meth c A P ls X hS hl
  have hl : lv_has ls 2 [(0, .ref h0), (1, .int (I3 a1))] := hl
  have hx := X.2.1
  have hb := X.2.2.1
  unfold w1_item at hw
  refine lv_aload_n hx hb dX1_item_0 rfl (lv_at hl 0 rfl) ?_
  refine lv_iload_n hx hb dX1_item_1 rfl (lv_at hl 1 rfl) ?_
  refine z_cRI X hS (m1_isValue r1 hM hw) gv1_286 hy1_isValue rfl (by omega) (by decide) (by decide) hl.1 (Nat.le_of_ble_eq_true rfl) dX1_item_2 rfl (fun x1 h2 hw => ?_)
  refine z_needT X hS hM h2 hw gs1_275 (by omega) hl.1 (Nat.le_of_ble_eq_true rfl) dX1_item_5 (fun hc hw => ?_)
  refine lv_aload_n hx hb dX1_item_8 rfl (lv_at hl 0 rfl) ?_
  refine z_gi X hS f1_41 dX1_item_9 ?_
  refine lv_aload_n hx hb dX1_item_12 rfl (lv_at hl 0 rfl) ?_
  refine r_ga X hS f1_40 dX1_item_13 ?_
  refine z_len X hS a1_40 dX1_item_16 ?_
  refine z_ine (tgt := 28) hx hb (hM 41 0) (z_lenR hS a1_40) hw dX1_item_17 (by decide) (fun hc hw => ?_) (fun hc hw => ?_)
  · refine lv_aload_n hx hb dX1_item_28 rfl (lv_at hl 0 rfl) ?_
    refine r_ga X hS f1_40 dX1_item_29 ?_
    refine lv_aload_n hx hb dX1_item_32 rfl (lv_at hl 0 rfl) ?_
    refine z_gi X hS f1_41 dX1_item_33 ?_
    refine lv_iload_n hx hb dX1_item_36 rfl (lv_at hl 1 rfl) ?_
    refine z_is X hS hM a1_40 r1 hw dX1_item_37 (fun V3 hM4 hw H locs hS => ?_)
    refine lv_aload_n hx hb dX1_item_38 rfl (lv_at hl 0 rfl) ?_
    refine lv_dup hx hb dX1_item_39 rfl ?_
    refine z_gi X hS f1_41 dX1_item_40 ?_
    refine z_iconst hx hb dX1_item_43 ?_
    refine z_add hx hb hw dX1_item_44 (fun h5 hw => ?_)
    refine z_pi X hS hM4 f1_41 p1_41 h5 hw dX1_item_45 (fun V6 hM7 hw H locs hS => ?_)
    refine lv_aload_n hx hb dX1_item_48 rfl (lv_at hl 0 rfl) ?_
    refine z_gi X hS f1_41 dX1_item_49 ?_
    exact z_ri X hS hM7 (hM7 41 0) hw dX1_item_52
  · exact z_thrT X hS hM hw hl.1 (by omega) dX1_item_20 dX1_item_23 dX1_item_24 dX1_item_27
theorem m1_combine_J274 {a3 : Int} {V : Mv} {Z : Le} {Q : Po} {PX : Px} (X : Cx E 0 h0 P0 kc0 ks0 S0 A p l R s m args meth c cX1_combine 11 (some .int) 31) (hM : inM V) (hS : HS E 0 h0 P0 kc0 ks0 (sbs [15, 16, 17, 18, 20, 22, 23, 24, 25, 26, 27, 29, 30, 31, 32, 38, 51, 52]) A s.heap P (toC V) Z H locs cells slots) (hl : lv_has ls 11 [(3, .int (I3 a3))]) (r3 : inR a3) (hw : w1_combine_J274 a3 V Z Q PX) : W p l e R s m args below meth c H locs cells slots (MQx below (QT E 0 h0 true P0 kc0 ks0 (sbs [15, 16, 17, 18, 20, 22, 23, 24, 25, 26, 27, 29, 30, 31, 32, 38, 51, 52]) A (QL Q) (PL PX) s) s) (F0 m 274 ls []) := by
  have hx := X.2.1
  have hb := X.2.2.1
  unfold w1_combine_J274 at hw
  refine lv_iload_n hx hb dX1_combine_274 rfl (lv_at hl 0 rfl) ?_
  refine z_vo X hS hw gs1_160 (by omega) hl.1 (Nat.le_of_ble_eq_true rfl) dX1_combine_275 (fun h1 hw => ?_)
  exact z_ri X hS hM h1 hw dX1_combine_278
theorem m1_combine_J270 {a3 : Int} {b1 : Int} {b2 : Int} {V : Mv} {Z : Le} {Q : Po} {PX : Px} (X : Cx E 0 h0 P0 kc0 ks0 S0 A p l R s m args meth c cX1_combine 11 (some .int) 31) (hM : inM V) (hS : HS E 0 h0 P0 kc0 ks0 (sbs [15, 16, 17, 18, 20, 22, 23, 24, 25, 26, 27, 29, 30, 31, 32, 38, 51, 52]) A s.heap P (toC V) Z H locs cells slots) (hl : lv_has ls 11 [(3, .int (I3 a3))]) (r3 : inR a3) (sr1 : inR b1) (sr2 : inR b2) (hw : w1_combine_J270 a3 b1 b2 V Z Q PX) : W p l e R s m args below meth c H locs cells slots (MQx below (QT E 0 h0 true P0 kc0 ks0 (sbs [15, 16, 17, 18, 20, 22, 23, 24, 25, 26, 27, 29, 30, 31, 32, 38, 51, 52]) A (QL Q) (PL PX) s) s) (F0 m 270 ls [.int (I3 b2), .int (I3 b1), .ref h0]) := by
  have hx := X.2.1
  have hb := X.2.2.1
  unfold w1_combine_J270 at hw
  refine z_callI X hS (m1_lessLeft (by decide) (m1_call 3) sr1 sr2 hM hw) gv1_253 hy1_lessLeft rfl (by omega) (by decide) (sbs_sub rfl) hl.1 (Nat.le_of_ble_eq_true rfl) dX1_combine_270 rfl (fun x2 V4 Z5 h3 hM6 hw P7 H locs c1 s1 hP hS => ?_)
  refine lv_pop hx hb dX1_combine_273 rfl ?_
  exact m1_combine_J274 X hM6 hS (lv_sub hl [0] rfl) r3 hw
theorem m1_combine_J235 {L : Int → Int → Int → Int → Int → Int → Mv → Le → Prop} {a1 : Int} {a2 : Int} {a3 : Int} {a4 : Int} {a5 : Int} {a6 : Int} {a7 : Int} {a8 : Int} {a9 : Int} {V : Mv} {Z : Le} {Q : Po} {PX : Px} (hL : ∀ {a1 : Int} {a2 : Int} {a3 : Int} {a4 : Int} {a5 : Int} {a6 : Int} {V : Mv} {Z : Le} {P : Le} {H : Heap} {locs : List Loc} {cells slots : Nat} {ls : Array Slot}, inM V → HS E 0 h0 P0 kc0 ks0 (sbs [15, 16, 17, 18, 20, 22, 23, 24, 25, 26, 27, 29, 30, 31, 32, 38, 51, 52]) A s.heap P (toC V) Z H locs cells slots → lv_has ls 11 [(0, .ref h0), (1, .int (I3 a1)), (2, .int (I3 a2)), (3, .int (I3 a3)), (4, .int (I3 a4)), (5, .int (I3 a5)), (6, .int (I3 a6))] → inR a1 → inR a2 → inR a3 → inR a4 → inR a5 → inR a6 → L a1 a2 a3 a4 a5 a6 V Z → W p l e R s m args below meth c H locs cells slots (MQx below (QT E 0 h0 true P0 kc0 ks0 (sbs [15, 16, 17, 18, 20, 22, 23, 24, 25, 26, 27, 29, 30, 31, 32, 38, 51, 52]) A (QL Q) (PL PX) s) s) (F0 m 110 ls [])) (X : Cx E 0 h0 P0 kc0 ks0 S0 A p l R s m args meth c cX1_combine 11 (some .int) 31) (hM : inM V) (hS : HS E 0 h0 P0 kc0 ks0 (sbs [15, 16, 17, 18, 20, 22, 23, 24, 25, 26, 27, 29, 30, 31, 32, 38, 51, 52]) A s.heap P (toC V) Z H locs cells slots) (hl : lv_has ls 11 [(0, .ref h0), (1, .int (I3 a1)), (2, .int (I3 a2)), (3, .int (I3 a3)), (4, .int (I3 a4)), (5, .int (I3 a5)), (6, .int (I3 a6)), (7, .int (I3 a7)), (8, .int (I3 a8)), (9, .int (I3 a9))]) (r1 : inR a1) (r2 : inR a2) (r3 : inR a3) (r4 : inR a4) (r5 : inR a5) (r6 : inR a6) (r7 : inR a7) (r8 : inR a8) (r9 : inR a9) (hw : w1_combine_J235 L a1 a2 a3 a4 a5 a6 a7 a8 a9 V Z Q PX) : W p l e R s m args below meth c H locs cells slots (MQx below (QT E 0 h0 true P0 kc0 ks0 (sbs [15, 16, 17, 18, 20, 22, 23, 24, 25, 26, 27, 29, 30, 31, 32, 38, 51, 52]) A (QL Q) (PL PX) s) s) (F0 m 235 ls []) := by
  have hx := X.2.1
  have hb := X.2.2.1
  unfold w1_combine_J235 at hw
  refine lv_aload_n hx hb dX1_combine_235 rfl (lv_at hl 0 rfl) ?_
  refine lv_iload hx hb dX1_combine_236 (lv_at hl 7 rfl) ?_
  refine lv_iload hx hb dX1_combine_238 (lv_at hl 8 rfl) ?_
  refine lv_iload hx hb dX1_combine_240 (lv_at hl 9 rfl) ?_
  refine z_callI X hS (m1_then r7 r8 r9 hM hw) gv1_234 hy1_then rfl (by omega) (by decide) (sbs_sub rfl) hl.1 (Nat.le_of_ble_eq_true rfl) dX1_combine_242 rfl (fun x8 V10 Z11 h9 hM12 hw P13 H locs c1 s1 hP hS => ?_)
  refine lv_pop hx hb dX1_combine_245 rfl ?_
  refine z_inc (k := 6) (lv' := [(6, .int (I3 (a6 + 1))), (0, .ref h0), (1, .int (I3 a1)), (2, .int (I3 a2)), (3, .int (I3 a3)), (4, .int (I3 a4)), (5, .int (I3 a5)), (7, .int (I3 a7)), (8, .int (I3 a8)), (9, .int (I3 a9))]) hx hb hw dX1_combine_246 hl rfl (by decide) rfl (fun ls hl h14 hw => ?_)
  refine lv_goto (tgt := 110) hx hb dX1_combine_249 (by decide) ?_
  exact hL hM12 hS (lv_sub hl [1, 2, 3, 4, 5, 6, 0] rfl)  r1 r2 r3 r4 r5 h14 hw
theorem m1_combine_J219 {L : Int → Int → Int → Int → Int → Int → Mv → Le → Prop} {a1 : Int} {a2 : Int} {a3 : Int} {a4 : Int} {a5 : Int} {a6 : Int} {a7 : Int} {a8 : Int} {a9 : Int} {V : Mv} {Z : Le} {Q : Po} {PX : Px} (hL : ∀ {a1 : Int} {a2 : Int} {a3 : Int} {a4 : Int} {a5 : Int} {a6 : Int} {V : Mv} {Z : Le} {P : Le} {H : Heap} {locs : List Loc} {cells slots : Nat} {ls : Array Slot}, inM V → HS E 0 h0 P0 kc0 ks0 (sbs [15, 16, 17, 18, 20, 22, 23, 24, 25, 26, 27, 29, 30, 31, 32, 38, 51, 52]) A s.heap P (toC V) Z H locs cells slots → lv_has ls 11 [(0, .ref h0), (1, .int (I3 a1)), (2, .int (I3 a2)), (3, .int (I3 a3)), (4, .int (I3 a4)), (5, .int (I3 a5)), (6, .int (I3 a6))] → inR a1 → inR a2 → inR a3 → inR a4 → inR a5 → inR a6 → L a1 a2 a3 a4 a5 a6 V Z → W p l e R s m args below meth c H locs cells slots (MQx below (QT E 0 h0 true P0 kc0 ks0 (sbs [15, 16, 17, 18, 20, 22, 23, 24, 25, 26, 27, 29, 30, 31, 32, 38, 51, 52]) A (QL Q) (PL PX) s) s) (F0 m 110 ls [])) (X : Cx E 0 h0 P0 kc0 ks0 S0 A p l R s m args meth c cX1_combine 11 (some .int) 31) (hM : inM V) (hS : HS E 0 h0 P0 kc0 ks0 (sbs [15, 16, 17, 18, 20, 22, 23, 24, 25, 26, 27, 29, 30, 31, 32, 38, 51, 52]) A s.heap P (toC V) Z H locs cells slots) (hl : lv_has ls 11 [(0, .ref h0), (1, .int (I3 a1)), (2, .int (I3 a2)), (3, .int (I3 a3)), (4, .int (I3 a4)), (5, .int (I3 a5)), (6, .int (I3 a6)), (7, .int (I3 a7)), (8, .int (I3 a8)), (9, .int (I3 a9))]) (r1 : inR a1) (r2 : inR a2) (r3 : inR a3) (r4 : inR a4) (r5 : inR a5) (r6 : inR a6) (r7 : inR a7) (r8 : inR a8) (r9 : inR a9) (hw : w1_combine_J219 L a1 a2 a3 a4 a5 a6 a7 a8 a9 V Z Q PX) : W p l e R s m args below meth c H locs cells slots (MQx below (QT E 0 h0 true P0 kc0 ks0 (sbs [15, 16, 17, 18, 20, 22, 23, 24, 25, 26, 27, 29, 30, 31, 32, 38, 51, 52]) A (QL Q) (PL PX) s) s) (F0 m 219 ls []) := by
  have hx := X.2.1
  have hb := X.2.2.1
  unfold w1_combine_J219 at hw
  refine lv_aload_n hx hb dX1_combine_219 rfl (lv_at hl 0 rfl) ?_
  refine r_ga X hS f1_20 dX1_combine_220 ?_
  refine lv_aload_n hx hb dX1_combine_223 rfl (lv_at hl 0 rfl) ?_
  refine r_ga X hS f1_38 dX1_combine_224 ?_
  refine lv_iload hx hb dX1_combine_227 (lv_at hl 5 rfl) ?_
  refine z_il X hS a1_38 hw dX1_combine_229 (fun hw => ?_)
  refine lv_dup2_11 hx hb dX1_combine_230 rfl rfl ?_
  refine z_il X hS a1_20 hw dX1_combine_231 (fun hw => ?_)
  refine z_iconst hx hb dX1_combine_232 ?_
  refine z_add hx hb hw dX1_combine_233 (fun h15 hw => ?_)
  refine z_is X hS hM a1_20 h15 hw dX1_combine_234 (fun V16 hM17 hw H locs hS => ?_)
  exact m1_combine_J235 hL X hM17 hS (lv_sub hl [0, 1, 2, 3, 4, 5, 6, 7, 8, 9] rfl) r1 r2 r3 r4 r5 r6 r7 r8 r9 hw
theorem m1_combine_L110 {Q : Po} {PX : Px} (X : Cx E 0 h0 P0 kc0 ks0 S0 A p l R s m args meth c cX1_combine 11 (some .int) 31) : ∀ n, ∀ {a1 : Int} {a2 : Int} {a3 : Int} {a4 : Int} {a5 : Int} {a6 : Int} {V : Mv} {Z : Le} {P : Le} {H : Heap} {locs : List Loc} {cells slots : Nat} {ls : Array Slot}, inM V → HS E 0 h0 P0 kc0 ks0 (sbs [15, 16, 17, 18, 20, 22, 23, 24, 25, 26, 27, 29, 30, 31, 32, 38, 51, 52]) A s.heap P (toC V) Z H locs cells slots → lv_has ls 11 [(0, .ref h0), (1, .int (I3 a1)), (2, .int (I3 a2)), (3, .int (I3 a3)), (4, .int (I3 a4)), (5, .int (I3 a5)), (6, .int (I3 a6))] → inR a1 → inR a2 → inR a3 → inR a4 → inR a5 → inR a6 → w1_combine_L110 Q PX n a1 a2 a3 a4 a5 a6 V Z → W p l e R s m args below meth c H locs cells slots (MQx below (QT E 0 h0 true P0 kc0 ks0 (sbs [15, 16, 17, 18, 20, 22, 23, 24, 25, 26, 27, 29, 30, 31, 32, 38, 51, 52]) A (QL Q) (PL PX) s) s) (F0 m 110 ls []) := by
  have hx := X.2.1
  have hb := X.2.2.1
  intro n
  induction n with
  | zero => intros; rename_i hw; exact hw.elim
  | succ n ih =>
    intro a1 a2 a3 a4 a5 a6 V Z P H locs cells slots ls hM hS hl r1 r2 r3 r4 r5 r6 hw
    unfold w1_combine_L110 at hw
    refine lv_iload hx hb dX1_combine_110 (lv_at hl 6 rfl) ?_
    refine lv_iload_n hx hb dX1_combine_112 rfl (lv_at hl 2 rfl) ?_
    refine z_ige (tgt := 252) hx hb r6 r2 hw dX1_combine_113 (by decide) (fun hc hw => ?_) (fun hc hw => ?_)
    · refine lv_iload_n hx hb dX1_combine_252 rfl (lv_at hl 1 rfl) ?_
      refine z_iconst hx hb dX1_combine_253 ?_
      refine z_ige (tgt := 274) hx hb r1 (⟨by decide, by decide⟩) hw dX1_combine_254 (by decide) (fun hc hw => ?_) (fun hc hw => ?_)
      · exact m1_combine_J274 X hM hS (lv_sub hl [3] rfl) r3 hw
      · refine lv_aload_n hx hb dX1_combine_257 rfl (lv_at hl 0 rfl) ?_
        refine lv_iload hx hb dX1_combine_258 (lv_at hl 5 rfl) ?_
        refine lv_iload_n hx hb dX1_combine_260 rfl (lv_at hl 1 rfl) ?_
        refine z_iconst hx hb dX1_combine_261 ?_
        refine z_ine (tgt := 269) hx hb r1 (⟨by decide, by decide⟩) hw dX1_combine_262 (by decide) (fun hc hw => ?_) (fun hc hw => ?_)
        · refine z_iconst hx hb dX1_combine_269 ?_
          exact m1_combine_J270 X hM hS (lv_sub hl [3] rfl) r3 r5 (⟨by decide, by decide⟩) hw
        · refine z_iconst hx hb dX1_combine_265 ?_
          refine lv_goto (tgt := 270) hx hb dX1_combine_266 (by decide) ?_
          exact m1_combine_J270 X hM hS (lv_sub hl [3] rfl) r3 r5 (⟨by decide, by decide⟩) hw
    · refine lv_aload_n hx hb dX1_combine_116 rfl (lv_at hl 0 rfl) ?_
      refine lv_aload_n hx hb dX1_combine_117 rfl (lv_at hl 0 rfl) ?_
      refine r_ga X hS f1_40 dX1_combine_118 ?_
      refine lv_iload hx hb dX1_combine_121 (lv_at hl 6 rfl) ?_
      refine z_il X hS a1_40 hw dX1_combine_123 (fun hw => ?_)
      refine z_callI X hS (m1_wrapped (by decide) (m1_call 3) (hM 40 a6) hM hw) gv1_231 hy1_wrapped rfl (by omega) (by decide) (sbs_sub rfl) hl.1 (Nat.le_of_ble_eq_true rfl) dX1_combine_124 rfl (fun x18 V20 Z21 h19 hM22 hw P23 H locs c1 s1 hP hS => ?_)
      refine lv_istore (lv' := [(7, .int (I3 x18)), (0, .ref h0), (1, .int (I3 a1)), (2, .int (I3 a2)), (3, .int (I3 a3)), (4, .int (I3 a4)), (5, .int (I3 a5)), (6, .int (I3 a6))]) hx hb dX1_combine_127 hl (by decide) rfl (fun ls hl => ?_)
      refine lv_iload hx hb dX1_combine_129 (lv_at hl 5 rfl) ?_
      refine lv_istore (lv' := [(8, .int (I3 a4)), (7, .int (I3 x18)), (0, .ref h0), (1, .int (I3 a1)), (2, .int (I3 a2)), (3, .int (I3 a3)), (4, .int (I3 a4)), (5, .int (I3 a5)), (6, .int (I3 a6))]) hx hb dX1_combine_131 hl (by decide) rfl (fun ls hl => ?_)
      refine lv_iload hx hb dX1_combine_133 (lv_at hl 6 rfl) ?_
      refine z_iconst hx hb dX1_combine_135 ?_
      refine z_add hx hb hw dX1_combine_136 (fun h24 hw => ?_)
      refine lv_istore (lv' := [(9, .int (I3 (a4 + 1))), (8, .int (I3 a4)), (7, .int (I3 x18)), (0, .ref h0), (1, .int (I3 a1)), (2, .int (I3 a2)), (3, .int (I3 a3)), (4, .int (I3 a4)), (5, .int (I3 a5)), (6, .int (I3 a6))]) hx hb dX1_combine_137 hl (by decide) rfl (fun ls hl => ?_)
      refine lv_iload_n hx hb dX1_combine_139 rfl (lv_at hl 4 rfl) ?_
      refine z_iconst hx hb dX1_combine_140 ?_
      refine z_ige (tgt := 235) hx hb r1 (⟨by decide, by decide⟩) hw dX1_combine_141 (by decide) (fun hc hw => ?_) (fun hc hw => ?_)
      · exact m1_combine_J235 ih X hM22 hS (lv_sub hl [3, 4, 5, 6, 7, 8, 9, 2, 1, 0] rfl) r1 r2 r3 r4 r5 r6 h19 r4 h24 hw
      · refine lv_aload_n hx hb dX1_combine_144 rfl (lv_at hl 3 rfl) ?_
        refine z_iconst hx hb dX1_combine_145 ?_
        refine z_callI X hS (m1_newCell (⟨by decide, by decide⟩) hM22 hw) gv1_167 hy1_newCell rfl (by omega) (by decide) (sbs_sub rfl) hl.1 (Nat.le_of_ble_eq_true rfl) dX1_combine_146 rfl (fun x25 V27 Z28 h26 hM29 hw P30 H locs c1 s1 hP hS => ?_)
        refine lv_istore (lv' := [(10, .int (I3 x25)), (9, .int (I3 (a4 + 1))), (8, .int (I3 a4)), (7, .int (I3 x18)), (0, .ref h0), (1, .int (I3 a1)), (2, .int (I3 a2)), (3, .int (I3 a3)), (4, .int (I3 a4)), (5, .int (I3 a5)), (6, .int (I3 a6))]) hx hb dX1_combine_149 hl (by decide) rfl (fun ls hl => ?_)
        refine lv_iload_n hx hb dX1_combine_151 rfl (lv_at hl 5 rfl) ?_
        refine z_zne (tgt := 171) hx hb r1 hw dX1_combine_152 (by decide) (fun hc hw => ?_) (fun hc hw => ?_)
        · refine lv_iload_n hx hb dX1_combine_171 rfl (lv_at hl 5 rfl) ?_
          refine z_iconst hx hb dX1_combine_172 ?_
          refine z_ine (tgt := 193) hx hb r1 (⟨by decide, by decide⟩) hw dX1_combine_173 (by decide) (fun hc hw => ?_) (fun hc hw => ?_)
          · refine lv_aload_n hx hb dX1_combine_193 rfl (lv_at hl 4 rfl) ?_
            refine z_iconst hx hb dX1_combine_194 ?_
            refine lv_iload hx hb dX1_combine_195 (lv_at hl 9 rfl) ?_
            refine lv_iload hx hb dX1_combine_197 (lv_at hl 10 rfl) ?_
            refine lv_iload hx hb dX1_combine_199 (lv_at hl 0 rfl) ?_
            refine z_callI X hS (m1_function (⟨by decide, by decide⟩) r5 r6 h26 hM29 hw) gv1_170 hy1_function rfl (by omega) (by decide) (sbs_sub rfl) hl.1 (Nat.le_of_ble_eq_true rfl) dX1_combine_201 rfl (fun x31 V33 Z34 h32 hM35 hw P36 H locs c1 s1 hP hS => ?_)
            refine lv_istore (lv' := [(8, .int (I3 x31)), (10, .int (I3 x25)), (9, .int (I3 (a4 + 1))), (7, .int (I3 x18)), (0, .ref h0), (1, .int (I3 a1)), (2, .int (I3 a2)), (3, .int (I3 a3)), (4, .int (I3 a4)), (5, .int (I3 a5)), (6, .int (I3 a6))]) hx hb dX1_combine_204 hl (by decide) rfl (fun ls hl => ?_)
            refine lv_aload_n hx hb dX1_combine_206 rfl (lv_at hl 4 rfl) ?_
            refine z_iconst hx hb dX1_combine_207 ?_
            refine lv_iload hx hb dX1_combine_208 (lv_at hl 9 rfl) ?_
            refine lv_iload hx hb dX1_combine_210 (lv_at hl 10 rfl) ?_
            refine lv_iload hx hb dX1_combine_212 (lv_at hl 1 rfl) ?_
            refine z_callI X hS (m1_function (⟨by decide, by decide⟩) r5 r6 h26 hM35 hw) gv1_170 hy1_function rfl (by omega) (by decide) (sbs_sub rfl) hl.1 (Nat.le_of_ble_eq_true rfl) dX1_combine_214 rfl (fun x37 V39 Z40 h38 hM41 hw P42 H locs c1 s1 hP hS => ?_)
            refine lv_istore (lv' := [(9, .int (I3 x37)), (8, .int (I3 x31)), (10, .int (I3 x25)), (7, .int (I3 x18)), (0, .ref h0), (1, .int (I3 a1)), (2, .int (I3 a2)), (3, .int (I3 a3)), (4, .int (I3 a4)), (5, .int (I3 a5)), (6, .int (I3 a6))]) hx hb dX1_combine_217 hl (by decide) rfl (fun ls hl => ?_)
            exact m1_combine_J219 ih X hM41 hS (lv_sub hl [4, 5, 6, 7, 8, 9, 10, 3, 1, 0] rfl) r1 r2 r3 r4 r5 r6 h19 h32 h38 hw
          · refine lv_aload_n hx hb dX1_combine_176 rfl (lv_at hl 4 rfl) ?_
            refine z_bipush hx hb dX1_combine_177 (by decide +kernel) ?_
            refine lv_iload hx hb dX1_combine_179 (lv_at hl 9 rfl) ?_
            refine lv_iload hx hb dX1_combine_181 (lv_at hl 10 rfl) ?_
            refine lv_iload hx hb dX1_combine_183 (lv_at hl 0 rfl) ?_
            refine z_callI X hS (m1_function (⟨by decide, by decide⟩) r5 r6 h26 hM29 hw) gv1_170 hy1_function rfl (by omega) (by decide) (sbs_sub rfl) hl.1 (Nat.le_of_ble_eq_true rfl) dX1_combine_185 rfl (fun x43 V45 Z46 h44 hM47 hw P48 H locs c1 s1 hP hS => ?_)
            refine lv_istore (lv' := [(9, .int (I3 x43)), (10, .int (I3 x25)), (8, .int (I3 a4)), (7, .int (I3 x18)), (0, .ref h0), (1, .int (I3 a1)), (2, .int (I3 a2)), (3, .int (I3 a3)), (4, .int (I3 a4)), (5, .int (I3 a5)), (6, .int (I3 a6))]) hx hb dX1_combine_188 hl (by decide) rfl (fun ls hl => ?_)
            refine lv_goto (tgt := 219) hx hb dX1_combine_190 (by decide) ?_
            exact m1_combine_J219 ih X hM47 hS (lv_sub hl [4, 5, 6, 7, 8, 9, 10, 3, 2, 0] rfl) r1 r2 r3 r4 r5 r6 h19 r4 h44 hw
        · refine lv_aload_n hx hb dX1_combine_155 rfl (lv_at hl 4 rfl) ?_
          refine z_iconst hx hb dX1_combine_156 ?_
          refine lv_iload hx hb dX1_combine_157 (lv_at hl 9 rfl) ?_
          refine lv_iload hx hb dX1_combine_159 (lv_at hl 10 rfl) ?_
          refine lv_iload hx hb dX1_combine_161 (lv_at hl 0 rfl) ?_
          refine z_callI X hS (m1_function (⟨by decide, by decide⟩) r5 r6 h26 hM29 hw) gv1_170 hy1_function rfl (by omega) (by decide) (sbs_sub rfl) hl.1 (Nat.le_of_ble_eq_true rfl) dX1_combine_163 rfl (fun x49 V51 Z52 h50 hM53 hw P54 H locs c1 s1 hP hS => ?_)
          refine lv_istore (lv' := [(8, .int (I3 x49)), (10, .int (I3 x25)), (9, .int (I3 (a4 + 1))), (7, .int (I3 x18)), (0, .ref h0), (1, .int (I3 a1)), (2, .int (I3 a2)), (3, .int (I3 a3)), (4, .int (I3 a4)), (5, .int (I3 a5)), (6, .int (I3 a6))]) hx hb dX1_combine_166 hl (by decide) rfl (fun ls hl => ?_)
          refine lv_goto (tgt := 219) hx hb dX1_combine_168 (by decide) ?_
          exact m1_combine_J219 ih X hM53 hS (lv_sub hl [4, 5, 6, 7, 8, 9, 10, 3, 0, 2] rfl) r1 r2 r3 r4 r5 r6 h19 h50 h24 hw
theorem m1_combine_J14 {a1 : Int} {b0 : Int} {V : Mv} {Z : Le} {Q : Po} {PX : Px} (X : Cx E 0 h0 P0 kc0 ks0 S0 A p l R s m args meth c cX1_combine 11 (some .int) 31) (hM : inM V) (hS : HS E 0 h0 P0 kc0 ks0 (sbs [15, 16, 17, 18, 20, 22, 23, 24, 25, 26, 27, 29, 30, 31, 32, 38, 51, 52]) A s.heap P (toC V) Z H locs cells slots) (hl : lv_has ls 11 [(0, .ref h0), (1, .int (I3 a1))]) (r1 : inR a1) (sr0 : inR b0) (hw : w1_combine_J14 a1 b0 V Z Q PX) : W p l e R s m args below meth c H locs cells slots (MQx below (QT E 0 h0 true P0 kc0 ks0 (sbs [15, 16, 17, 18, 20, 22, 23, 24, 25, 26, 27, 29, 30, 31, 32, 38, 51, 52]) A (QL Q) (PL PX) s) s) (F0 m 14 ls [.int (I3 b0)]) := by
  have hx := X.2.1
  have hb := X.2.2.1
  unfold w1_combine_J14 at hw
  refine z_needT X hS hM sr0 hw gs1_275 (by omega) hl.1 (Nat.le_of_ble_eq_true rfl) dX1_combine_14 (fun hc hw => ?_)
  refine lv_aload_n hx hb dX1_combine_17 rfl (lv_at hl 0 rfl) ?_
  refine z_bipush hx hb dX1_combine_18 (by decide +kernel) ?_
  refine z_iconst hx hb dX1_combine_20 ?_
  refine lv_aload_n hx hb dX1_combine_21 rfl (lv_at hl 0 rfl) ?_
  refine z_gi X hS f1_41 dX1_combine_22 ?_
  refine z_mul hx hb hw dX1_combine_25 (fun h55 hw => ?_)
  refine z_add hx hb hw dX1_combine_26 (fun h56 hw => ?_)
  refine z_cRV X hS (m1_room h56 hM hw) gv1_282 hy1_room rfl (by omega) (by decide) (by decide) hl.1 (Nat.le_of_ble_eq_true rfl) dX1_combine_27 rfl (fun x57 h58 hw => ?_)
  refine lv_aload_n hx hb dX1_combine_30 rfl (lv_at hl 0 rfl) ?_
  refine z_gi X hS f1_41 dX1_combine_31 ?_
  refine lv_istore_n (lv' := [(2, .int (I3 (V 41 0))), (0, .ref h0), (1, .int (I3 a1))]) hx hb dX1_combine_34 rfl hl (by decide) rfl (fun ls hl => ?_)
  refine lv_aload_n hx hb dX1_combine_35 rfl (lv_at hl 1 rfl) ?_
  refine z_iconst hx hb dX1_combine_36 ?_
  refine z_pi X hS hM f1_41 p1_41 (⟨by decide, by decide⟩) hw dX1_combine_37 (fun V59 hM60 hw H locs hS => ?_)
  refine lv_aload_n hx hb dX1_combine_40 rfl (lv_at hl 1 rfl) ?_
  refine z_callI X hS (m1_newPromise  hM60 hw) gv1_204 hy1_newPromise rfl (by omega) (by decide) (sbs_sub rfl) hl.1 (Nat.le_of_ble_eq_true rfl) dX1_combine_41 rfl (fun x61 V63 Z64 h62 hM65 hw P66 H locs c1 s1 hP hS => ?_)
  refine lv_istore_n (lv' := [(3, .int (I3 x61)), (2, .int (I3 (V 41 0))), (0, .ref h0), (1, .int (I3 a1))]) hx hb dX1_combine_44 rfl hl (by decide) rfl (fun ls hl => ?_)
  refine lv_aload_n hx hb dX1_combine_45 rfl (lv_at hl 2 rfl) ?_
  refine lv_iload_n hx hb dX1_combine_46 rfl (lv_at hl 0 rfl) ?_
  refine z_callI X hS (m1_functionsOf h62 hM65 hw) gv1_207 hy1_functionsOf rfl (by omega) (by decide) (sbs_sub rfl) hl.1 (Nat.le_of_ble_eq_true rfl) dX1_combine_47 rfl (fun x67 V69 Z70 h68 hM71 hw P72 H locs c1 s1 hP hS => ?_)
  refine lv_istore (lv' := [(4, .int (I3 x67)), (3, .int (I3 x61)), (2, .int (I3 (V 41 0))), (0, .ref h0), (1, .int (I3 a1))]) hx hb dX1_combine_50 hl (by decide) rfl (fun ls hl => ?_)
  refine lv_aload_n hx hb dX1_combine_52 rfl (lv_at hl 3 rfl) ?_
  refine z_iconst hx hb dX1_combine_53 ?_
  refine lv_iload_n hx hb dX1_combine_54 rfl (lv_at hl 2 rfl) ?_
  refine z_add hx hb hw dX1_combine_55 (fun h73 hw => ?_)
  refine z_callI X hS (m1_row h73 hM71 hw) gv1_247 hy1_row rfl (by omega) (by decide) (sbs_sub rfl) hl.1 (Nat.le_of_ble_eq_true rfl) dX1_combine_56 rfl (fun x74 V76 Z77 h75 hM78 hw P79 H locs c1 s1 hP hS => ?_)
  refine lv_istore (lv' := [(5, .int (I3 x74)), (4, .int (I3 x67)), (3, .int (I3 x61)), (2, .int (I3 (V 41 0))), (0, .ref h0), (1, .int (I3 a1))]) hx hb dX1_combine_59 hl (by decide) rfl (fun ls hl => ?_)
  refine lv_aload_n hx hb dX1_combine_61 rfl (lv_at hl 4 rfl) ?_
  refine r_ga X hS f1_38 dX1_combine_62 ?_
  refine lv_iload hx hb dX1_combine_65 (lv_at hl 0 rfl) ?_
  refine lv_aload_n hx hb dX1_combine_67 rfl (lv_at hl 4 rfl) ?_
  refine z_iconst hx hb dX1_combine_68 ?_
  refine z_callI X hS (m1_newCell (⟨by decide, by decide⟩) hM78 hw) gv1_167 hy1_newCell rfl (by omega) (by decide) (sbs_sub rfl) hl.1 (Nat.le_of_ble_eq_true rfl) dX1_combine_69 rfl (fun x80 V82 Z83 h81 hM84 hw P85 H locs c1 s1 hP hS => ?_)
  rw [← hP 38 rfl]
  refine z_is X hS hM84 a1_38 h81 hw dX1_combine_72 (fun V86 hM87 hw H locs hS => ?_)
  refine lv_aload_n hx hb dX1_combine_73 rfl (lv_at hl 4 rfl) ?_
  refine r_ga X hS f1_38 dX1_combine_74 ?_
  refine lv_iload hx hb dX1_combine_77 (lv_at hl 0 rfl) ?_
  refine z_iconst hx hb dX1_combine_79 ?_
  refine z_add hx hb hw dX1_combine_80 (fun h88 hw => ?_)
  refine lv_iload_n hx hb dX1_combine_81 rfl (lv_at hl 3 rfl) ?_
  refine z_is X hS hM87 a1_38 (hM 41 0) hw dX1_combine_82 (fun V89 hM90 hw H locs hS => ?_)
  refine lv_aload_n hx hb dX1_combine_83 rfl (lv_at hl 4 rfl) ?_
  refine r_ga X hS f1_38 dX1_combine_84 ?_
  refine lv_iload hx hb dX1_combine_87 (lv_at hl 0 rfl) ?_
  refine z_iconst hx hb dX1_combine_89 ?_
  refine z_add hx hb hw dX1_combine_90 (fun h91 hw => ?_)
  refine lv_iload hx hb dX1_combine_91 (lv_at hl 1 rfl) ?_
  refine z_is X hS hM90 a1_38 h68 hw dX1_combine_93 (fun V92 hM93 hw H locs hS => ?_)
  refine lv_aload_n hx hb dX1_combine_94 rfl (lv_at hl 4 rfl) ?_
  refine r_ga X hS f1_38 dX1_combine_95 ?_
  refine lv_iload hx hb dX1_combine_98 (lv_at hl 0 rfl) ?_
  refine z_iconst hx hb dX1_combine_100 ?_
  refine z_add hx hb hw dX1_combine_101 (fun h94 hw => ?_)
  refine lv_iload hx hb dX1_combine_102 (lv_at hl 1 rfl) ?_
  refine z_iconst hx hb dX1_combine_104 ?_
  refine z_add hx hb hw dX1_combine_105 (fun h95 hw => ?_)
  refine z_is X hS hM93 a1_38 h95 hw dX1_combine_106 (fun V96 hM97 hw H locs hS => ?_)
  refine z_iconst hx hb dX1_combine_107 ?_
  refine lv_istore (lv' := [(6, .int (I3 0)), (5, .int (I3 x74)), (4, .int (I3 x67)), (3, .int (I3 x61)), (2, .int (I3 (V 41 0))), (0, .ref h0), (1, .int (I3 a1))]) hx hb dX1_combine_108 hl (by decide) rfl (fun ls hl => ?_)
  obtain ⟨n, hw⟩ := hw
  exact m1_combine_L110 X n hM97 hS (lv_sub hl [5, 6, 4, 3, 2, 1, 0] rfl) r1 (hM 41 0) h62 h68 h75 (⟨by decide, by decide⟩) hw
theorem m1_combine_J13 {a1 : Int} {V : Mv} {Z : Le} {Q : Po} {PX : Px} (X : Cx E 0 h0 P0 kc0 ks0 S0 A p l R s m args meth c cX1_combine 11 (some .int) 31) (hM : inM V) (hS : HS E 0 h0 P0 kc0 ks0 (sbs [15, 16, 17, 18, 20, 22, 23, 24, 25, 26, 27, 29, 30, 31, 32, 38, 51, 52]) A s.heap P (toC V) Z H locs cells slots) (hl : lv_has ls 11 [(0, .ref h0), (1, .int (I3 a1))]) (r1 : inR a1) (hw : w1_combine_J13 a1 V Z Q PX) : W p l e R s m args below meth c H locs cells slots (MQx below (QT E 0 h0 true P0 kc0 ks0 (sbs [15, 16, 17, 18, 20, 22, 23, 24, 25, 26, 27, 29, 30, 31, 32, 38, 51, 52]) A (QL Q) (PL PX) s) s) (F0 m 13 ls []) := by
  have hx := X.2.1
  have hb := X.2.2.1
  unfold w1_combine_J13 at hw
  refine z_iconst hx hb dX1_combine_13 ?_
  exact m1_combine_J14 X hM hS (lv_sub hl [0, 1] rfl) r1 (⟨by decide, by decide⟩) hw
theorem m1_combine {a1 : Int} {V : Mv} {Z : Le} {Q : Po} {PX : Px} (r1 : inR a1) (hM : inM V) (hw : w1_combine a1 V Z Q PX) : MT l S0 E 0 h0 yX1_combine cX1_combine 11 (some .int) 31 true (sbs [15, 16, 17, 18, 20, 22, 23, 24, 25, 26, 27, 29, 30, 31, 32, 38, 51, 52]) [.int (I3 a1)] (toC V) Z (QL Q) (PL PX) := by
  refine mt_of Gk0 (by decide) rfl (Nat.le_of_ble_eq_true rfl) ?_
  intro p e s m below meth c A P ls X hS hl
  have hl : lv_has ls 11 [(0, .ref h0), (1, .int (I3 a1))] := hl
  have hx := X.2.1
  have hb := X.2.2.1
  unfold w1_combine at hw
  refine lv_iload_n hx hb dX1_combine_0 rfl (lv_at hl 1 rfl) ?_
  refine z_zlt (tgt := 13) hx hb r1 hw dX1_combine_1 (by decide) (fun hc hw => ?_) (fun hc hw => ?_)
  · exact m1_combine_J13 X hM hS (lv_sub hl [0, 1] rfl) r1 hw
  · refine lv_iload_n hx hb dX1_combine_4 rfl (lv_at hl 1 rfl) ?_
    refine z_iconst hx hb dX1_combine_5 ?_
    refine z_igt (tgt := 13) hx hb r1 (⟨by decide, by decide⟩) hw dX1_combine_6 (by decide) (fun hc hw => ?_) (fun hc hw => ?_)
    · exact m1_combine_J13 X hM hS (lv_sub hl [0, 1] rfl) r1 hw
    · refine z_iconst hx hb dX1_combine_9 ?_
      refine lv_goto (tgt := 14) hx hb dX1_combine_10 (by decide) ?_
      exact m1_combine_J14 X hM hS (lv_sub hl [0, 1] rfl) r1 (⟨by decide, by decide⟩) hw
end WALK
