set_option maxRecDepth 100000
theorem dX1_count_0 : decode cX1_count 0 = .ok (.iload_n 1, 1) := by decide +kernel
theorem dX1_count_1 : decode cX1_count 1 = .ok (.ifCond .lt 12, 3) := by decide +kernel
theorem dX1_count_4 : decode cX1_count 4 = .ok (.iload_n 1, 1) := by decide +kernel
theorem dX1_count_5 : decode cX1_count 5 = .ok (.iconst 4, 1) := by decide +kernel
theorem dX1_count_6 : decode cX1_count 6 = .ok (.if_icmp .gt 7, 3) := by decide +kernel
theorem dX1_count_9 : decode cX1_count 9 = .ok (.iconst 1, 1) := by decide +kernel
theorem dX1_count_10 : decode cX1_count 10 = .ok (.goto 4, 3) := by decide +kernel
theorem dX1_count_13 : decode cX1_count 13 = .ok (.iconst 0, 1) := by decide +kernel
theorem dX1_count_14 : decode cX1_count 14 = .ok (.invokestatic 275, 3) := by decide +kernel
theorem dX1_count_17 : decode cX1_count 17 = .ok (.iload_n 1, 1) := by decide +kernel
theorem dX1_count_18 : decode cX1_count 18 = .ok (.ifCond .ne 10, 3) := by decide +kernel
theorem dX1_count_21 : decode cX1_count 21 = .ok (.aload_n 0, 1) := by decide +kernel
theorem dX1_count_22 : decode cX1_count 22 = .ok (.getfield 138, 3) := by decide +kernel
theorem dX1_count_25 : decode cX1_count 25 = .ok (.goto 43, 3) := by decide +kernel
theorem dX1_count_28 : decode cX1_count 28 = .ok (.iload_n 1, 1) := by decide +kernel
theorem dX1_count_29 : decode cX1_count 29 = .ok (.iconst 1, 1) := by decide +kernel
theorem dX1_count_30 : decode cX1_count 30 = .ok (.if_icmp .ne 10, 3) := by decide +kernel
theorem dX1_count_33 : decode cX1_count 33 = .ok (.aload_n 0, 1) := by decide +kernel
theorem dX1_count_34 : decode cX1_count 34 = .ok (.getfield 183, 3) := by decide +kernel
theorem dX1_count_37 : decode cX1_count 37 = .ok (.goto 31, 3) := by decide +kernel
theorem dX1_count_40 : decode cX1_count 40 = .ok (.iload_n 1, 1) := by decide +kernel
theorem dX1_count_41 : decode cX1_count 41 = .ok (.iconst 2, 1) := by decide +kernel
theorem dX1_count_42 : decode cX1_count 42 = .ok (.if_icmp .ne 10, 3) := by decide +kernel
theorem dX1_count_45 : decode cX1_count 45 = .ok (.aload_n 0, 1) := by decide +kernel
theorem dX1_count_46 : decode cX1_count 46 = .ok (.getfield 241, 3) := by decide +kernel
theorem dX1_count_49 : decode cX1_count 49 = .ok (.goto 19, 3) := by decide +kernel
theorem dX1_count_52 : decode cX1_count 52 = .ok (.iload_n 1, 1) := by decide +kernel
theorem dX1_count_53 : decode cX1_count 53 = .ok (.iconst 3, 1) := by decide +kernel
theorem dX1_count_54 : decode cX1_count 54 = .ok (.if_icmp .ne 10, 3) := by decide +kernel
theorem dX1_count_57 : decode cX1_count 57 = .ok (.aload_n 0, 1) := by decide +kernel
theorem dX1_count_58 : decode cX1_count 58 = .ok (.getfield 295, 3) := by decide +kernel
theorem dX1_count_61 : decode cX1_count 61 = .ok (.goto 7, 3) := by decide +kernel
theorem dX1_count_64 : decode cX1_count 64 = .ok (.aload_n 0, 1) := by decide +kernel
theorem dX1_count_65 : decode cX1_count 65 = .ok (.getfield 279, 3) := by decide +kernel
theorem dX1_count_68 : decode cX1_count 68 = .ok (.ireturn, 1) := by decide +kernel
section WALK
variable {p : Program} {l : Launch} {e : Env} {R : Room} {s : State} {m : MethodId} {args : Array Value} {below : List Frame} {meth : Method} {c : Code} {H : Heap} {locs : List Loc} {cells slots : Nat}
variable {E : Ev} {h0 : Nat} {P0 : Le} {kc0 ks0 : Nat} {S0 : State} {A : Nat → Prop} {P : Le} {ls : Array Slot}
theorem m1_count_J68 {b0 : Int} {V : Mv} {Z : Le} {Q : Po} {PX : Px} (X : Cx E 0 h0 P0 kc0 ks0 S0 A p l R s m args meth c cX1_count 2 (some .int) 7) (hM : inM V) (hS : HS E 0 h0 P0 kc0 ks0 (sbs []) A s.heap P (toC V) Z H locs cells slots) (hl : lv_has ls 2 []) (sr0 : inR b0) (hw : w1_count_J68 b0 V Z Q PX) : W p l e R s m args below meth c H locs cells slots (MQx below (QT E 0 h0 true P0 kc0 ks0 (sbs []) A (QL Q) (PL PX) s) s) (F0 m 68 ls [.int (I3 b0)]) := by
  have hx := X.2.1
  have hb := X.2.2.1
  unfold w1_count_J68 at hw
  exact z_ri X hS hM sr0 hw dX1_count_68
theorem m1_count_J14 {a1 : Int} {b0 : Int} {V : Mv} {Z : Le} {Q : Po} {PX : Px} (X : Cx E 0 h0 P0 kc0 ks0 S0 A p l R s m args meth c cX1_count 2 (some .int) 7) (hM : inM V) (hS : HS E 0 h0 P0 kc0 ks0 (sbs []) A s.heap P (toC V) Z H locs cells slots) (hl : lv_has ls 2 [(0, .ref h0), (1, .int (I3 a1))]) (r1 : inR a1) (sr0 : inR b0) (hw : w1_count_J14 a1 b0 V Z Q PX) : W p l e R s m args below meth c H locs cells slots (MQx below (QT E 0 h0 true P0 kc0 ks0 (sbs []) A (QL Q) (PL PX) s) s) (F0 m 14 ls [.int (I3 b0)]) := by
  have hx := X.2.1
  have hb := X.2.2.1
  unfold w1_count_J14 at hw
  refine z_needT X hS hM sr0 hw gs1_275 (by omega) hl.1 (Nat.le_of_ble_eq_true rfl) dX1_count_14 (fun hc hw => ?_)
  refine lv_iload_n hx hb dX1_count_17 rfl (lv_at hl 1 rfl) ?_
  refine z_zne (tgt := 28) hx hb r1 hw dX1_count_18 (by decide) (fun hc hw => ?_) (fun hc hw => ?_)
  · refine lv_iload_n hx hb dX1_count_28 rfl (lv_at hl 1 rfl) ?_
    refine z_iconst hx hb dX1_count_29 ?_
    refine z_ine (tgt := 40) hx hb r1 (⟨by decide, by decide⟩) hw dX1_count_30 (by decide) (fun hc hw => ?_) (fun hc hw => ?_)
    · refine lv_iload_n hx hb dX1_count_40 rfl (lv_at hl 1 rfl) ?_
      refine z_iconst hx hb dX1_count_41 ?_
      refine z_ine (tgt := 52) hx hb r1 (⟨by decide, by decide⟩) hw dX1_count_42 (by decide) (fun hc hw => ?_) (fun hc hw => ?_)
      · refine lv_iload_n hx hb dX1_count_52 rfl (lv_at hl 1 rfl) ?_
        refine z_iconst hx hb dX1_count_53 ?_
        refine z_ine (tgt := 64) hx hb r1 (⟨by decide, by decide⟩) hw dX1_count_54 (by decide) (fun hc hw => ?_) (fun hc hw => ?_)
        · refine lv_aload_n hx hb dX1_count_64 rfl (lv_at hl 0 rfl) ?_
          refine z_gi X hS f1_50 dX1_count_65 ?_
          exact m1_count_J68 X hM hS (lv_sub hl [] rfl) (hM 50 0) hw
        · refine lv_aload_n hx hb dX1_count_57 rfl (lv_at hl 0 rfl) ?_
          refine z_gi X hS f1_41 dX1_count_58 ?_
          refine lv_goto (tgt := 68) hx hb dX1_count_61 (by decide) ?_
          exact m1_count_J68 X hM hS (lv_sub hl [] rfl) (hM 41 0) hw
      · refine lv_aload_n hx hb dX1_count_45 rfl (lv_at hl 0 rfl) ?_
        refine z_gi X hS f1_53 dX1_count_46 ?_
        refine lv_goto (tgt := 68) hx hb dX1_count_49 (by decide) ?_
        exact m1_count_J68 X hM hS (lv_sub hl [] rfl) (hM 53 0) hw
    · refine lv_aload_n hx hb dX1_count_33 rfl (lv_at hl 0 rfl) ?_
      refine z_gi X hS f1_36 dX1_count_34 ?_
      refine lv_goto (tgt := 68) hx hb dX1_count_37 (by decide) ?_
      exact m1_count_J68 X hM hS (lv_sub hl [] rfl) (hM 36 0) hw
  · refine lv_aload_n hx hb dX1_count_21 rfl (lv_at hl 0 rfl) ?_
    refine z_gi X hS f1_7 dX1_count_22 ?_
    refine lv_goto (tgt := 68) hx hb dX1_count_25 (by decide) ?_
    exact m1_count_J68 X hM hS (lv_sub hl [] rfl) (hM 7 0) hw
theorem m1_count_J13 {a1 : Int} {V : Mv} {Z : Le} {Q : Po} {PX : Px} (X : Cx E 0 h0 P0 kc0 ks0 S0 A p l R s m args meth c cX1_count 2 (some .int) 7) (hM : inM V) (hS : HS E 0 h0 P0 kc0 ks0 (sbs []) A s.heap P (toC V) Z H locs cells slots) (hl : lv_has ls 2 [(0, .ref h0), (1, .int (I3 a1))]) (r1 : inR a1) (hw : w1_count_J13 a1 V Z Q PX) : W p l e R s m args below meth c H locs cells slots (MQx below (QT E 0 h0 true P0 kc0 ks0 (sbs []) A (QL Q) (PL PX) s) s) (F0 m 13 ls []) := by
  have hx := X.2.1
  have hb := X.2.2.1
  unfold w1_count_J13 at hw
  refine z_iconst hx hb dX1_count_13 ?_
  exact m1_count_J14 X hM hS (lv_sub hl [0, 1] rfl) r1 (⟨by decide, by decide⟩) hw
theorem m1_count {a1 : Int} {V : Mv} {Z : Le} {Q : Po} {PX : Px} (r1 : inR a1) (hM : inM V) (hw : w1_count a1 V Z Q PX) : MT l S0 E 0 h0 yX1_count cX1_count 2 (some .int) 7 true (sbs []) [.int (I3 a1)] (toC V) Z (QL Q) (PL PX) := by
  refine mt_of Gk0 (by decide) rfl (Nat.le_of_ble_eq_true rfl) ?_
  intro p e s m below meth c A P ls X hS hl
  have hl : lv_has ls 2 [(0, .ref h0), (1, .int (I3 a1))] := hl
  have hx := X.2.1
  have hb := X.2.2.1
  unfold w1_count at hw
  refine lv_iload_n hx hb dX1_count_0 rfl (lv_at hl 1 rfl) ?_
  refine z_zlt (tgt := 13) hx hb r1 hw dX1_count_1 (by decide) (fun hc hw => ?_) (fun hc hw => ?_)
  · exact m1_count_J13 X hM hS (lv_sub hl [0, 1] rfl) r1 hw
  · refine lv_iload_n hx hb dX1_count_4 rfl (lv_at hl 1 rfl) ?_
    refine z_iconst hx hb dX1_count_5 ?_
    refine z_igt (tgt := 13) hx hb r1 (⟨by decide, by decide⟩) hw dX1_count_6 (by decide) (fun hc hw => ?_) (fun hc hw => ?_)
    · exact m1_count_J13 X hM hS (lv_sub hl [0, 1] rfl) r1 hw
    · refine z_iconst hx hb dX1_count_9 ?_
      refine lv_goto (tgt := 14) hx hb dX1_count_10 (by decide) ?_
      exact m1_count_J14 X hM hS (lv_sub hl [0, 1] rfl) r1 (⟨by decide, by decide⟩) hw
end WALK
