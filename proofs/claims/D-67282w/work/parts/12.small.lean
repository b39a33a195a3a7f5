set_option maxRecDepth 100000
/-! the small static methods, and need -/
theorem dX1_isObject_0 : decode cX1_isObject 0 = .ok (.iload_n 0, 1) := by decide +kernel
theorem dX1_isObject_1 : decode cX1_isObject 1 = .ok (.iconst (-1), 1) := by decide +kernel
theorem dX1_isObject_2 : decode cX1_isObject 2 = .ok (.if_icmp .ge 7, 3) := by decide +kernel
theorem dX1_isObject_5 : decode cX1_isObject 5 = .ok (.iconst 1, 1) := by decide +kernel
theorem dX1_isObject_6 : decode cX1_isObject 6 = .ok (.goto 4, 3) := by decide +kernel
theorem dX1_isObject_9 : decode cX1_isObject 9 = .ok (.iconst 0, 1) := by decide +kernel
theorem dX1_isObject_10 : decode cX1_isObject 10 = .ok (.ireturn, 1) := by decide +kernel
theorem dX1_id_0 : decode cX1_id 0 = .ok (.bipush (-2), 2) := by decide +kernel
theorem dX1_id_2 : decode cX1_id 2 = .ok (.iload_n 0, 1) := by decide +kernel
theorem dX1_id_3 : decode cX1_id 3 = .ok (.isub, 1) := by decide +kernel
theorem dX1_id_4 : decode cX1_id 4 = .ok (.ireturn, 1) := by decide +kernel
theorem dX1_valueOf_0 : decode cX1_valueOf 0 = .ok (.bipush (-2), 2) := by decide +kernel
theorem dX1_valueOf_2 : decode cX1_valueOf 2 = .ok (.iload_n 0, 1) := by decide +kernel
theorem dX1_valueOf_3 : decode cX1_valueOf 3 = .ok (.isub, 1) := by decide +kernel
theorem dX1_valueOf_4 : decode cX1_valueOf 4 = .ok (.ireturn, 1) := by decide +kernel
theorem dX2_valueOf_0 : decode cX2_valueOf 0 = .ok (.bipush (-2), 2) := by decide +kernel
theorem dX2_valueOf_2 : decode cX2_valueOf 2 = .ok (.iload_n 0, 1) := by decide +kernel
theorem dX2_valueOf_3 : decode cX2_valueOf 3 = .ok (.isub, 1) := by decide +kernel
theorem dX2_valueOf_4 : decode cX2_valueOf 4 = .ok (.ireturn, 1) := by decide +kernel
theorem dX1_need_0 : decode cX1_need 0 = .ok (.iload_n 0, 1) := by decide +kernel
theorem dX1_need_1 : decode cX1_need 1 = .ok (.ifCond .ne 11, 3) := by decide +kernel
theorem dX1_need_4 : decode cX1_need 4 = .ok (.new 269, 3) := by decide +kernel
theorem dX1_need_7 : decode cX1_need 7 = .ok (.dup, 1) := by decide +kernel
theorem dX1_need_8 : decode cX1_need 8 = .ok (.invokespecial 271, 3) := by decide +kernel
theorem dX1_need_11 : decode cX1_need 11 = .ok (.athrow, 1) := by decide +kernel
theorem dX1_need_12 : decode cX1_need 12 = .ok (.return_, 1) := by decide +kernel
theorem met_isObject (l : Launch) (v : Int32) : MS l yX1_isObject cX1_isObject 1 (some .boolean) [.int v] (bI (v < -1)) := by
  refine MX.ofW (cc := cX1_isObject) (maxL := 1) (ret := some .boolean) (by decide) rfl ?_
  intro p e s m args below meth c s₁ B hml hex hv
  obtain ⟨rfl, -⟩ := hv
  have hx := B.exec
  have hb := B.bytes
  have hr := B.returns
  have hlk := B.notSynchronized
  rw [lg_entry_eq]
  have hl := lv_entry ([.int v]) (n := 1) (Nat.le_of_ble_eq_true rfl)
  generalize (lg_sl ([.int v]) ++ List.replicate (1 - (lg_sl ([.int v])).length) Slot.unset).toArray = ls at hl ⊢
  have hl : lv_has ls 1 [(0, .int v)] := hl
  refine lv_iload_n hx hb dX1_isObject_0 rfl (lv_at hl 0 rfl) ?_
  refine lv_iconst (v := -1) hx hb dX1_isObject_1 (by decide) ?_
  refine lv_icmp_ge (tgt := 9) hx hb dX1_isObject_2 (by decide) (fun h => ?_) (fun h => ?_)
  · refine lv_iconst (v := 0) hx hb dX1_isObject_9 (by decide) ?_
    refine Rx.int hx hb hr (by decide +kernel) hlk dX1_isObject_10 fun t ht hW => ⟨?_, ht, rfl, rfl, rfl⟩
    rw [bI, if_neg (Int32.not_lt.mpr h)]
  · refine lv_iconst (v := 1) hx hb dX1_isObject_5 (by decide) ?_
    refine lv_goto (tgt := 10) hx hb dX1_isObject_6 (by decide) ?_
    refine Rx.int hx hb hr (by decide +kernel) hlk dX1_isObject_10 fun t ht hW => ⟨?_, ht, rfl, rfl, rfl⟩
    rw [bI, if_pos (Int32.not_le.mp h)]
theorem met_id (l : Launch) (v : Int32) : MS l yX1_id cX1_id 1 (some .int) [.int v] (-2 - v) := by
  refine MX.ofW (cc := cX1_id) (maxL := 1) (ret := some .int) (by decide) rfl ?_
  intro p e s m args below meth c s₁ B hml hex hv
  obtain ⟨rfl, -⟩ := hv
  have hx := B.exec
  have hb := B.bytes
  have hr := B.returns
  have hlk := B.notSynchronized
  rw [lg_entry_eq]
  have hl := lv_entry ([.int v]) (n := 1) (Nat.le_of_ble_eq_true rfl)
  generalize (lg_sl ([.int v]) ++ List.replicate (1 - (lg_sl ([.int v])).length) Slot.unset).toArray = ls at hl ⊢
  have hl : lv_has ls 1 [(0, .int v)] := hl
  refine lv_bipush (v := -2) hx hb dX1_id_0 (by decide) ?_
  refine lv_iload_n hx hb dX1_id_2 rfl (lv_at hl 0 rfl) ?_
  refine lv_isub hx hb dX1_id_3 ?_
  exact Rx.int hx hb hr rfl hlk dX1_id_4 fun t ht hW => ⟨rfl, ht, rfl, rfl, rfl⟩
theorem met_valueOf (l : Launch) (v : Int32) : MS l yX1_valueOf cX1_valueOf 1 (some .int) [.int v] (-2 - v) := by
  refine MX.ofW (cc := cX1_valueOf) (maxL := 1) (ret := some .int) (by decide) rfl ?_
  intro p e s m args below meth c s₁ B hml hex hv
  obtain ⟨rfl, -⟩ := hv
  have hx := B.exec
  have hb := B.bytes
  have hr := B.returns
  have hlk := B.notSynchronized
  rw [lg_entry_eq]
  have hl := lv_entry ([.int v]) (n := 1) (Nat.le_of_ble_eq_true rfl)
  generalize (lg_sl ([.int v]) ++ List.replicate (1 - (lg_sl ([.int v])).length) Slot.unset).toArray = ls at hl ⊢
  have hl : lv_has ls 1 [(0, .int v)] := hl
  refine lv_bipush (v := -2) hx hb dX1_valueOf_0 (by decide) ?_
  refine lv_iload_n hx hb dX1_valueOf_2 rfl (lv_at hl 0 rfl) ?_
  refine lv_isub hx hb dX1_valueOf_3 ?_
  exact Rx.int hx hb hr rfl hlk dX1_valueOf_4 fun t ht hW => ⟨rfl, ht, rfl, rfl, rfl⟩
theorem met_valueOf2 (l : Launch) (v : Int32) : MS l yX2_valueOf cX2_valueOf 1 (some .int) [.int v] (-2 - v) := by
  refine MX.ofW (cc := cX2_valueOf) (maxL := 1) (ret := some .int) (by decide) rfl ?_
  intro p e s m args below meth c s₁ B hml hex hv
  obtain ⟨rfl, -⟩ := hv
  have hx := B.exec
  have hb := B.bytes
  have hr := B.returns
  have hlk := B.notSynchronized
  rw [lg_entry_eq]
  have hl := lv_entry ([.int v]) (n := 1) (Nat.le_of_ble_eq_true rfl)
  generalize (lg_sl ([.int v]) ++ List.replicate (1 - (lg_sl ([.int v])).length) Slot.unset).toArray = ls at hl ⊢
  have hl : lv_has ls 1 [(0, .int v)] := hl
  refine lv_bipush (v := -2) hx hb dX2_valueOf_0 (by decide) ?_
  refine lv_iload_n hx hb dX2_valueOf_2 rfl (lv_at hl 0 rfl) ?_
  refine lv_isub hx hb dX2_valueOf_3 ?_
  exact Rx.int hx hb hr rfl hlk dX2_valueOf_4 fun t ht hW => ⟨rfl, ht, rfl, rfl, rfl⟩
/-- need(z): z = 0: it throws; else it returns -/
theorem met_need (l : Launch) (S0 : State) (kc ks d : Nat) (z : Int32) (hd6 : 6 ≤ d) (hk : z = 0 → kc + 1 ≤ KC ∧ ks + 6 ≤ KS) :
    MX l yX1_need (ws_ yX1_need cX1_need 1 none) (rmm d kc ks) (va_Pc [.int z] (fun U => EX l S0 (fun q => U.heap.size ≤ q) U)) (fun _ => QR false (fun _ _ => 0) (fun k => if k = 1000 then kc else if k = 1001 then ks else 0) (fun _ _ _ => ¬ z = 0) (fun cd _ _ => cd = 0 ∧ z = 0)) := by
  refine MX.ofW (cc := cX1_need) (maxL := 1) (ret := none) (by decide) rfl ?_
  intro p e s m args below meth c s₁ B hml hex hv
  obtain ⟨rfl, hE⟩ := hv
  have hx := B.exec
  have hb := B.bytes
  have hr := B.returns
  have hlk := B.notSynchronized
  have hts := atoms_spec (ws := ws_ yX1_need cX1_need 1 none) B.pre
  have hts : ∀ w ∈ lw_all, w.before _ s = true := fun w h => hts w (List.mem_cons_of_mem _ h)
  have hown : s.vm.findClass RX1 = some m.cls := findClass_of_methodNamed B.named
  rw [lg_entry_eq]
  have hl := lv_entry ([.int z]) (n := 1) (Nat.le_of_ble_eq_true rfl)
  generalize (lg_sl ([.int z]) ++ List.replicate (1 - (lg_sl ([.int z])).length) Slot.unset).toArray = ls at hl ⊢
  have hl : lv_has ls 1 [(0, .int z)] := hl
  refine lv_iload_n hx hb dX1_need_0 rfl (lv_at hl 0 rfl) ?_
  refine lv_if_ne (tgt := 12) hx hb dX1_need_1 (by decide) (fun h => ?_) (fun h => ?_)
  · exact Rx.void hx hb hr hlk dX1_need_12 fun t ht hW => ⟨rfl, Or.inl ⟨0, rfl, ht, rfl, rfl, h⟩⟩
  · have hk := hk h
    exact r_thr 0 ex_all0 q386 q70 (by decide +kernel) hx hb hown hts hlk hex hE (hl.1.trans hml.symm) (by show 5 < d; omega) (by show 0 + 81 ≤ 64 * d; omega) (by show 1 ≤ KC - kc; omega) (by show 6 ≤ KS - ks; omega) dX1_need_4 dX1_need_7 dX1_need_8 dX1_need_11 fun t x h1 h2 hW hexc => ⟨rfl, Or.inr ⟨x, 0, rfl, rfl, rfl, hk, h1, h2, ⟨rfl, h⟩, hexc⟩⟩
section NEED
variable {p : Program} {l : Launch} {e : Env} {R : Room} {s : State} {m : MethodId} {args : Array Value} {below : List Frame} {meth : Method} {c : Code} {H : Heap} {locs : List Loc} {cells slots : Nat} {Qe : State → Prop}
variable {E : Ev} {h0 : Nat} {P0 : Le} {kc0 ks0 : Nat} {S0 : State} {A : Nat → Prop} {cc : ByteArray} {nL : Nat} {ret : Option FieldType} {d : Nat} {Sb : Nat → Bool} {P : Le} {C : Me} {Z : Le}
variable {pc : Nat} {ls : Array Slot} {rest : List Value}
theorem r_need (X : Cx E 0 h0 P0 kc0 ks0 S0 A p l R s m args meth c cc nL ret d) (hS : HS E 0 h0 P0 kc0 ks0 Sb A s.heap P C Z H locs cells slots) {z : Int32} (hbz : z = 0 → Z 1000 + 1 ≤ KC ∧ Z 1001 + 6 ≤ KS) {index : Nat} (hG : GoodIn lw_all (va_wsS RX1 index yX1_need (ws_ yX1_need cX1_need 1 none)))
    (hdd : 7 ≤ d) (hls : ls.size = nL) (hrm : (rest.map fun v => v.category).sum ≤ 8) (hdg : decode cc pc = .ok (.invokestatic index, 3))
    (kr : ¬ z = 0 → W p l e R s m args below meth c H locs cells slots Qe (F0 m (pc + 3) ls rest))
    (kx : ∀ (x : Nat) (H1 : Heap), z = 0 → H.size ≤ H1.size → (∀ q, q < H.size → H1[q]? = H[q]?) → exh 0 x s H1 → WT p l e R s m args below meth c H1 locs (cells + 1) (slots + 6) Qe x (F0 m pc ls rest)) :
    W p l e R s m args below meth c H locs cells slots Qe (F0 m pc ls (.int z :: rest)) := by
  obtain ⟨hgk, hx, hb, hml, hown, hts, hlk, hr, hK, hA, hR, hE, hex⟩ := X
  obtain ⟨hP, hD, hS0, hSb0, hz1, hz2⟩ := hS
  subst hR
  have hZ1 := hP.2.2.1
  have hZ2 := hP.2.2.2
  refine runSx (rest := rest) (As := [.int z]) ⟨hx, hb, hml, hown, hts⟩ (met_need l S0 (Z 1000) (Z 1001) 6 z (Nat.le_refl _) hbz) (va_cwS 1 hts hG rfl rfl rfl (by decide +kernel) ⟨by show 6 + 1 ≤ d; omega, by show 8 + (1 + 11) + 64 * 6 ≤ 64 * d; omega⟩)
    ⟨fun a U gg mk q => ⟨q.1, q.2.same rfl rfl⟩, fun U hU hW => ⟨rfl, hE.go hS0 (fun q hq => by rw [hA]; exact Or.inr (Or.inr (Nat.le_trans hS0.1 (by rw [← hU]; exact hq)))) hU hW⟩⟩ rfl rfl hls rfl (lv_room hrm) hdg ⟨by show cells + (KC - Z 1000) ≤ KC - kc0; omega, by show slots + (KS - Z 1001) ≤ KS - ks0; omega⟩ ?_ ?_
  · intro v st t L k j hst hW hq
    obtain ⟨hL, hor⟩ := hq
    rcases hor with ⟨r, hv, hh, hk, hj, hQ⟩ | ⟨x, cd, hv, -⟩
    · cases hv
      subst hL; subst hk; subst hj
      rw [List.append_nil, hh, hst]
      exact kr hQ
    · cases hv
  · intro x st t L k j hst hW hq
    obtain ⟨hL, hor⟩ := hq
    rcases hor with ⟨r, hv, -⟩ | ⟨x', cd, hv, hk, hj, hbb, h1, h2, ⟨hcd, hz⟩, hexc⟩
    · cases hv
    · cases hv
      subst hL; subst hk; subst hj; subst hcd
      rw [List.append_nil]
      rw [hst] at h1 h2
      exact kx x t.heap hz h1 h2 (hexc.to hW)
theorem r_needT {b : Bool} {Q : Int32 → Me → Le → Prop} {PX : Nat → Me → Le → Prop} (X : Cx E 0 h0 P0 kc0 ks0 S0 A p l R s m args meth c cc nL ret d) (hS : HS E 0 h0 P0 kc0 ks0 Sb A s.heap P C Z H locs cells slots) {z : Int32} (hbz : z = 0 → (Z 1000 + 1 ≤ KC ∧ Z 1001 + 6 ≤ KS) ∧ PX 0 C (zx Z)) {index : Nat} (hG : GoodIn lw_all (va_wsS RX1 index yX1_need (ws_ yX1_need cX1_need 1 none)))
    (hdd : 7 ≤ d) (hls : ls.size = nL) (hrm : (rest.map fun v => v.category).sum ≤ 8) (hdg : decode cc pc = .ok (.invokestatic index, 3))
    (kr : ¬ z = 0 → W p l e R s m args below meth c H locs cells slots (MQx below (QT E 0 h0 b P0 kc0 ks0 Sb A Q PX s) s) (F0 m (pc + 3) ls rest)) :
    W p l e R s m args below meth c H locs cells slots (MQx below (QT E 0 h0 b P0 kc0 ks0 Sb A Q PX s) s) (F0 m pc ls (.int z :: rest)) :=
  r_need X hS (fun h => (hbz h).1) hG hdd hls hrm hdg kr (fun x H1 hz h1 h2 hexc => r_outT X (hS.grown h1 h2 (hbz hz).1 (by decide)) (hbz hz).2 hexc)
theorem r_needR {b : Bool} {Q : Int32 → Me → Le → Prop} {PX : Nat → Me → Le → Prop} (X : Cx E 0 h0 P0 kc0 ks0 S0 A p l R s m args meth c cc nL ret d) (hS : HS E 0 h0 P0 kc0 ks0 Sb A s.heap P C Z s.heap [] 0 0) {z : Int32} (hbz : z = 0 → (Z 1000 + 1 ≤ KC ∧ Z 1001 + 6 ≤ KS) ∧ PX 0 C (zx Z)) {index : Nat} (hG : GoodIn lw_all (va_wsS RX1 index yX1_need (ws_ yX1_need cX1_need 1 none)))
    (hdd : 7 ≤ d) (hls : ls.size = nL) (hrm : (rest.map fun v => v.category).sum ≤ 8) (hdg : decode cc pc = .ok (.invokestatic index, 3))
    (kr : ¬ z = 0 → W p l e R s m args below meth c s.heap [] 0 0 (MQx below (QR b C Z Q PX s) s) (F0 m (pc + 3) ls rest)) :
    W p l e R s m args below meth c s.heap [] 0 0 (MQx below (QR b C Z Q PX s) s) (F0 m pc ls (.int z :: rest)) :=
  r_need X hS (fun h => (hbz h).1) hG hdd hls hrm hdg kr (fun x H1 hz h1 h2 hexc => r_outR X (hbz hz).2 (hbz hz).1 h1 h2 hexc)
end NEED
