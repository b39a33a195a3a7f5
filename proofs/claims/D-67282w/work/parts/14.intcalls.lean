set_option maxRecDepth 100000
/-! OWN ROWS over Int: calls, throws, returns -/
def ZM : Le := fun k => match k with
  | 2 => 3000
  | 3 => 3000
  | 4 => 3000
  | 5 => 3000
  | 6 => 3000
  | 7 => 3000
  | 8 => 3000
  | 9 => 3000
  | 10 => 3000
  | 11 => 3000
  | 12 => 3000
  | 13 => 12000
  | 14 => 12000
  | 16 => 12000
  | 17 => 12000
  | 18 => 12000
  | 19 => 12000
  | 20 => 12000
  | 21 => 12000
  | 23 => 24000
  | 24 => 24000
  | 25 => 24000
  | 26 => 24000
  | 27 => 24000
  | 28 => 24000
  | 31 => 1000
  | 32 => 1000
  | 34 => 4200
  | 35 => 4200
  | 37 => 200
  | 39 => 20000
  | 40 => 20000
  | 41 => 20000
  | 43 => 3000
  | 44 => 3000
  | 45 => 3000
  | 46 => 3000
  | 47 => 3000
  | 48 => 3000
  | 49 => 3000
  | 1000 => 41
  | 1001 => 364652
  | _ => 0
/-- the lengths of the new PromiseDesk -/
def ZD : Le := fun k => match k with
  | 0 => 3000
  | 1 => 3000
  | 2 => 3000
  | 3 => 3000
  | 4 => 3000
  | 5 => 3000
  | 6 => 3000
  | 8 => 3000
  | 9 => 3000
  | 10 => 3000
  | 11 => 3000
  | 12 => 3000
  | 13 => 3000
  | 14 => 3000
  | 15 => 256
  | 16 => 256
  | 17 => 256
  | 18 => 256
  | 20 => 256
  | 22 => 256
  | 23 => 256
  | 24 => 256
  | 25 => 256
  | 26 => 256
  | 27 => 256
  | 29 => 256
  | 30 => 256
  | 31 => 256
  | 32 => 256
  | 38 => 1024
  | 40 => 200
  | 42 => 64
  | 43 => 64
  | 44 => 64
  | 45 => 64
  | 46 => 64
  | 47 => 64
  | 49 => 1000
  | 51 => 256
  | 52 => 256
  | 1000 => 41
  | 1001 => 49016
  | _ => 0
section ZCALLS
variable {p : Program} {l : Launch} {e : Env} {R : Room} {s : State} {m : MethodId} {args : Array Value} {below : List Frame} {meth : Method} {c : Code} {H : Heap} {locs : List Loc} {cells slots : Nat} {Qe : State → Prop}
variable {E : Ev} {g h0 : Nat} {P0 : Le} {kc0 ks0 : Nat} {S0 : State} {A : Nat → Prop} {cc : ByteArray} {nL : Nat} {ret : Option FieldType} {d : Nat} {Sb : Nat → Bool} {P : Le} {V : Mv} {Z : Le} {Q : Po} {Qr : Int → Prop} {PX : Px}
variable {pc : Nat} {ls : Array Slot} {rest : List Value}
theorem z_ri (X : Cx E g h0 P0 kc0 ks0 S0 A p l R s m args meth c cc nL (some .int) d) (hS : HS E g h0 P0 kc0 ks0 Sb A s.heap P (toC V) Z H locs cells slots) (hM : inM V) {v : Int} (hv : inR v) (hw : Q v V Z) (hdg : decode cc pc = .ok (.ireturn, 1)) :
    W p l e R s m args below meth c H locs cells slots (MQx below (QT E g h0 true P0 kc0 ks0 Sb A (QL Q) (PL PX) s) s) (F0 m pc ls [.int (I3 v)]) :=
  r_ri X hS rfl rfl hdg ⟨v, V, hv, hM, rfl, rfl, hw⟩
theorem z_rz (X : Cx E g h0 P0 kc0 ks0 S0 A p l R s m args meth c cc nL (some .boolean) d) (hS : HS E g h0 P0 kc0 ks0 Sb A s.heap P (toC V) Z H locs cells slots) (hM : inM V) {v : Int} (hv : inR v) (hw : xR v (Q v V Z)) (hdg : decode cc pc = .ok (.ireturn, 1)) :
    W p l e R s m args below meth c H locs cells slots (MQx below (QT E g h0 true P0 kc0 ks0 Sb A (QL Q) (PL PX) s) s) (F0 m pc ls [.int (I3 v)]) :=
  r_ri X hS rfl (bz_zb hw.1).1 hdg ⟨v, V, hv, hM, rfl, rfl, hw.2⟩
theorem z_rv (X : Cx E g h0 P0 kc0 ks0 S0 A p l R s m args meth c cc nL none d) (hS : HS E g h0 P0 kc0 ks0 Sb A s.heap P (toC V) Z H locs cells slots) (hM : inM V) (hw : Q 0 V Z) (hdg : decode cc pc = .ok (.return_, 1)) :
    W p l e R s m args below meth c H locs cells slots (MQx below (QT E g h0 false P0 kc0 ks0 Sb A (QL Q) (PL PX) s) s) (F0 m pc ls []) :=
  r_rv X hS rfl hdg ⟨0, V, inR_0, hM, I3_0.symm, rfl, hw⟩
theorem z_riR (X : Cx E g h0 P0 kc0 ks0 S0 A p l R s m args meth c cc nL (some .int) d) {v : Int} (hv : inR v) (hw : Qr v) (hdg : decode cc pc = .ok (.ireturn, 1)) :
    W p l e R s m args below meth c s.heap [] 0 0 (MQx below (QR true (toC V) Z (RL Qr) (PL PX) s) s) (F0 m pc ls [.int (I3 v)]) :=
  r_riR X rfl rfl hdg ⟨v, hv, rfl, hw⟩
theorem z_rzR (X : Cx E g h0 P0 kc0 ks0 S0 A p l R s m args meth c cc nL (some .boolean) d) {v : Int} (hv : inR v) (hw : xR v (Qr v)) (hdg : decode cc pc = .ok (.ireturn, 1)) :
    W p l e R s m args below meth c s.heap [] 0 0 (MQx below (QR true (toC V) Z (RL Qr) (PL PX) s) s) (F0 m pc ls [.int (I3 v)]) :=
  r_riR X rfl (bz_zb hw.1).1 hdg ⟨v, hv, rfl, hw.2⟩
theorem z_rvR (X : Cx E g h0 P0 kc0 ks0 S0 A p l R s m args meth c cc nL none d) (hw : Qr 0) (hdg : decode cc pc = .ok (.return_, 1)) :
    W p l e R s m args below meth c s.heap [] 0 0 (MQx below (QR false (toC V) Z (RL Qr) (PL PX) s) s) (F0 m pc ls []) :=
  r_rvR X rfl hdg ⟨0, inR_0, I3_0.symm, hw⟩
/-- a call of a method with a contract MT that may throw what we may throw -/
theorem r_callX {y : MethodName} {bytes : ByteArray} {maxL : Nat} {ret' : Option FieldType} {d' : Nat} {b b2 : Bool} {Sb' : Nat → Bool} {av : List Value} {C : Me} {Q1 Q2 : Int32 → Me → Le → Prop} {PX2 : Nat → Me → Le → Prop} (X : Cx E g h0 P0 kc0 ks0 S0 A p l R s m args meth c cc nL ret d) (hS : HS E g h0 P0 kc0 ks0 Sb A s.heap P C Z H locs cells slots)
    (hM : MT l S0 E g h0 y bytes maxL ret' d' b Sb' av C Z Q1 PX2) {index n : Nat} (hG : GoodIn lw_all (wsV (gR g) index (gR g) y (ws_ y bytes maxL ret')))
    (hdy : y.cls = gR g ∧ y.cls ≠ "java/lang/invoke/MethodHandle" ∧ y.cls ≠ "java/lang/invoke/VarHandle" ∧ (parseMethodDescriptor y.desc).map (fun d => d.parameters.length) = some n) (hn : av.length = n) (hdd : d' + 1 ≤ d) (hmL : maxL ≤ 45) (hSb : ∀ k, Sb k = false → Sb' k = false) (hls : ls.size = nL) (hrm : (rest.map fun v => v.category).sum ≤ 8) (hdg : decode cc pc = .ok (.invokevirtual index, 3))
    {st0 : List Value} (hst0 : st0 = av.reverse ++ .ref h0 :: rest)
    (kr : ∀ (r : Int32) (C1 : Me) (Z1 : Le), Q1 r C1 Z1 → ∀ (P1 : Le) (H1 : Heap) (locs1 : List Loc) (c1 s1 : Nat), (∀ k, Sb' k = false → P1 k = P k) → HS E g h0 P0 kc0 ks0 Sb A s.heap P1 C1 Z1 H1 locs1 c1 s1 → W p l e R s m args below meth c H1 locs1 c1 s1 (MQx below (QT E g h0 b2 P0 kc0 ks0 Sb A Q2 PX2 s) s) (F0 m (pc + 3) ls ((ans b r).toList ++ rest))) :
    W p l e R s m args below meth c H locs cells slots (MQx below (QT E g h0 b2 P0 kc0 ks0 Sb A Q2 PX2 s) s) (F0 m pc ls st0) := by
  subst hst0
  have X0 := X
  have hAs := HS.toA X hS
  have hrecv := r_recv X hS.1
  have hpw := fun (U : State) (hU : U.heap = H) (hW : s.WarmedH U.vm) => HS.pw X hS hU hW
  obtain ⟨hgk, hx, hb, hml, hown, hts, hlk, hr, hK, hA, hR, hE, hex⟩ := X
  obtain ⟨hP, hD, hS0, hSb0, hz1, hz2⟩ := hS
  subst hR
  have hZ1 := hP.2.2.1
  have hZ2 := hP.2.2.2
  have key : ∀ (st t : State) (L : List Loc) (k j : Nat) (P1 : Le) (C1 : Me) (Z1 : Le), st.heap = H → (∀ q ∈ L, ao g h0 P H.size q.base) → va_F (ao g h0 P H.size) st t → hp E g h0 P1 C1 Z1 t.heap → hd (ao g h0 P H.size) g h0 P1 → (∀ i, Sb' i = false → P1 i = P i) → Z 1000 + k = Z1 1000 → Z 1001 + j = Z1 1001 →
      HS E g h0 P0 kc0 ks0 Sb A s.heap P1 C1 Z1 t.heap (locs ++ L) (cells + k) (slots + j) := by
    intro st t L k j P1 C1 Z1 hst hL hF hP1 hD1 hSb1 hk1 hk2
    refine ⟨hP1, hD1.weaken hAs, ⟨Nat.le_trans hS0.1 (by rw [← hst]; exact hF.1), fun q h1 h2 => ?_, fun q hq => ?_⟩, fun i hi => (hSb1 i (hSb i hi)).trans (hSb0 i hi), by omega, by omega⟩
    · rw [hF.2 q (by rw [hst]; exact Nat.lt_of_lt_of_le h1 hS0.1) (fun z => h2 (hAs q z)), hst]
      exact hS0.2.1 q h1 h2
    · rcases List.mem_append.mp hq with h | h
      · exact hS0.2.2 q h
      · exact hAs _ (hL q h)
  refine runVx (rest := rest) (As := av) (b := h0) ⟨hx, hb, hml, hown, hts⟩ (hM P H.size) (cwV n hts hG rfl rfl rfl hdy ⟨hdd, by show 8 + (maxL + 11) + 64 * d' ≤ 64 * d; omega⟩) ⟨Pw.blind, hrecv, fun U hU hW => ⟨rfl, hpw U hU hW⟩⟩ rfl hn hls rfl (lv_room hrm) hdg ⟨by show cells + (KC - Z 1000) ≤ KC - kc0; omega, by show slots + (KS - Z 1001) ≤ KS - ks0; omega⟩ ?_ ?_
  · intro v st t L k j hst hW hq
    obtain ⟨hL, hF, P1, C1, Z1, hP1, hD1, hSb1, hk1, hk2, hor⟩ := hq
    rcases hor with ⟨r, hv, hQ⟩ | ⟨x, cd, hv, hf, -⟩
    · cases hv
      exact kr r C1 Z1 hQ P1 t.heap _ _ _ hSb1 (key st t L k j P1 C1 Z1 hst hL hF hP1 hD1 hSb1 hk1 hk2)
    · cases hv
  · intro x st t L k j hst hW hq
    obtain ⟨hL, hF, P1, C1, Z1, hP1, hD1, hSb1, hk1, hk2, hor⟩ := hq
    rcases hor with ⟨r, hv, -⟩ | ⟨x', cd, hv, hf, hexc⟩
    · cases hv
    · cases hv
      exact r_outT X0 (key st t L k j P1 C1 Z1 hst hL hF hP1 hD1 hSb1 hk1 hk2) hf (hexc.to hW)
theorem z_call {y : MethodName} {bytes : ByteArray} {maxL : Nat} {ret' : Option FieldType} {d' : Nat} {b b2 : Bool} {Sb' : Nat → Bool} {av : List Value} {Q1 : Po} (X : Cx E g h0 P0 kc0 ks0 S0 A p l R s m args meth c cc nL ret d) (hS : HS E g h0 P0 kc0 ks0 Sb A s.heap P (toC V) Z H locs cells slots)
    (hM : MT l S0 E g h0 y bytes maxL ret' d' b Sb' av (toC V) Z (QL Q1) (PL PX)) {index n : Nat} (hG : GoodIn lw_all (wsV (gR g) index (gR g) y (ws_ y bytes maxL ret')))
    (hdy : y.cls = gR g ∧ y.cls ≠ "java/lang/invoke/MethodHandle" ∧ y.cls ≠ "java/lang/invoke/VarHandle" ∧ (parseMethodDescriptor y.desc).map (fun d => d.parameters.length) = some n) (hn : av.length = n) (hdd : d' + 1 ≤ d) (hmL : maxL ≤ 45) (hSb : ∀ k, Sb k = false → Sb' k = false) (hls : ls.size = nL) (hrm : (rest.map fun v => v.category).sum ≤ 8) (hdg : decode cc pc = .ok (.invokevirtual index, 3))
    {st0 : List Value} (hst0 : st0 = av.reverse ++ .ref h0 :: rest)
    (kr : ∀ (x : Int) (V1 : Mv) (Z1 : Le), inR x → inM V1 → Q1 x V1 Z1 → ∀ (P1 : Le) (H1 : Heap) (locs1 : List Loc) (c1 s1 : Nat), (∀ k, Sb' k = false → P1 k = P k) → HS E g h0 P0 kc0 ks0 Sb A s.heap P1 (toC V1) Z1 H1 locs1 c1 s1 → W p l e R s m args below meth c H1 locs1 c1 s1 (MQx below (QT E g h0 b2 P0 kc0 ks0 Sb A (QL Q) (PL PX) s) s) (F0 m (pc + 3) ls ((ans b (I3 x)).toList ++ rest))) :
    W p l e R s m args below meth c H locs cells slots (MQx below (QT E g h0 b2 P0 kc0 ks0 Sb A (QL Q) (PL PX) s) s) (F0 m pc ls st0) :=
  r_callX X hS hM hG hdy hn hdd hmL hSb hls hrm hdg hst0 fun r C1 Z1 hQ P1 H1 locs1 c1 s1 hP1 hS1 => by
    obtain ⟨x, V1, h1, h2, rfl, rfl, h3⟩ := hQ
    exact kr x V1 Z1 h1 h2 h3 P1 H1 locs1 c1 s1 hP1 hS1
/-- a call of a method that reads alone: from a method with a contract MT -/
theorem z_cR {y : MethodName} {bytes : ByteArray} {maxL : Nat} {ret' : Option FieldType} {d' : Nat} {b b2 : Bool} {av : List Value} (X : Cx E g h0 P0 kc0 ks0 S0 A p l R s m args meth c cc nL ret d) (hS : HS E g h0 P0 kc0 ks0 Sb A s.heap P (toC V) Z H locs cells slots)
    (hM : MR l S0 E g h0 y bytes maxL ret' d' b av (toC V) Z (RL Qr) (PL PX)) {index n : Nat} (hG : GoodIn lw_all (wsV (gR g) index (gR g) y (ws_ y bytes maxL ret')))
    (hdy : y.cls = gR g ∧ y.cls ≠ "java/lang/invoke/MethodHandle" ∧ y.cls ≠ "java/lang/invoke/VarHandle" ∧ (parseMethodDescriptor y.desc).map (fun d => d.parameters.length) = some n) (hn : av.length = n) (hdd : d' + 1 ≤ d) (hmL : maxL ≤ 45) (hN : gN g ≤ 1000) (hls : ls.size = nL) (hrm : (rest.map fun v => v.category).sum ≤ 8) (hdg : decode cc pc = .ok (.invokevirtual index, 3))
    {st0 : List Value} (hst0 : st0 = av.reverse ++ .ref h0 :: rest)
    (kr : ∀ (x : Int), inR x → Qr x → W p l e R s m args below meth c H locs cells slots (MQx below (QT E g h0 b2 P0 kc0 ks0 Sb A (QL Q) (PL PX) s) s) (F0 m (pc + 3) ls ((ans b (I3 x)).toList ++ rest))) :
    W p l e R s m args below meth c H locs cells slots (MQx below (QT E g h0 b2 P0 kc0 ks0 Sb A (QL Q) (PL PX) s) s) (F0 m pc ls st0) :=
  r_cRT X hS hM hG hdy hn hdd hmL hN hls hrm hdg hst0 fun r hQ => by
    obtain ⟨x, h1, rfl, h3⟩ := hQ
    exact kr x h1 h3
/-- the same, from a method that reads alone -/
theorem z_cRR {Q2 : Int → Prop} {y : MethodName} {bytes : ByteArray} {maxL : Nat} {ret' : Option FieldType} {d' : Nat} {b b2 : Bool} {av : List Value} (X : Cx E g h0 P0 kc0 ks0 S0 A p l R s m args meth c cc nL ret d) (hS : HS E g h0 P0 kc0 ks0 Sb A s.heap P (toC V) Z s.heap [] 0 0)
    (hM : MR l S0 E g h0 y bytes maxL ret' d' b av (toC V) Z (RL Qr) (PL PX)) {index n : Nat} (hG : GoodIn lw_all (wsV (gR g) index (gR g) y (ws_ y bytes maxL ret')))
    (hdy : y.cls = gR g ∧ y.cls ≠ "java/lang/invoke/MethodHandle" ∧ y.cls ≠ "java/lang/invoke/VarHandle" ∧ (parseMethodDescriptor y.desc).map (fun d => d.parameters.length) = some n) (hn : av.length = n) (hdd : d' + 1 ≤ d) (hmL : maxL ≤ 45) (hls : ls.size = nL) (hrm : (rest.map fun v => v.category).sum ≤ 8) (hdg : decode cc pc = .ok (.invokevirtual index, 3))
    {st0 : List Value} (hst0 : st0 = av.reverse ++ .ref h0 :: rest)
    (kr : ∀ (x : Int), inR x → Qr x → W p l e R s m args below meth c s.heap [] 0 0 (MQx below (QR b2 (toC V) Z (RL Q2) (PL PX) s) s) (F0 m (pc + 3) ls ((ans b (I3 x)).toList ++ rest))) :
    W p l e R s m args below meth c s.heap [] 0 0 (MQx below (QR b2 (toC V) Z (RL Q2) (PL PX) s) s) (F0 m pc ls st0) :=
  r_cRR X hS hM hG hdy hn hdd hmL hls hrm hdg hst0 fun r hQ => by
    obtain ⟨x, h1, rfl, h3⟩ := hQ
    exact kr x h1 h3
/-- the small static methods -/
theorem z_isO (X : Cx E 0 h0 P0 kc0 ks0 S0 A p l R s m args meth c cc nL ret d) (hS : HS E 0 h0 P0 kc0 ks0 Sb A s.heap P (toC V) Z H locs cells slots) {v : Int} (hv : inR v) {index : Nat} (hG : GoodIn lw_all (va_wsS (gR 0) index yX1_isObject (ws_ yX1_isObject cX1_isObject 1 (some .boolean)))) (hdd : 1 ≤ d) (hls : ls.size = nL) (hrm : (rest.map fun v => v.category).sum ≤ 8) (hdg : decode cc pc = .ok (.invokestatic index, 3))
    (kr : W p l e R s m args below meth c H locs cells slots Qe (F0 m (pc + 3) ls (.int (I3 (if v < -1 then 1 else 0)) :: rest))) : W p l e R s m args below meth c H locs cells slots Qe (F0 m pc ls (.int (I3 v) :: rest)) := by
  refine r_st X hS (met_isObject l (I3 v)) hG (n := 1) (by decide +kernel) rfl hdd (by decide) hls hrm hdg (st0 := .int (I3 v) :: rest) rfl ?_
  have e : bI (I3 v < -1) = I3 (if v < -1 then 1 else 0) := by
    have h : (I3 v < -1) ↔ v < -1 := by rw [← I3_m1]; exact I3_lt hv ⟨by decide, by decide⟩
    unfold bI
    by_cases hc : v < -1
    · rw [if_pos (h.mpr hc), if_pos hc, I3_1]
    · rw [if_neg (fun q => hc (h.mp q)), if_neg hc, I3_0]
  rw [e]
  exact kr
theorem z_id (X : Cx E 0 h0 P0 kc0 ks0 S0 A p l R s m args meth c cc nL ret d) (hS : HS E 0 h0 P0 kc0 ks0 Sb A s.heap P (toC V) Z H locs cells slots) {v : Int} {K : Int → Prop} (hw : xA (-2 - v) K) {index : Nat} (hG : GoodIn lw_all (va_wsS (gR 0) index yX1_id (ws_ yX1_id cX1_id 1 (some .int)))) (hdd : 1 ≤ d) (hls : ls.size = nL) (hrm : (rest.map fun v => v.category).sum ≤ 8) (hdg : decode cc pc = .ok (.invokestatic index, 3))
    (kr : inR (-2 - v) → K (-2 - v) → W p l e R s m args below meth c H locs cells slots Qe (F0 m (pc + 3) ls (.int (I3 (-2 - v)) :: rest))) : W p l e R s m args below meth c H locs cells slots Qe (F0 m pc ls (.int (I3 v) :: rest)) := by
  refine r_st X hS (met_id l (I3 v)) hG (n := 1) (by decide +kernel) rfl hdd (by decide) hls hrm hdg (st0 := .int (I3 v) :: rest) rfl ?_
  have e : (-2 : Int32) - I3 v = I3 (-2 - v) := by rw [← I3_m2]; exact (Int32.ofInt_sub (-2) v).symm
  rw [e]
  exact kr hw.1 hw.2
theorem z_vo (X : Cx E 0 h0 P0 kc0 ks0 S0 A p l R s m args meth c cc nL ret d) (hS : HS E 0 h0 P0 kc0 ks0 Sb A s.heap P (toC V) Z H locs cells slots) {v : Int} {K : Int → Prop} (hw : xA (-2 - v) K) {index : Nat} (hG : GoodIn lw_all (va_wsS (gR 0) index yX1_valueOf (ws_ yX1_valueOf cX1_valueOf 1 (some .int)))) (hdd : 1 ≤ d) (hls : ls.size = nL) (hrm : (rest.map fun v => v.category).sum ≤ 8) (hdg : decode cc pc = .ok (.invokestatic index, 3))
    (kr : inR (-2 - v) → K (-2 - v) → W p l e R s m args below meth c H locs cells slots Qe (F0 m (pc + 3) ls (.int (I3 (-2 - v)) :: rest))) : W p l e R s m args below meth c H locs cells slots Qe (F0 m pc ls (.int (I3 v) :: rest)) := by
  refine r_st X hS (met_valueOf l (I3 v)) hG (n := 1) (by decide +kernel) rfl hdd (by decide) hls hrm hdg (st0 := .int (I3 v) :: rest) rfl ?_
  have e : (-2 : Int32) - I3 v = I3 (-2 - v) := by rw [← I3_m2]; exact (Int32.ofInt_sub (-2) v).symm
  rw [e]
  exact kr hw.1 hw.2
theorem z_vo2 (X : Cx E 1 h0 P0 kc0 ks0 S0 A p l R s m args meth c cc nL ret d) (hS : HS E 1 h0 P0 kc0 ks0 Sb A s.heap P (toC V) Z H locs cells slots) {v : Int} {K : Int → Prop} (hw : xA (-2 - v) K) {index : Nat} (hG : GoodIn lw_all (va_wsS (gR 1) index yX2_valueOf (ws_ yX2_valueOf cX2_valueOf 1 (some .int)))) (hdd : 1 ≤ d) (hls : ls.size = nL) (hrm : (rest.map fun v => v.category).sum ≤ 8) (hdg : decode cc pc = .ok (.invokestatic index, 3))
    (kr : inR (-2 - v) → K (-2 - v) → W p l e R s m args below meth c H locs cells slots Qe (F0 m (pc + 3) ls (.int (I3 (-2 - v)) :: rest))) : W p l e R s m args below meth c H locs cells slots Qe (F0 m pc ls (.int (I3 v) :: rest)) := by
  refine r_st X hS (met_valueOf2 l (I3 v)) hG (n := 1) (by decide +kernel) rfl hdd (by decide) hls hrm hdg (st0 := .int (I3 v) :: rest) rfl ?_
  have e : (-2 : Int32) - I3 v = I3 (-2 - v) := by rw [← I3_m2]; exact (Int32.ofInt_sub (-2) v).symm
  rw [e]
  exact kr hw.1 hw.2
/-- need -/
theorem z_needT {b : Bool} (X : Cx E 0 h0 P0 kc0 ks0 S0 A p l R s m args meth c cc nL ret d) (hS : HS E 0 h0 P0 kc0 ks0 Sb A s.heap P (toC V) Z H locs cells slots) (hM : inM V) {z : Int} (hz : inR z) {K : Prop} (hw : xN z V Z PX K) {index : Nat} (hG : GoodIn lw_all (va_wsS RX1 index yX1_need (ws_ yX1_need cX1_need 1 none)))
    (hdd : 7 ≤ d) (hls : ls.size = nL) (hrm : (rest.map fun v => v.category).sum ≤ 8) (hdg : decode cc pc = .ok (.invokestatic index, 3))
    (kr : ¬ z = 0 → K → W p l e R s m args below meth c H locs cells slots (MQx below (QT E 0 h0 b P0 kc0 ks0 Sb A (QL Q) (PL PX) s) s) (F0 m (pc + 3) ls rest)) :
    W p l e R s m args below meth c H locs cells slots (MQx below (QT E 0 h0 b P0 kc0 ks0 Sb A (QL Q) (PL PX) s) s) (F0 m pc ls (.int (I3 z) :: rest)) := by
  have e : I3 z = 0 ↔ z = 0 := by rw [← I3_0]; exact I3_eq hz inR_0
  exact r_needT X hS (fun h => ⟨(hw.1 (e.mp h)).1, V, hM, rfl, (hw.1 (e.mp h)).2⟩) hG hdd hls hrm hdg (fun h => kr (fun q => h (e.mpr q)) (hw.2 (fun q => h (e.mpr q))))
theorem z_needR {b : Bool} (X : Cx E 0 h0 P0 kc0 ks0 S0 A p l R s m args meth c cc nL ret d) (hS : HS E 0 h0 P0 kc0 ks0 Sb A s.heap P (toC V) Z s.heap [] 0 0) (hM : inM V) {z : Int} (hz : inR z) {K : Prop} (hw : xN z V Z PX K) {index : Nat} (hG : GoodIn lw_all (va_wsS RX1 index yX1_need (ws_ yX1_need cX1_need 1 none)))
    (hdd : 7 ≤ d) (hls : ls.size = nL) (hrm : (rest.map fun v => v.category).sum ≤ 8) (hdg : decode cc pc = .ok (.invokestatic index, 3))
    (kr : ¬ z = 0 → K → W p l e R s m args below meth c s.heap [] 0 0 (MQx below (QR b (toC V) Z (RL Qr) (PL PX) s) s) (F0 m (pc + 3) ls rest)) :
    W p l e R s m args below meth c s.heap [] 0 0 (MQx below (QR b (toC V) Z (RL Qr) (PL PX) s) s) (F0 m pc ls (.int (I3 z) :: rest)) := by
  have e : I3 z = 0 ↔ z = 0 := by rw [← I3_0]; exact I3_eq hz inR_0
  exact r_needR X hS (fun h => ⟨(hw.1 (e.mp h)).1, V, hM, rfl, (hw.1 (e.mp h)).2⟩) hG hdd hls hrm hdg (fun h => kr (fun q => h (e.mpr q)) (hw.2 (fun q => h (e.mpr q))))
/-- throws of IllegalStateException in a method that has written nothing -/
theorem z_thrT {b : Bool} (X : Cx E 0 h0 P0 kc0 ks0 S0 A p l R s m args meth c cc nL ret d) (hS : HS E 0 h0 P0 kc0 ks0 Sb A s.heap P (toC V) Z s.heap [] 0 0) (hM : inM V) (hw : xT 1 V Z PX) (hls : ls.size = nL) (hdd : 6 ≤ d)
    (hd0 : decode cc pc = .ok (.new 272, 3)) (hd3 : decode cc (pc + 3) = .ok (.dup, 1)) (hd4 : decode cc (pc + 4) = .ok (.invokespecial 274, 3)) (hd7 : decode cc (pc + 7) = .ok (.athrow, 1)) :
    W p l e R s m args below meth c s.heap [] 0 0 (MQx below (QT E 0 h0 b P0 kc0 ks0 Sb A (QL Q) (PL PX) s) s) (F0 m pc ls []) :=
  r_thrT X hS 1 ex_all1 q267 q66 (by decide +kernel) hls hdd (by decide) hw.1 hd0 hd3 hd4 hd7 ⟨V, hM, rfl, hw.2⟩
theorem z_thrR {b : Bool} (X : Cx E 0 h0 P0 kc0 ks0 S0 A p l R s m args meth c cc nL ret d) (hS : HS E 0 h0 P0 kc0 ks0 Sb A s.heap P (toC V) Z s.heap [] 0 0) (hM : inM V) (hw : xT 1 V Z PX) (hls : ls.size = nL) (hdd : 6 ≤ d)
    (hd0 : decode cc pc = .ok (.new 272, 3)) (hd3 : decode cc (pc + 3) = .ok (.dup, 1)) (hd4 : decode cc (pc + 4) = .ok (.invokespecial 274, 3)) (hd7 : decode cc (pc + 7) = .ok (.athrow, 1)) :
    W p l e R s m args below meth c s.heap [] 0 0 (MQx below (QR b (toC V) Z (RL Qr) (PL PX) s) s) (F0 m pc ls []) :=
  r_thrR X hS 1 ex_all1 q267 q66 (by decide +kernel) hls hdd (by decide) hw.1 hd0 hd3 hd4 hd7 ⟨V, hM, rfl, hw.2⟩
theorem z_callI {y : MethodName} {bytes : ByteArray} {maxL : Nat} {ret' : Option FieldType} {d' : Nat} {b2 : Bool} {Sb' : Nat → Bool} {av : List Value} {Q1 : Po} (X : Cx E g h0 P0 kc0 ks0 S0 A p l R s m args meth c cc nL ret d) (hS : HS E g h0 P0 kc0 ks0 Sb A s.heap P (toC V) Z H locs cells slots)
    (hM : MT l S0 E g h0 y bytes maxL ret' d' true Sb' av (toC V) Z (QL Q1) (PL PX)) {index n : Nat} (hG : GoodIn lw_all (wsV (gR g) index (gR g) y (ws_ y bytes maxL ret')))
    (hdy : y.cls = gR g ∧ y.cls ≠ "java/lang/invoke/MethodHandle" ∧ y.cls ≠ "java/lang/invoke/VarHandle" ∧ (parseMethodDescriptor y.desc).map (fun d => d.parameters.length) = some n) (hn : av.length = n) (hdd : d' + 1 ≤ d) (hmL : maxL ≤ 45) (hSb : ∀ k, Sb k = false → Sb' k = false) (hls : ls.size = nL) (hrm : (rest.map fun v => v.category).sum ≤ 8) (hdg : decode cc pc = .ok (.invokevirtual index, 3))
    {st0 : List Value} (hst0 : st0 = av.reverse ++ .ref h0 :: rest)
    (kr : ∀ (x : Int) (V1 : Mv) (Z1 : Le), inR x → inM V1 → Q1 x V1 Z1 → ∀ (P1 : Le) (H1 : Heap) (locs1 : List Loc) (c1 s1 : Nat), (∀ k, Sb' k = false → P1 k = P k) → HS E g h0 P0 kc0 ks0 Sb A s.heap P1 (toC V1) Z1 H1 locs1 c1 s1 → W p l e R s m args below meth c H1 locs1 c1 s1 (MQx below (QT E g h0 b2 P0 kc0 ks0 Sb A (QL Q) (PL PX) s) s) (F0 m (pc + 3) ls (.int (I3 x) :: rest))) :
    W p l e R s m args below meth c H locs cells slots (MQx below (QT E g h0 b2 P0 kc0 ks0 Sb A (QL Q) (PL PX) s) s) (F0 m pc ls st0) :=
  z_call X hS hM hG hdy hn hdd hmL hSb hls hrm hdg hst0 kr
theorem z_callV {y : MethodName} {bytes : ByteArray} {maxL : Nat} {ret' : Option FieldType} {d' : Nat} {b2 : Bool} {Sb' : Nat → Bool} {av : List Value} {Q1 : Po} (X : Cx E g h0 P0 kc0 ks0 S0 A p l R s m args meth c cc nL ret d) (hS : HS E g h0 P0 kc0 ks0 Sb A s.heap P (toC V) Z H locs cells slots)
    (hM : MT l S0 E g h0 y bytes maxL ret' d' false Sb' av (toC V) Z (QL Q1) (PL PX)) {index n : Nat} (hG : GoodIn lw_all (wsV (gR g) index (gR g) y (ws_ y bytes maxL ret')))
    (hdy : y.cls = gR g ∧ y.cls ≠ "java/lang/invoke/MethodHandle" ∧ y.cls ≠ "java/lang/invoke/VarHandle" ∧ (parseMethodDescriptor y.desc).map (fun d => d.parameters.length) = some n) (hn : av.length = n) (hdd : d' + 1 ≤ d) (hmL : maxL ≤ 45) (hSb : ∀ k, Sb k = false → Sb' k = false) (hls : ls.size = nL) (hrm : (rest.map fun v => v.category).sum ≤ 8) (hdg : decode cc pc = .ok (.invokevirtual index, 3))
    {st0 : List Value} (hst0 : st0 = av.reverse ++ .ref h0 :: rest)
    (kr : ∀ (x : Int) (V1 : Mv) (Z1 : Le), inR x → inM V1 → Q1 x V1 Z1 → ∀ (P1 : Le) (H1 : Heap) (locs1 : List Loc) (c1 s1 : Nat), (∀ k, Sb' k = false → P1 k = P k) → HS E g h0 P0 kc0 ks0 Sb A s.heap P1 (toC V1) Z1 H1 locs1 c1 s1 → W p l e R s m args below meth c H1 locs1 c1 s1 (MQx below (QT E g h0 b2 P0 kc0 ks0 Sb A (QL Q) (PL PX) s) s) (F0 m (pc + 3) ls rest)) :
    W p l e R s m args below meth c H locs cells slots (MQx below (QT E g h0 b2 P0 kc0 ks0 Sb A (QL Q) (PL PX) s) s) (F0 m pc ls st0) :=
  z_call X hS hM hG hdy hn hdd hmL hSb hls hrm hdg hst0 kr
theorem z_cRI {y : MethodName} {bytes : ByteArray} {maxL : Nat} {ret' : Option FieldType} {d' : Nat} {b2 : Bool} {av : List Value} (X : Cx E g h0 P0 kc0 ks0 S0 A p l R s m args meth c cc nL ret d) (hS : HS E g h0 P0 kc0 ks0 Sb A s.heap P (toC V) Z H locs cells slots)
    (hM : MR l S0 E g h0 y bytes maxL ret' d' true av (toC V) Z (RL Qr) (PL PX)) {index n : Nat} (hG : GoodIn lw_all (wsV (gR g) index (gR g) y (ws_ y bytes maxL ret')))
    (hdy : y.cls = gR g ∧ y.cls ≠ "java/lang/invoke/MethodHandle" ∧ y.cls ≠ "java/lang/invoke/VarHandle" ∧ (parseMethodDescriptor y.desc).map (fun d => d.parameters.length) = some n) (hn : av.length = n) (hdd : d' + 1 ≤ d) (hmL : maxL ≤ 45) (hN : gN g ≤ 1000) (hls : ls.size = nL) (hrm : (rest.map fun v => v.category).sum ≤ 8) (hdg : decode cc pc = .ok (.invokevirtual index, 3))
    {st0 : List Value} (hst0 : st0 = av.reverse ++ .ref h0 :: rest)
    (kr : ∀ (x : Int), inR x → Qr x → W p l e R s m args below meth c H locs cells slots (MQx below (QT E g h0 b2 P0 kc0 ks0 Sb A (QL Q) (PL PX) s) s) (F0 m (pc + 3) ls (.int (I3 x) :: rest))) :
    W p l e R s m args below meth c H locs cells slots (MQx below (QT E g h0 b2 P0 kc0 ks0 Sb A (QL Q) (PL PX) s) s) (F0 m pc ls st0) :=
  z_cR X hS hM hG hdy hn hdd hmL hN hls hrm hdg hst0 kr
theorem z_cRV {y : MethodName} {bytes : ByteArray} {maxL : Nat} {ret' : Option FieldType} {d' : Nat} {b2 : Bool} {av : List Value} (X : Cx E g h0 P0 kc0 ks0 S0 A p l R s m args meth c cc nL ret d) (hS : HS E g h0 P0 kc0 ks0 Sb A s.heap P (toC V) Z H locs cells slots)
    (hM : MR l S0 E g h0 y bytes maxL ret' d' false av (toC V) Z (RL Qr) (PL PX)) {index n : Nat} (hG : GoodIn lw_all (wsV (gR g) index (gR g) y (ws_ y bytes maxL ret')))
    (hdy : y.cls = gR g ∧ y.cls ≠ "java/lang/invoke/MethodHandle" ∧ y.cls ≠ "java/lang/invoke/VarHandle" ∧ (parseMethodDescriptor y.desc).map (fun d => d.parameters.length) = some n) (hn : av.length = n) (hdd : d' + 1 ≤ d) (hmL : maxL ≤ 45) (hN : gN g ≤ 1000) (hls : ls.size = nL) (hrm : (rest.map fun v => v.category).sum ≤ 8) (hdg : decode cc pc = .ok (.invokevirtual index, 3))
    {st0 : List Value} (hst0 : st0 = av.reverse ++ .ref h0 :: rest)
    (kr : ∀ (x : Int), inR x → Qr x → W p l e R s m args below meth c H locs cells slots (MQx below (QT E g h0 b2 P0 kc0 ks0 Sb A (QL Q) (PL PX) s) s) (F0 m (pc + 3) ls rest)) :
    W p l e R s m args below meth c H locs cells slots (MQx below (QT E g h0 b2 P0 kc0 ks0 Sb A (QL Q) (PL PX) s) s) (F0 m pc ls st0) :=
  z_cR X hS hM hG hdy hn hdd hmL hN hls hrm hdg hst0 kr
theorem z_cRRI {Q2 : Int → Prop} {y : MethodName} {bytes : ByteArray} {maxL : Nat} {ret' : Option FieldType} {d' : Nat} {b2 : Bool} {av : List Value} (X : Cx E g h0 P0 kc0 ks0 S0 A p l R s m args meth c cc nL ret d) (hS : HS E g h0 P0 kc0 ks0 Sb A s.heap P (toC V) Z s.heap [] 0 0)
    (hM : MR l S0 E g h0 y bytes maxL ret' d' true av (toC V) Z (RL Qr) (PL PX)) {index n : Nat} (hG : GoodIn lw_all (wsV (gR g) index (gR g) y (ws_ y bytes maxL ret')))
    (hdy : y.cls = gR g ∧ y.cls ≠ "java/lang/invoke/MethodHandle" ∧ y.cls ≠ "java/lang/invoke/VarHandle" ∧ (parseMethodDescriptor y.desc).map (fun d => d.parameters.length) = some n) (hn : av.length = n) (hdd : d' + 1 ≤ d) (hmL : maxL ≤ 45) (hls : ls.size = nL) (hrm : (rest.map fun v => v.category).sum ≤ 8) (hdg : decode cc pc = .ok (.invokevirtual index, 3))
    {st0 : List Value} (hst0 : st0 = av.reverse ++ .ref h0 :: rest)
    (kr : ∀ (x : Int), inR x → Qr x → W p l e R s m args below meth c s.heap [] 0 0 (MQx below (QR b2 (toC V) Z (RL Q2) (PL PX) s) s) (F0 m (pc + 3) ls (.int (I3 x) :: rest))) :
    W p l e R s m args below meth c s.heap [] 0 0 (MQx below (QR b2 (toC V) Z (RL Q2) (PL PX) s) s) (F0 m pc ls st0) :=
  z_cRR X hS hM hG hdy hn hdd hmL hls hrm hdg hst0 kr
theorem z_cRRV {Q2 : Int → Prop} {y : MethodName} {bytes : ByteArray} {maxL : Nat} {ret' : Option FieldType} {d' : Nat} {b2 : Bool} {av : List Value} (X : Cx E g h0 P0 kc0 ks0 S0 A p l R s m args meth c cc nL ret d) (hS : HS E g h0 P0 kc0 ks0 Sb A s.heap P (toC V) Z s.heap [] 0 0)
    (hM : MR l S0 E g h0 y bytes maxL ret' d' false av (toC V) Z (RL Qr) (PL PX)) {index n : Nat} (hG : GoodIn lw_all (wsV (gR g) index (gR g) y (ws_ y bytes maxL ret')))
    (hdy : y.cls = gR g ∧ y.cls ≠ "java/lang/invoke/MethodHandle" ∧ y.cls ≠ "java/lang/invoke/VarHandle" ∧ (parseMethodDescriptor y.desc).map (fun d => d.parameters.length) = some n) (hn : av.length = n) (hdd : d' + 1 ≤ d) (hmL : maxL ≤ 45) (hls : ls.size = nL) (hrm : (rest.map fun v => v.category).sum ≤ 8) (hdg : decode cc pc = .ok (.invokevirtual index, 3))
    {st0 : List Value} (hst0 : st0 = av.reverse ++ .ref h0 :: rest)
    (kr : ∀ (x : Int), inR x → Qr x → W p l e R s m args below meth c s.heap [] 0 0 (MQx below (QR b2 (toC V) Z (RL Q2) (PL PX) s) s) (F0 m (pc + 3) ls rest)) :
    W p l e R s m args below meth c s.heap [] 0 0 (MQx below (QR b2 (toC V) Z (RL Q2) (PL PX) s) s) (F0 m pc ls st0) :=
  z_cRR X hS hM hG hdy hn hdd hmL hls hrm hdg hst0 kr
theorem inR_ite {q : Prop} [Decidable q] : inR (if q then 1 else 0) := by
  split
  · exact inR_1
  · exact inR_0
theorem z_case {T F G q : Prop} (hw : xI q T F) (kt : q → T → G) (kf : ¬ q → F → G) : G := by
  by_cases h : q
  · exact kt h (hw.1 h)
  · exact kf h (hw.2 h)
theorem z_beq {q : Prop} [Decidable q] {T F : Prop} {off : Int} {tgt : Nat} (hx : p.tables.exec = Jvm.exec) (hb : c.code = cc) (hw : xI q F T) (hdg : decode cc pc = .ok (.ifCond .eq off, 3)) (ht : (pc : Int) + off = (tgt : Int)) (kt : ¬ q → T → W p l e R s m args below meth c H locs cells slots Qe (F0 m tgt ls rest)) (kf : q → F → W p l e R s m args below meth c H locs cells slots Qe (F0 m (pc + 3) ls rest)) : W p l e R s m args below meth c H locs cells slots Qe (F0 m pc ls (.int (I3 (if q then 1 else 0)) :: rest)) := by
  by_cases h : q
  · rw [if_pos h]
    exact z_zeq hx hb inR_1 (T := True) (F := F) ⟨fun z => absurd z (by decide), fun _ => hw.1 h⟩ hdg ht (fun z => absurd z (by decide)) (fun _ hf => kf h hf)
  · rw [if_neg h]
    exact z_zeq hx hb inR_0 (T := T) (F := True) ⟨fun _ => hw.2 h, fun z => absurd rfl z⟩ hdg ht (fun _ ht => kt h ht) (fun z => absurd rfl z)
theorem z_bne {q : Prop} [Decidable q] {T F : Prop} {off : Int} {tgt : Nat} (hx : p.tables.exec = Jvm.exec) (hb : c.code = cc) (hw : xI q T F) (hdg : decode cc pc = .ok (.ifCond .ne off, 3)) (ht : (pc : Int) + off = (tgt : Int)) (kt : q → T → W p l e R s m args below meth c H locs cells slots Qe (F0 m tgt ls rest)) (kf : ¬ q → F → W p l e R s m args below meth c H locs cells slots Qe (F0 m (pc + 3) ls rest)) : W p l e R s m args below meth c H locs cells slots Qe (F0 m pc ls (.int (I3 (if q then 1 else 0)) :: rest)) := by
  by_cases h : q
  · rw [if_pos h]
    exact z_zne hx hb inR_1 (T := T) (F := True) ⟨fun z => absurd z (by decide), fun _ => hw.1 h⟩ hdg ht (fun _ ht => kt h ht) (fun z => absurd z (by decide))
  · rw [if_neg h]
    exact z_zne hx hb inR_0 (T := True) (F := F) ⟨fun _ => hw.2 h, fun z => absurd rfl z⟩ hdg ht (fun z => absurd rfl z) (fun _ hf => kf h hf)
theorem I3_mil : I3 (-1000000) = -1000000 := by decide +kernel
theorem z_ldc1 (X : Cx E 0 h0 P0 kc0 ks0 S0 A p l R s m args meth c cc nL ret d) (hdg : decode cc pc = .ok (.ldc_w 304, 3)) (k : W p l e R s m args below meth c H locs cells slots Qe (F0 m (pc + 3) ls (.int (I3 (-1000000)) :: rest))) : W p l e R s m args below meth c H locs cells slots Qe (F0 m pc ls rest) := by
  obtain ⟨-, hx, hb, -, hown, hts, -⟩ := X
  rw [I3_mil] at k
  exact lv_ldcw hx hb hown (hts _ q254) hdg k
theorem z_ldc2 (X : Cx E 1 h0 P0 kc0 ks0 S0 A p l R s m args meth c cc nL ret d) (hdg : decode cc pc = .ok (.ldc_w 275, 3)) (k : W p l e R s m args below meth c H locs cells slots Qe (F0 m (pc + 3) ls (.int (I3 (-1000000)) :: rest))) : W p l e R s m args below meth c H locs cells slots Qe (F0 m pc ls rest) := by
  obtain ⟨-, hx, hb, -, hown, hts, -⟩ := X
  rw [I3_mil] at k
  exact lv_ldcw hx hb hown (hts _ q966) hdg k
end ZCALLS
