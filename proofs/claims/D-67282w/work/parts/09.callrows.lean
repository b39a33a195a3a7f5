set_option maxRecDepth 100000
/-! OWN ROWS: calls and throws -/
def exh (cd : Nat) (x : Nat) (U : State) (H : Heap) : Prop := ∃ cell : Cell, H[x]? = some cell ∧ cell.vm = .none ∧ U.vm.findClass (xn cd) = some cell.cls
theorem exc.to {cd x : Nat} {t s : State} (h : exc cd x t) (hW : s.WarmedH t.vm) : exh cd x s t.heap := by
  obtain ⟨cell, h1, h2, h3⟩ := h
  exact ⟨cell, h1, h2, by rw [hW.alike.findClass] at h3; exact h3⟩
theorem exh.to {cd x : Nat} {t s : State} {H : Heap} (h : exh cd x s H) (ht : t.heap = H) (hW : s.WarmedH t.vm) : exc cd x t := by
  obtain ⟨cell, h1, h2, h3⟩ := h
  exact ⟨cell, by rw [ht]; exact h1, h2, by rw [hW.alike.findClass]; exact h3⟩
theorem same_of {s U : State} {k n : Nat} (h : s.sameButNew ({ U with vm := s.vm } : State) [] k n) : s.heap.size ≤ U.heap.size ∧ ∀ q, q < s.heap.size → U.heap[q]? = s.heap[q]? := by
  obtain ⟨-, h2, -, -, -, h6⟩ := h
  refine ⟨h2, fun q hq => ?_⟩
  obtain ⟨c', e1, e2, e3, e4⟩ := h6 q _ (Array.getElem?_eq_getElem hq)
  have e1' : U.heap[q]? = some c' := e1
  rw [e1', Array.getElem?_eq_getElem hq]
  have hs : c'.slots = (s.heap[q]).slots := by
    apply Array.ext_getElem?
    intro i
    exact e4 i (by simp)
  rw [e2, hs]
section CROWS
variable {p : Program} {l : Launch} {e : Env} {R : Room} {s : State} {m : MethodId} {args : Array Value} {below : List Frame} {meth : Method} {c : Code} {H : Heap} {locs : List Loc} {cells slots : Nat} {Qe : State → Prop}
variable {E : Ev} {g h0 : Nat} {P0 : Le} {kc0 ks0 : Nat} {S0 : State} {A : Nat → Prop} {cc : ByteArray} {nL : Nat} {ret : Option FieldType} {d : Nat} {Sb : Nat → Bool} {P : Le} {C : Me} {Z : Le}
variable {pc : Nat} {ls : Array Slot} {rest : List Value}
/-- new, dup, the constructor and athrow: the method ends with the exception; nothing has been written so far -/
theorem r_thr {Qy : Outcome → State → List Loc → Nat → Nat → Prop} (cd : Nat) (hat : ∀ a ∈ Jvm.Bundle.ownAtoms0 RX1 (xic cd) (xn cd) xnames, a ∈ lw_all ∨ a ∈ exW) (hcl : Cond.classLink RX1 (xia cd) (xn cd) ∈ lw_all) (hini : Cond.initialized (xn cd) ∈ lw_all) (hfit : Jvm.Bundle.fit (xn cd) = true)
    (hx : p.tables.exec = Jvm.exec) (hb : c.code = cc) (hown : s.vm.findClass RX1 = some m.cls) (hts : ∀ w ∈ lw_all, w.before args s = true) (hlk : meth.locks = false) (hex : c.exceptionTable.toList = []) (hE : EX l S0 A s) (hsize : ls.size = c.maxLocals)
    (hfr : 5 < R.frames) (hlo : (rest.map fun v => v.category).sum + 81 ≤ R.locals) (hce : 1 ≤ R.cells) (hsl : 6 ≤ R.slots)
    (hd0 : decode cc pc = .ok (.new (xia cd), 3)) (hd3 : decode cc (pc + 3) = .ok (.dup, 1)) (hd4 : decode cc (pc + 4) = .ok (.invokespecial (xic cd), 3)) (hd7 : decode cc (pc + 7) = .ok (.athrow, 1))
    (hq : ∀ (t : State) (x : Addr), s.heap.size ≤ t.heap.size → (∀ q, q < s.heap.size → t.heap[q]? = s.heap[q]?) → s.WarmedH t.vm → exc cd x t → Qy (.threw x) t [] 1 6) :
    W p l e R s m args below meth c s.heap [] 0 0 (MQx below Qy s) (F0 m pc ls rest) := by
  have hall : ∀ a ∈ Jvm.Bundle.ownAtoms0 RX1 (xic cd) (xn cd) xnames, a.before args s = true := by
    intro a ha
    rcases hat a ha with h | h
    · exact hts a h
    · exact hE.use args a h
  refine W.newc (n := 6) hx hb hown (hts _ hcl) (hall _ (by simp [Jvm.Bundle.ownAtoms0])) (hts _ hini) rfl hd0 (by omega) (by omega) fun cC kC h1 h2 h3 h4 => ?_
  refine lv_dup hx hb hd3 rfl ?_
  intro T hT X
  have htr : e.platform.stackTraces = false := by
    rw [X.admits.platform]
    show l.stackTraces = false
    unfold Launch.stackTraces
    rw [hE.1]
    decide +kernel
  have hcell : T.heap[s.heap.size]? = some (freshCell cC kC) := by
    rw [hT]
    simp [freshCell]
  obtain ⟨U, u1, u2, u3, u4, u5, ce, u6, u7⟩ := X.ctorThrow0 hx htr hown hfit (names := xnames) (by decide +kernel) hall (fun z hz => by cases hz) h1 h2 hcell (Nat.le_refl _) (g := F0 m (pc + 4) ls (.ref s.heap.size :: .ref s.heap.size :: rest)) rfl hsize rfl rfl rfl (by rw [hb]; exact hd4) (by rw [hb]; exact hd7) (by rw [hex]; intro z hz; cases hz)
    (by show 2 + 3 < R.frames; omega) (by
      show 2 * 0 + (1 + (rest.map fun v => v.category).sum) + (13 * (2 + 1) + 41) ≤ R.locals
      omega) hlk
  have hsame := same_of u5
  exact ⟨U, u1, .threw s.heap.size, u2, u3, [], 0 + 1, 0 + 6, ⟨u4, u5⟩, hq U _ hsame.1 hsame.2 u4 ⟨ce, u6, u7.vm, by rw [u4.alike.findClass]; exact u7.cls⟩⟩
theorem r_recv (X : Cx E g h0 P0 kc0 ks0 S0 A p l R s m args meth c cc nL ret d) (hP : hp E g h0 P C Z H) : ∃ cellB : Cell, H[h0]? = some cellB ∧ cellB.vm.isStatics = false ∧ s.vm.findClass (gR g) = some cellB.cls := by
  obtain ⟨⟨hc, -⟩, -, -, -, -, -, -, -, hK, -⟩ := X
  obtain ⟨cell, q1, q2, q3, q4⟩ := hP.1
  exact ⟨cell, q1, by rw [q3]; rfl, by rw [q2]; exact (hK.1 g _ hc).2.1⟩
theorem HS.toA (X : Cx E g h0 P0 kc0 ks0 S0 A p l R s m args meth c cc nL ret d) (hS : HS E g h0 P0 kc0 ks0 Sb A s.heap P C Z H locs cells slots) : ∀ q, ao g h0 P H.size q → A q := by
  obtain ⟨hP, hD, hS0, -⟩ := hS
  obtain ⟨-, -, -, -, -, -, -, -, -, hA, -⟩ := X
  exact hD.toA (fun q hq => by rw [hA]; exact Or.inr (Or.inr (Nat.le_trans hS0.1 hq)))
theorem HS.pw (X : Cx E g h0 P0 kc0 ks0 S0 A p l R s m args meth c cc nL ret d) (hS : HS E g h0 P0 kc0 ks0 Sb A s.heap P C Z H locs cells slots) {U : State} (hU : U.heap = H) (hW : s.WarmedH U.vm) : Pw l S0 E g h0 P H.size C Z U := by
  have hAs := HS.toA X hS
  obtain ⟨hP, hD, hS0, -⟩ := hS
  obtain ⟨-, -, -, -, -, -, -, -, hK, -, -, hE, -⟩ := X
  exact ⟨by rw [hU], by rw [hU]; exact hP, hD.weaken (fun _ _ => trivial), va_K.moved hW.alike hK, hE.go hS0 hAs hU hW⟩
/-- a call of a method with a contract MT that doesn't throw -/
theorem r_call {y : MethodName} {bytes : ByteArray} {maxL : Nat} {ret' : Option FieldType} {d' : Nat} {b : Bool} {Sb' : Nat → Bool} {av : List Value} {Q : Int32 → Me → Le → Prop} (X : Cx E g h0 P0 kc0 ks0 S0 A p l R s m args meth c cc nL ret d) (hS : HS E g h0 P0 kc0 ks0 Sb A s.heap P C Z H locs cells slots)
    (hM : MT l S0 E g h0 y bytes maxL ret' d' b Sb' av C Z Q (fun _ _ _ => False)) {index n : Nat} (hG : GoodIn lw_all (wsV (gR g) index (gR g) y (ws_ y bytes maxL ret')))
    (hdy : y.cls = gR g ∧ y.cls ≠ "java/lang/invoke/MethodHandle" ∧ y.cls ≠ "java/lang/invoke/VarHandle" ∧ (parseMethodDescriptor y.desc).map (fun d => d.parameters.length) = some n) (hn : av.length = n) (hdd : d' + 1 ≤ d) (hmL : maxL ≤ 45) (hSb : ∀ k, Sb k = false → Sb' k = false) (hls : ls.size = nL) (hrm : (rest.map fun v => v.category).sum ≤ 8) (hdg : decode cc pc = .ok (.invokevirtual index, 3))
    {st0 : List Value} (hst0 : st0 = av.reverse ++ .ref h0 :: rest)
    (kr : ∀ (r : Int32) (C1 : Me) (Z1 : Le), Q r C1 Z1 → ∀ (P1 : Le) (H1 : Heap) (locs1 : List Loc) (c1 s1 : Nat), (∀ k, Sb' k = false → P1 k = P k) → HS E g h0 P0 kc0 ks0 Sb A s.heap P1 C1 Z1 H1 locs1 c1 s1 → W p l e R s m args below meth c H1 locs1 c1 s1 Qe (F0 m (pc + 3) ls ((ans b r).toList ++ rest))) :
    W p l e R s m args below meth c H locs cells slots Qe (F0 m pc ls st0) := by
  subst hst0
  have hAs := HS.toA X hS
  have hrecv := r_recv X hS.1
  have hpw := fun (U : State) (hU : U.heap = H) (hW : s.WarmedH U.vm) => HS.pw X hS hU hW
  obtain ⟨hgk, hx, hb, hml, hown, hts, hlk, hr, hK, hA, hR, hE, hex⟩ := X
  obtain ⟨hP, hD, hS0, hSb0, hz1, hz2⟩ := hS
  subst hR
  have hZ1 := hP.2.2.1
  have hZ2 := hP.2.2.2
  refine runVx (rest := rest) (As := av) (b := h0) ⟨hx, hb, hml, hown, hts⟩ (hM P H.size) (cwV n hts hG rfl rfl rfl hdy ⟨hdd, by show 8 + (maxL + 11) + 64 * d' ≤ 64 * d; omega⟩) ⟨Pw.blind, hrecv, fun U hU hW => ⟨rfl, hpw U hU hW⟩⟩ rfl hn hls rfl (lv_room hrm) hdg ⟨by show cells + (KC - Z 1000) ≤ KC - kc0; omega, by show slots + (KS - Z 1001) ≤ KS - ks0; omega⟩ ?_ ?_
  · intro v st t L k j hst hW hq
    obtain ⟨hL, hF, P1, C1, Z1, hP1, hD1, hSb1, hk1, hk2, hor⟩ := hq
    rcases hor with ⟨r, hv, hQ⟩ | ⟨x, cd, hv, hf, -⟩
    · cases hv
      refine kr r C1 Z1 hQ P1 t.heap _ _ _ hSb1 ⟨hP1, hD1.weaken hAs, ⟨Nat.le_trans hS0.1 (by rw [← hst]; exact hF.1), fun q h1 h2 => ?_, fun q hq => ?_⟩, fun i hi => (hSb1 i (hSb i hi)).trans (hSb0 i hi), by omega, by omega⟩
      · rw [hF.2 q (by rw [hst]; exact Nat.lt_of_lt_of_le h1 hS0.1) (fun z => h2 (hAs q z)), hst]
        exact hS0.2.1 q h1 h2
      · rcases List.mem_append.mp hq with h | h
        · exact hS0.2.2 q h
        · exact hAs _ (hL q h)
    · exact hf.elim
  · intro x st t L k j hst hW hq
    obtain ⟨hL, hF, P1, C1, Z1, hP1, hD1, hSb1, hk1, hk2, hor⟩ := hq
    rcases hor with ⟨r, hv, -⟩ | ⟨x', cd, hv, hf, -⟩
    · cases hv
    · exact hf.elim
/-- a call of a method that reads alone -/
theorem r_cR {y : MethodName} {bytes : ByteArray} {maxL : Nat} {ret' : Option FieldType} {d' : Nat} {b : Bool} {av : List Value} {Q : Int32 → Me → Le → Prop} {PX : Nat → Me → Le → Prop} (X : Cx E g h0 P0 kc0 ks0 S0 A p l R s m args meth c cc nL ret d) (hS : HS E g h0 P0 kc0 ks0 Sb A s.heap P C Z H locs cells slots)
    (hM : MR l S0 E g h0 y bytes maxL ret' d' b av C Z Q PX) {index n : Nat} (hG : GoodIn lw_all (wsV (gR g) index (gR g) y (ws_ y bytes maxL ret')))
    (hdy : y.cls = gR g ∧ y.cls ≠ "java/lang/invoke/MethodHandle" ∧ y.cls ≠ "java/lang/invoke/VarHandle" ∧ (parseMethodDescriptor y.desc).map (fun d => d.parameters.length) = some n) (hn : av.length = n) (hdd : d' + 1 ≤ d) (hmL : maxL ≤ 45) (hls : ls.size = nL) (hrm : (rest.map fun v => v.category).sum ≤ 8) (hdg : decode cc pc = .ok (.invokevirtual index, 3))
    {st0 : List Value} (hst0 : st0 = av.reverse ++ .ref h0 :: rest)
    (kr : ∀ (r : Int32), Q r C Z → W p l e R s m args below meth c H locs cells slots Qe (F0 m (pc + 3) ls ((ans b r).toList ++ rest)))
    (kx : ∀ (cd x : Nat) (H1 : Heap), PX cd C (zx Z) → (Z 1000 + 1 ≤ KC ∧ Z 1001 + 6 ≤ KS) → H.size ≤ H1.size → (∀ q, q < H.size → H1[q]? = H[q]?) → exh cd x s H1 → WT p l e R s m args below meth c H1 locs (cells + 1) (slots + 6) Qe x (F0 m pc ls rest)) :
    W p l e R s m args below meth c H locs cells slots Qe (F0 m pc ls st0) := by
  subst hst0
  have hrecv := r_recv X hS.1
  have hpw := fun (U : State) (hU : U.heap = H) (hW : s.WarmedH U.vm) => HS.pw X hS hU hW
  obtain ⟨hgk, hx, hb, hml, hown, hts, hlk, hr, hK, hA, hR, hE, hex⟩ := X
  obtain ⟨hP, hD, hS0, hSb0, hz1, hz2⟩ := hS
  subst hR
  have hZ1 := hP.2.2.1
  have hZ2 := hP.2.2.2
  refine runVx (rest := rest) (As := av) (b := h0) ⟨hx, hb, hml, hown, hts⟩ (hM P H.size) (cwV n hts hG rfl rfl rfl hdy ⟨hdd, by show 8 + (maxL + 11) + 64 * d' ≤ 64 * d; omega⟩) ⟨Pw.blind, hrecv, fun U hU hW => ⟨rfl, hpw U hU hW⟩⟩ rfl hn hls rfl (lv_room hrm) hdg ⟨by show cells + (KC - Z 1000) ≤ KC - kc0; omega, by show slots + (KS - Z 1001) ≤ KS - ks0; omega⟩ ?_ ?_
  · intro v st t L k j hst hW hq
    obtain ⟨hL, hor⟩ := hq
    rcases hor with ⟨r, hv, hh, hk, hj, hQ⟩ | ⟨x, cd, hv, -⟩
    · cases hv
      subst hL; subst hk; subst hj
      rw [List.append_nil, hh, hst]
      exact kr r hQ
    · cases hv
  · intro x st t L k j hst hW hq
    obtain ⟨hL, hor⟩ := hq
    rcases hor with ⟨r, hv, -⟩ | ⟨x', cd, hv, hk, hj, hbb, h1, h2, hpx, hexc⟩
    · cases hv
    · cases hv
      subst hL; subst hk; subst hj
      rw [List.append_nil]
      rw [hst] at h1 h2
      exact kx cd x t.heap hpx hbb h1 h2 (hexc.to hW)
theorem HS.grown (hS : HS E g h0 P0 kc0 ks0 Sb A s.heap P C Z H locs cells slots) {H1 : Heap} (h1 : H.size ≤ H1.size) (h2 : ∀ q, q < H.size → H1[q]? = H[q]?) (hb : Z 1000 + 1 ≤ KC ∧ Z 1001 + 6 ≤ KS) (hN : gN g ≤ 1000) : HS E g h0 P0 kc0 ks0 Sb A s.heap P C (zx Z) H1 locs (cells + 1) (slots + 6) := by
  obtain ⟨hP, hD, hS0, hSb0, hz1, hz2⟩ := hS
  refine ⟨(hP.grown h2).zx (fun k hk => ?_) ⟨?_, ?_⟩, hD, ⟨Nat.le_trans hS0.1 h1, fun q q1 q2 => ?_, hS0.2.2⟩, hSb0, ?_, ?_⟩
  · have h3 : k ≠ 1000 := by omega
    have h4 : k ≠ 1001 := by omega
    simp [zx, zU, h3, h4]
  · simp [zx, zU]; omega
  · simp [zx, zU]; omega
  · rw [h2 q (Nat.lt_of_lt_of_le q1 hS0.1)]; exact hS0.2.1 q q1 q2
  · simp [zx, zU]; omega
  · simp [zx, zU]; omega
/-- the exception leaves a method with a contract MT -/
theorem r_outT {b : Bool} {Q : Int32 → Me → Le → Prop} {PX : Nat → Me → Le → Prop} (X : Cx E g h0 P0 kc0 ks0 S0 A p l R s m args meth c cc nL ret d) (hS : HS E g h0 P0 kc0 ks0 Sb A s.heap P C Z H locs cells slots) {cd x : Nat} (hpx : PX cd C Z) (hexc : exh cd x s H) :
    WT p l e R s m args below meth c H locs cells slots (MQx below (QT E g h0 b P0 kc0 ks0 Sb A Q PX s) s) x (F0 m pc ls rest) := by
  obtain ⟨hgk, hx, hb, hml, hown, hts, hlk, hr, hK, hA, hR, hE, hex⟩ := X
  obtain ⟨hP, hD, hS0, hSb0, hz1, hz2⟩ := hS
  refine WT.out hex hlk fun t ht hW => ?_
  exact ⟨hS0.2.2, hS0.F ht, P, C, Z, by rw [ht]; exact hP, hD, hSb0, hz1, hz2, Or.inr ⟨x, cd, rfl, hpx, hexc.to ht hW⟩⟩
/-- the exception leaves a method that reads alone -/
theorem r_outR {b : Bool} {Q : Int32 → Me → Le → Prop} {PX : Nat → Me → Le → Prop} (X : Cx E g h0 P0 kc0 ks0 S0 A p l R s m args meth c cc nL ret d) {cd x : Nat} {H1 : Heap} (hpx : PX cd C (zx Z)) (hbb : Z 1000 + 1 ≤ KC ∧ Z 1001 + 6 ≤ KS) (h1 : s.heap.size ≤ H1.size) (h2 : ∀ q, q < s.heap.size → H1[q]? = s.heap[q]?) (hexc : exh cd x s H1) :
    WT p l e R s m args below meth c H1 [] (0 + 1) (0 + 6) (MQx below (QR b C Z Q PX s) s) x (F0 m pc ls rest) := by
  obtain ⟨hgk, hx, hb, hml, hown, hts, hlk, hr, hK, hA, hR, hE, hex⟩ := X
  refine WT.out hex hlk fun t ht hW => ?_
  exact ⟨rfl, Or.inr ⟨x, cd, rfl, rfl, rfl, hbb, by rw [ht]; exact h1, by rw [ht]; exact h2, hpx, hexc.to ht hW⟩⟩
/-- a call of a method that reads alone and may throw what we throw: in a method with a contract MT -/
theorem r_cRT {b2 : Bool} {Q2 : Int32 → Me → Le → Prop} {y : MethodName} {bytes : ByteArray} {maxL : Nat} {ret' : Option FieldType} {d' : Nat} {b : Bool} {av : List Value} {Q : Int32 → Me → Le → Prop} {PX : Nat → Me → Le → Prop} (X : Cx E g h0 P0 kc0 ks0 S0 A p l R s m args meth c cc nL ret d) (hS : HS E g h0 P0 kc0 ks0 Sb A s.heap P C Z H locs cells slots)
    (hM : MR l S0 E g h0 y bytes maxL ret' d' b av C Z Q PX) {index n : Nat} (hG : GoodIn lw_all (wsV (gR g) index (gR g) y (ws_ y bytes maxL ret')))
    (hdy : y.cls = gR g ∧ y.cls ≠ "java/lang/invoke/MethodHandle" ∧ y.cls ≠ "java/lang/invoke/VarHandle" ∧ (parseMethodDescriptor y.desc).map (fun d => d.parameters.length) = some n) (hn : av.length = n) (hdd : d' + 1 ≤ d) (hmL : maxL ≤ 45) (hN : gN g ≤ 1000) (hls : ls.size = nL) (hrm : (rest.map fun v => v.category).sum ≤ 8) (hdg : decode cc pc = .ok (.invokevirtual index, 3))
    {st0 : List Value} (hst0 : st0 = av.reverse ++ .ref h0 :: rest)
    (kr : ∀ (r : Int32), Q r C Z → W p l e R s m args below meth c H locs cells slots (MQx below (QT E g h0 b2 P0 kc0 ks0 Sb A Q2 PX s) s) (F0 m (pc + 3) ls ((ans b r).toList ++ rest))) :
    W p l e R s m args below meth c H locs cells slots (MQx below (QT E g h0 b2 P0 kc0 ks0 Sb A Q2 PX s) s) (F0 m pc ls st0) :=
  r_cR X hS hM hG hdy hn hdd hmL hls hrm hdg hst0 kr (fun cd x H1 hpx hbb h1 h2 hexc => r_outT X (hS.grown h1 h2 hbb hN) hpx hexc)
/-- the same in a method that reads alone -/
theorem r_cRR {b2 : Bool} {Q2 : Int32 → Me → Le → Prop} {y : MethodName} {bytes : ByteArray} {maxL : Nat} {ret' : Option FieldType} {d' : Nat} {b : Bool} {av : List Value} {Q : Int32 → Me → Le → Prop} {PX : Nat → Me → Le → Prop} (X : Cx E g h0 P0 kc0 ks0 S0 A p l R s m args meth c cc nL ret d) (hS : HS E g h0 P0 kc0 ks0 Sb A s.heap P C Z s.heap [] 0 0)
    (hM : MR l S0 E g h0 y bytes maxL ret' d' b av C Z Q PX) {index n : Nat} (hG : GoodIn lw_all (wsV (gR g) index (gR g) y (ws_ y bytes maxL ret')))
    (hdy : y.cls = gR g ∧ y.cls ≠ "java/lang/invoke/MethodHandle" ∧ y.cls ≠ "java/lang/invoke/VarHandle" ∧ (parseMethodDescriptor y.desc).map (fun d => d.parameters.length) = some n) (hn : av.length = n) (hdd : d' + 1 ≤ d) (hmL : maxL ≤ 45) (hls : ls.size = nL) (hrm : (rest.map fun v => v.category).sum ≤ 8) (hdg : decode cc pc = .ok (.invokevirtual index, 3))
    {st0 : List Value} (hst0 : st0 = av.reverse ++ .ref h0 :: rest)
    (kr : ∀ (r : Int32), Q r C Z → W p l e R s m args below meth c s.heap [] 0 0 (MQx below (QR b2 C Z Q2 PX s) s) (F0 m (pc + 3) ls ((ans b r).toList ++ rest))) :
    W p l e R s m args below meth c s.heap [] 0 0 (MQx below (QR b2 C Z Q2 PX s) s) (F0 m pc ls st0) :=
  r_cR X hS hM hG hdy hn hdd hmL hls hrm hdg hst0 kr (fun cd x H1 hpx hbb h1 h2 hexc => r_outR X hpx hbb h1 h2 hexc)
/-- a call of a method that reads alone and doesn't throw -/
theorem r_cR0 {y : MethodName} {bytes : ByteArray} {maxL : Nat} {ret' : Option FieldType} {d' : Nat} {b : Bool} {av : List Value} {Q : Int32 → Me → Le → Prop} (X : Cx E g h0 P0 kc0 ks0 S0 A p l R s m args meth c cc nL ret d) (hS : HS E g h0 P0 kc0 ks0 Sb A s.heap P C Z H locs cells slots)
    (hM : MR l S0 E g h0 y bytes maxL ret' d' b av C Z Q (fun _ _ _ => False)) {index n : Nat} (hG : GoodIn lw_all (wsV (gR g) index (gR g) y (ws_ y bytes maxL ret')))
    (hdy : y.cls = gR g ∧ y.cls ≠ "java/lang/invoke/MethodHandle" ∧ y.cls ≠ "java/lang/invoke/VarHandle" ∧ (parseMethodDescriptor y.desc).map (fun d => d.parameters.length) = some n) (hn : av.length = n) (hdd : d' + 1 ≤ d) (hmL : maxL ≤ 45) (hls : ls.size = nL) (hrm : (rest.map fun v => v.category).sum ≤ 8) (hdg : decode cc pc = .ok (.invokevirtual index, 3))
    {st0 : List Value} (hst0 : st0 = av.reverse ++ .ref h0 :: rest)
    (kr : ∀ (r : Int32), Q r C Z → W p l e R s m args below meth c H locs cells slots Qe (F0 m (pc + 3) ls ((ans b r).toList ++ rest))) :
    W p l e R s m args below meth c H locs cells slots Qe (F0 m pc ls st0) :=
  r_cR X hS hM hG hdy hn hdd hmL hls hrm hdg hst0 kr (fun _ _ _ hpx _ _ _ _ => hpx.elim)
/-- throws of a method with a contract MT that has written nothing -/
theorem r_thrT {b : Bool} {Q : Int32 → Me → Le → Prop} {PX : Nat → Me → Le → Prop} (X : Cx E 0 h0 P0 kc0 ks0 S0 A p l R s m args meth c cc nL ret d) (hS : HS E 0 h0 P0 kc0 ks0 Sb A s.heap P C Z s.heap [] 0 0) (cd : Nat) (hat : ∀ a ∈ Jvm.Bundle.ownAtoms0 RX1 (xic cd) (xn cd) xnames, a ∈ lw_all ∨ a ∈ exW) (hcl : Cond.classLink RX1 (xia cd) (xn cd) ∈ lw_all) (hini : Cond.initialized (xn cd) ∈ lw_all) (hfit : Jvm.Bundle.fit (xn cd) = true)
    (hls : ls.size = nL) (hdd : 6 ≤ d) (hrm : (rest.map fun v => v.category).sum ≤ 8) (hbb : Z 1000 + 1 ≤ KC ∧ Z 1001 + 6 ≤ KS)
    (hd0 : decode cc pc = .ok (.new (xia cd), 3)) (hd3 : decode cc (pc + 3) = .ok (.dup, 1)) (hd4 : decode cc (pc + 4) = .ok (.invokespecial (xic cd), 3)) (hd7 : decode cc (pc + 7) = .ok (.athrow, 1)) (hpx : PX cd C (zx Z)) :
    W p l e R s m args below meth c s.heap [] 0 0 (MQx below (QT E 0 h0 b P0 kc0 ks0 Sb A Q PX s) s) (F0 m pc ls rest) := by
  have hg := fun (t : State) (h1 : s.heap.size ≤ t.heap.size) (h2 : ∀ q, q < s.heap.size → t.heap[q]? = s.heap[q]?) => hS.grown h1 h2 hbb (by decide)
  obtain ⟨hP, hD, hS0, hSb0, hz1, hz2⟩ := id hS
  obtain ⟨hgk, hx, hb, hml, hown, hts, hlk, hr, hK, hA, hR, hE, hex⟩ := X
  subst hR
  refine r_thr cd hat hcl hini hfit hx hb hown hts hlk hex hE (hls.trans hml.symm) (by show 5 < d; omega) (by show _ ≤ 64 * d; omega) (by show _ ≤ KC - kc0; omega) (by show _ ≤ KS - ks0; omega) hd0 hd3 hd4 hd7 fun t x h1 h2 hW hexc => ?_
  obtain ⟨gP, gD, gS0, gSb0, gz1, gz2⟩ := hg t h1 h2
  exact ⟨fun z hz => (by cases hz), ⟨h1, fun q q1 _ => h2 q q1⟩, P, C, zx Z, gP, gD, gSb0, by omega, by omega, Or.inr ⟨x, cd, rfl, hpx, hexc⟩⟩
theorem r_thrR {b : Bool} {Q : Int32 → Me → Le → Prop} {PX : Nat → Me → Le → Prop} (X : Cx E 0 h0 P0 kc0 ks0 S0 A p l R s m args meth c cc nL ret d) (hS : HS E 0 h0 P0 kc0 ks0 Sb A s.heap P C Z s.heap [] 0 0) (cd : Nat) (hat : ∀ a ∈ Jvm.Bundle.ownAtoms0 RX1 (xic cd) (xn cd) xnames, a ∈ lw_all ∨ a ∈ exW) (hcl : Cond.classLink RX1 (xia cd) (xn cd) ∈ lw_all) (hini : Cond.initialized (xn cd) ∈ lw_all) (hfit : Jvm.Bundle.fit (xn cd) = true)
    (hls : ls.size = nL) (hdd : 6 ≤ d) (hrm : (rest.map fun v => v.category).sum ≤ 8) (hbb : Z 1000 + 1 ≤ KC ∧ Z 1001 + 6 ≤ KS)
    (hd0 : decode cc pc = .ok (.new (xia cd), 3)) (hd3 : decode cc (pc + 3) = .ok (.dup, 1)) (hd4 : decode cc (pc + 4) = .ok (.invokespecial (xic cd), 3)) (hd7 : decode cc (pc + 7) = .ok (.athrow, 1)) (hpx : PX cd C (zx Z)) :
    W p l e R s m args below meth c s.heap [] 0 0 (MQx below (QR b C Z Q PX s) s) (F0 m pc ls rest) := by
  obtain ⟨hP, hD, hS0, hSb0, hz1, hz2⟩ := id hS
  obtain ⟨hgk, hx, hb, hml, hown, hts, hlk, hr, hK, hA, hR, hE, hex⟩ := X
  subst hR
  refine r_thr cd hat hcl hini hfit hx hb hown hts hlk hex hE (hls.trans hml.symm) (by show 5 < d; omega) (by show _ ≤ 64 * d; omega) (by show _ ≤ KC - kc0; omega) (by show _ ≤ KS - ks0; omega) hd0 hd3 hd4 hd7 fun t x h1 h2 hW hexc => ?_
  exact ⟨rfl, Or.inr ⟨x, cd, rfl, rfl, rfl, hbb, h1, h2, hpx, hexc⟩⟩
end CROWS
