set_option maxRecDepth 100000
def zg (Z : Le) (k n : Nat) : Le := zU (zU (zU Z k n) 1000 (Z 1000 + 1)) 1001 (Z 1001 + n)
section GROW
variable {p : Program} {l : Launch} {e : Env} {R : Room} {s : State} {m : MethodId} {args : Array Value} {below : List Frame} {meth : Method} {c : Code} {H : Heap} {locs : List Loc} {cells slots : Nat} {Qe : State → Prop}
variable {E : Ev} {g h0 : Nat} {P0 : Le} {kc0 ks0 : Nat} {S0 : State} {A : Nat → Prop} {cc : ByteArray} {nL : Nat} {ret : Option FieldType} {d : Nat} {Sb : Nat → Bool} {P : Le} {C : Me} {Z : Le}
variable {pc : Nat} {ls : Array Slot} {rest : List Value}
/-- this.f = Arrays.copyOf(this.f, n) from the call on -/
theorem r_grow (X : Cx E g h0 P0 kc0 ks0 S0 A p l R s m args meth c cc nL ret d) (hS : HS E g h0 P0 kc0 ks0 Sb A s.heap P C Z H locs cells slots) {k index ic : Nat} (f : fA g k index) (fa : aI g k) (hnf : (gT g k).2.2.2 = false) (hSbk : Sb k = true) (hN : gN g ≤ 1000)
    {i : Int32} {n1 : Nat} (hi : i = nI n1) (h01 : Z k < n1) (h1 : n1 ≤ 100000000) (hb1 : Z 1000 + 1 ≤ KC) (hb2 : Z 1001 + n1 ≤ KS) (hG : GoodIn lw_all (va_wsS (gR g) ic yJ4_copyOf (ws_ yJ4_copyOf cJ4_copyOf 3 (some (.array .int))))) (hdd : 3 ≤ d) (hls : ls.size = nL) (hrm : (rest.map fun v => v.category).sum ≤ 7)
    (hdg : decode cc pc = .ok (.invokestatic ic, 3)) (hdg2 : decode cc (pc + 3) = .ok (.putfield index, 3))
    (kk : ∀ C1, C1 = stR C k (grw (C k) (Z k)) → ∀ Z1, Z1 = zg Z k n1 → ∀ (P1 : Le) (H1 : Heap) (locs1 : List Loc) (c1 s1 : Nat), (∀ j, j ≠ k → P1 j = P j) → HS E g h0 P0 kc0 ks0 Sb A s.heap P1 C1 Z1 H1 locs1 c1 s1 → W p l e R s m args below meth c H1 locs1 c1 s1 Qe (F0 m (pc + 6) ls rest)) :
    W p l e R s m args below meth c H locs cells slots Qe (F0 m pc ls (.int i :: .ref (P k) :: .ref h0 :: rest)) := by
  subst hi
  have hAs := HS.toA X hS
  obtain ⟨⟨hc, hin, hty, hnm⟩, hx, hb, hml, hown, hts, hlk, hr, hK, hA, hR, hE, hex⟩ := X
  obtain ⟨hP, hD, hS0, hSb0, hz1, hz2⟩ := hS
  obtain ⟨hk, hta, hlink, href⟩ := f
  subst hR
  have hcell := (hP.2.1 k hk hta).1
  rw [fa.2] at hcell
  have hcell : H[P k]? = some (vp_cell E.2.1 (Z k, .inl (C k))) := hcell
  refine runSx (rest := .ref h0 :: rest) (As := [.ref (P k), .int (nI n1)]) ⟨hx, hb, hml, hown, hts⟩ (met_copyOf l E (P k) (Z k) n1 (C k) h01 h1) (va_cwS 2 hts hG rfl rfl rfl (by decide +kernel) ⟨by show 2 + 1 ≤ d; omega, by show 8 + (3 + 11) + 128 ≤ 64 * d; omega⟩)
    ⟨fun a U gg mk q => ⟨q.1, q.2.1, va_K.moved (u := U) (U := U.calling gg mk a) (Vm.Alike.refl U.vm) q.2.2⟩, fun U hU hW => ⟨rfl, by rw [hU]; exact hcell, va_K.moved hW.alike hK⟩⟩ rfl rfl hls rfl (lv_room (by show 1 + (rest.map fun v => v.category).sum ≤ 8; omega)) hdg ⟨by show cells + 1 ≤ KC - kc0; omega, by show slots + n1 ≤ KS - ks0; omega⟩ ?_ ?_
  · intro v st t L k' j hst hW hq
    obtain ⟨q, hv, hq1, hq2, hq3, hq4, hq5, e8, e9⟩ := hq
    cases hv
    rw [e8, e9]
    rw [hst] at hq1 hq2 hq4 hq5
    have hPt : hp E g h0 P C Z t.heap := hP.grown hq4
    have hap := va_apart (own := gR g) hts hin (gTy g) hty hnm hK hc
    obtain ⟨cell, q1, q2, q3, q4⟩ := hPt.1
    obtain ⟨hSl, hfc, kC, hkC, hkind⟩ := hK.1 g _ hc
    obtain ⟨cf, kf, fi, f, hi, hsl⟩ := hSl k hk
    have hlay := hts _ (hin _ (u_in_lay hk))
    unfold u_lay at hlay
    rw [if_neg (by rw [hnf]; decide)] at hlay
    have hst' := (u_facts hfc hkC (u_lays hts hin hk) hi).1
    have h6 := u_store (v := .ref q) hfc hkC hkind hlay hi (hty k hk) (by rw [fa.2]; rfl) (by rw [fa.2]; rfl)
    have hqh : q ≠ h0 := fun z => by have := hP.lt0; omega
    have hqP : ∀ i, i < gN g → isA (gTy g i) = true → P i ≠ q := fun i hi hai z => by have := hP.ltP hi hai; omega
    have hAq : A q := by rw [hA]; exact Or.inr (Or.inr (Nat.le_trans hS0.1 hq1))
    refine W.putK hx hb (f := f) ⟨hown, hts _ hlink, ⟨_, _, _, by rw [← href]; exact hi⟩, hst'⟩ (by rw [q2]; exact h6) q1 q3 (by rw [hsl]; exact k2_hasslot (q4 k hk)) rfl rfl hdg2 fun H' e1 e2 e3 => ?_
    rw [hsl] at e1 ⊢
    have hk0 : k ≠ 1000 := by omega
    have hk1 : k ≠ 1001 := by omega
    refine kk _ rfl _ rfl (zU P k q) H' _ _ _ (fun j hj => by simp [zU, hj]) ⟨hPt.stG hD hk hta (n := n1) (f := grw (C k) (Z k)) (by rw [fa.2]; exact hq3) (by omega) hqh (by simp [zg, zU, hk0, hk1]) (fun i hi hik => ?_) ⟨?_, ?_⟩ ⟨_, e1, q2, q3, t_set q4 hap hk (.ref q)⟩ e3, hD.up hAq hqh hqP, ?_, fun i hi => ?_, ?_, ?_⟩
    · have h3 : i ≠ 1000 := by omega
      have h4 : i ≠ 1001 := by omega
      simp [zg, zU, h3, h4, hik]
    · simp [zg, zU]; omega
    · simp [zg, zU]; omega
    · have hS1 : va_S A s.heap t.heap (locs ++ L) := ⟨Nat.le_trans hS0.1 hq2, fun z g1 g2 => by rw [hq4 z (Nat.lt_of_lt_of_le g1 hS0.1)]; exact hS0.2.1 z g1 g2, fun z hz => by
        rcases List.mem_append.mp hz with h | h
        · exact hS0.2.2 z h
        · rcases hq5 z h with h9 | h9
          · rw [h9]; exact (hD.2.1 k hk hta).1
          · rw [hA]; exact Or.inr (Or.inr (Nat.le_trans hS0.1 h9))⟩
      exact hS1.put e2 e3 hD.1
    · have hik : i ≠ k := fun z => by rw [z, hSbk] at hi; cases hi
      simp [zU, hik]
      exact hSb0 i hi
    · simp [zg, zU]; omega
    · simp [zg, zU]; omega
  · intro x st t L k' j hst hW hq
    obtain ⟨q, hv, -⟩ := hq
    cases hv
/-- a small static method: one answer, nothing else -/
def MS (l : Launch) (y : MethodName) (bytes : ByteArray) (maxL : Nat) (ret : Option FieldType) (av : List Value) (r : Int32) : Prop :=
  MX l y (ws_ y bytes maxL ret) { frames := 0, cells := 0, slots := 0, locals := 0 } (va_Pc av (fun _ => True)) (fun _ st o t L k n => o = .returned (some (.int r)) ∧ t.heap = st.heap ∧ L = [] ∧ k = 0 ∧ n = 0)
theorem r_sta {y : MethodName} {bytes : ByteArray} {maxL : Nat} {ret' : Option FieldType} {av : List Value} {r : Int32} (hx : p.tables.exec = Jvm.exec) (hb : c.code = cc) (hml : c.maxLocals = nL) {own : String} (hown : s.vm.findClass own = some m.cls) (hts : ∀ w ∈ lw_all, w.before args s = true)
    (hM : MS l y bytes maxL ret' av r) {index n : Nat} (hG : GoodIn lw_all (va_wsS own index y (ws_ y bytes maxL ret'))) (hdy : y.cls ≠ "java/lang/invoke/MethodHandle" ∧ y.cls ≠ "java/lang/invoke/VarHandle" ∧ (parseMethodDescriptor y.desc).map (fun d => d.parameters.length) = some n) (hn : av.length = n)
    (hfr : 1 ≤ R.frames) (hlo : maxL + 19 ≤ R.locals) (hce : cells ≤ R.cells) (hsl : slots ≤ R.slots) (hls : ls.size = nL) (hrm : (rest.map fun v => v.category).sum ≤ 8) (hdg : decode cc pc = .ok (.invokestatic index, 3)) {st0 : List Value} (hst0 : st0 = av.reverse ++ rest)
    (kr : W p l e R s m args below meth c H locs cells slots Qe (F0 m (pc + 3) ls (.int r :: rest))) : W p l e R s m args below meth c H locs cells slots Qe (F0 m pc ls st0) := by
  subst hst0
  refine runSx (rest := rest) (As := av) ⟨hx, hb, hml, hown, hts⟩ hM (va_cwS n hts hG rfl rfl rfl hdy ⟨by show 0 + 1 ≤ _; omega, by show 8 + (maxL + 11) + 0 ≤ _; omega⟩) ⟨fun a U gg mk q => q, fun U hU hW => ⟨rfl, trivial⟩⟩ rfl hn hls rfl (lv_room hrm) hdg ⟨by show cells + 0 ≤ _; omega, by show slots + 0 ≤ _; omega⟩ ?_ ?_
  · intro v st t L k j hst hW hq
    obtain ⟨hv, hh, rfl, rfl, rfl⟩ := hq
    cases hv
    rw [List.append_nil, hh, hst]
    exact kr
  · intro x st t L k j hst hW hq
    cases hq.1
/-- the same, in a method of ours -/
theorem r_st {y : MethodName} {bytes : ByteArray} {maxL : Nat} {ret' : Option FieldType} {av : List Value} {r : Int32} (X : Cx E g h0 P0 kc0 ks0 S0 A p l R s m args meth c cc nL ret d) (hS : HS E g h0 P0 kc0 ks0 Sb A s.heap P C Z H locs cells slots)
    (hM : MS l y bytes maxL ret' av r) {index n : Nat} (hG : GoodIn lw_all (va_wsS (gR g) index y (ws_ y bytes maxL ret'))) (hdy : y.cls ≠ "java/lang/invoke/MethodHandle" ∧ y.cls ≠ "java/lang/invoke/VarHandle" ∧ (parseMethodDescriptor y.desc).map (fun d => d.parameters.length) = some n) (hn : av.length = n)
    (hdd : 1 ≤ d) (hmL : maxL ≤ 45) (hls : ls.size = nL) (hrm : (rest.map fun v => v.category).sum ≤ 8) (hdg : decode cc pc = .ok (.invokestatic index, 3)) {st0 : List Value} (hst0 : st0 = av.reverse ++ rest)
    (kr : W p l e R s m args below meth c H locs cells slots Qe (F0 m (pc + 3) ls (.int r :: rest))) : W p l e R s m args below meth c H locs cells slots Qe (F0 m pc ls st0) := by
  obtain ⟨-, hx, hb, hml, hown, hts, hlk, hr, hK, hA, hR, hE, hex⟩ := X
  obtain ⟨hP, -, -, -, hz1, hz2⟩ := hS
  have h1 := hP.2.2.1
  have h2 := hP.2.2.2
  subst hR
  exact r_sta hx hb hml hown hts hM hG hdy hn hdd (by show _ ≤ 64 * d; omega) (by show _ ≤ KC - kc0; omega) (by show _ ≤ KS - ks0; omega) hls hrm hdg hst0 kr
end GROW
