set_option maxRecDepth 100000
/-! words that don't ride in lw_all, said of the run's first state S0 -/
def exW : List Cond := [.declares ⟨"java/lang/RuntimeException", "<init>", "()V"⟩, .declares ⟨"java/lang/Exception", "<init>", "()V"⟩, .declares ⟨"java/lang/Throwable", "<init>", "()V"⟩, .castable "java/lang/IllegalArgumentException" "java/lang/IllegalArgumentException", .castable "java/lang/IllegalStateException" "java/lang/IllegalStateException",
  .isRef (.static "java/lang/Throwable" "UNASSIGNED_STACK" "[Ljava/lang/StackTraceElement;"), .isRef (.static "java/lang/Throwable" "SUPPRESSED_SENTINEL" "Ljava/util/List;"), .laysStatic "java/lang/Throwable" "UNASSIGNED_STACK" "[Ljava/lang/StackTraceElement;", .laysStatic "java/lang/Throwable" "SUPPRESSED_SENTINEL" "Ljava/util/List;", .initialized "java/lang/Throwable"]
def xnames : List String := ["java/lang/RuntimeException", "java/lang/Exception"]
def xic : Nat → Nat := fun c => match c with
  | 0 => 271
  | _ => 274
def xia : Nat → Nat := fun c => match c with
  | 0 => 269
  | _ => 272
theorem ex_all0 : ∀ a ∈ Jvm.Bundle.ownAtoms0 RX1 (xic 0) (xn 0) xnames, a ∈ lw_all ∨ a ∈ exW := by
  have h : (Jvm.Bundle.ownAtoms0 RX1 (xic 0) (xn 0) xnames).all (fun a => decide (a ∈ lw_all) || decide (a ∈ exW)) = true := by decide +kernel
  intro a ha
  have := List.all_eq_true.mp h a ha
  simpa using this
theorem ex_all1 : ∀ a ∈ Jvm.Bundle.ownAtoms0 RX1 (xic 1) (xn 1) xnames, a ∈ lw_all ∨ a ∈ exW := by
  have h : (Jvm.Bundle.ownAtoms0 RX1 (xic 1) (xn 1) xnames).all (fun a => decide (a ∈ lw_all) || decide (a ∈ exW)) = true := by decide +kernel
  intro a ha
  have := List.all_eq_true.mp h a ha
  simpa using this
/-- the run's first state S0: its cells stay as they were, its tables have only warmed; A: what may be written -/
def EX (l : Launch) (S0 : State) (A : Nat → Prop) (U : State) : Prop := l.flags = flags0 ∧ S0.WarmedH U.vm ∧ (∀ q, q < S0.heap.size → U.heap[q]? = S0.heap[q]?) ∧ (∀ q, A q → S0.heap.size ≤ q) ∧ ∀ w ∈ exW, w.before #[] S0 = true
theorem EX.go {l : Launch} {S0 s U : State} {A B : Nat → Prop} {H : Heap} {locs : List Loc} (h : EX l S0 A s) (hS : va_S A s.heap H locs) (hAB : ∀ q, B q → A q) (hU : U.heap = H) (hW : s.WarmedH U.vm) : EX l S0 B U := by
  obtain ⟨h1, h2, h3, h4, h5⟩ := h
  refine ⟨h1, State.WarmedH.trans h2 hW, fun q hq => ?_, fun q hq => h4 q (hAB q hq), h5⟩
  have hlt : q < s.heap.size := by
    have := h3 q hq
    rw [Array.getElem?_eq_getElem hq] at this
    exact (Array.getElem?_eq_some_iff.mp this).1
  rw [hU, hS.2.1 q hlt (fun z => absurd (h4 q z) (by omega))]
  exact h3 q hq
theorem EX.same {l : Launch} {S0 s U : State} {A : Nat → Prop} (h : EX l S0 A s) (hh : U.heap = s.heap) (hv : U.vm = s.vm) : EX l S0 A U := by
  obtain ⟨h1, h2, h3, h4, h5⟩ := h
  exact ⟨h1, by rw [hv]; exact h2, by rw [hh]; exact h3, h4, h5⟩
theorem zq_ref {C n d : String} {A : Nat → Prop} {U : State} {args : Array Value} (h : va_Zq C n d A U U.heap) : (Cond.isRef (.static C n d)).before args U = true := by
  have key : ∀ v, va_Z C n d v A U U.heap → (Term.static C n d).eval args U none [] U = some v := by
    intro v hz
    obtain ⟨cf, kf, fi, f, a, cell, h1, h2, h3, h4, h5, h6, h7, -⟩ := hz
    simp [Term.eval, State.fieldNamed?, h1, h2, h4, h5, h6, h7]
  rcases h with h | ⟨t, h⟩
  · simp [Cond.before, Cond.holds, Cond.value, key _ h]
  · simp [Cond.before, Cond.holds, Cond.value, key _ h]
theorem ls_go {C n d : String} {S0 U : State} {args : Array Value} (h : (Cond.laysStatic C n d).before #[] S0 = true) (hvm : S0.vm.Alike U.vm) (hh : ∀ q, q < S0.heap.size → U.heap[q]? = S0.heap[q]?) : (Cond.laysStatic C n d).before args U = true := by
  obtain ⟨c, k, i, f, a, cell, hc, hf, hst, ha, hcell, hs, hcls, hlt, hty⟩ := Cond.laysStatic_spec h
  obtain ⟨k', hi', he⟩ := State.fieldFound?_setVm hvm hf
  have hcell' : U.heap[a]? = some cell := by rw [hh a (Array.getElem?_eq_some_iff.mp hcell).1]; exact hcell
  have hc' : U.vm.findClass C = some c := by rw [hvm.findClass]; exact hc
  have ha' : k'.statics = some a := by rw [he]; exact ha
  have hty' : k'.staticTypes[f.slot]? = some f.type := by rw [he]; exact hty
  have hi2 : U.fieldFound? C n d = some (c, k', i, f) := hi'
  simp [Cond.before, Cond.holds, Cond.value, hc', hi2, hst, ha', hcell', hs, hcls, hlt, hty']
theorem EX.use {l : Launch} {S0 s : State} {A : Nat → Prop} (h : EX l S0 A s) (args : Array Value) : ∀ w ∈ exW, w.before args s = true := by
  obtain ⟨-, h2, h3, h4, h5⟩ := h
  have hZ : ∀ n d, (Cond.isRef (.static "java/lang/Throwable" n d)).before #[] S0 = true → (Cond.laysStatic "java/lang/Throwable" n d).before #[] S0 = true → (Cond.isRef (.static "java/lang/Throwable" n d)).before args s = true := by
    intro n d hr hl
    have z := va_Zqof (A := fun q => S0.heap.size ≤ q) hl (h5 _ (by simp [exW])) hr (fun a ha hA => by omega)
    exact zq_ref (va_Zq.moved h2.alike (z.kept (H1 := s.heap) (fun a ha _ => h3 a ha)))
  intro w hw
  simp only [exW, List.mem_cons, List.not_mem_nil, or_false] at hw
  rcases hw with rfl | rfl | rfl | rfl | rfl | rfl | rfl | rfl | rfl | rfl
  · exact va_Nw.use rfl (va_Nw.warmD h2 (va_Nw.of (A := #[]) rfl (h5 _ (by simp [exW]))))
  · exact va_Nw.use rfl (va_Nw.warmD h2 (va_Nw.of (A := #[]) rfl (h5 _ (by simp [exW]))))
  · exact va_Nw.use rfl (va_Nw.warmD h2 (va_Nw.of (A := #[]) rfl (h5 _ (by simp [exW]))))
  · exact va_Nw.use rfl (va_Nw.warmC h2 (va_Nw.of (A := #[]) rfl (h5 _ (by simp [exW]))))
  · exact va_Nw.use rfl (va_Nw.warmC h2 (va_Nw.of (A := #[]) rfl (h5 _ (by simp [exW]))))
  · exact hZ _ _ (h5 _ (by simp [exW])) (h5 _ (by simp [exW]))
  · exact hZ _ _ (h5 _ (by simp [exW])) (h5 _ (by simp [exW]))
  · exact ls_go (h5 _ (by simp [exW])) h2.alike h3
  · exact ls_go (h5 _ (by simp [exW])) h2.alike h3
  · exact word_at h2 (Or.inl rfl) (h5 _ (by simp [exW]))
/-- the exception's cell -/
def exc (cd : Nat) (x : Nat) (t : State) : Prop := ∃ cell : Cell, t.heap[x]? = some cell ∧ cell.vm = .none ∧ t.vm.findClass (xn cd) = some cell.cls
def ans (b : Bool) (r : Int32) : Option Value := if b = true then some (.int r) else none
/-- what holds all through a method's run -/
def Cx (E : Ev) (g h0 : Nat) (P0 : Le) (kc0 ks0 : Nat) (S0 : State) (A : Nat → Prop) (p : Program) (l : Launch) (R : Room) (s : State) (m : MethodId) (args : Array Value) (meth : Method) (c : Code) (cc : ByteArray) (nL : Nat) (ret : Option FieldType) (d : Nat) : Prop :=
  Gk g ∧ p.tables.exec = Jvm.exec ∧ c.code = cc ∧ c.maxLocals = nL ∧ s.vm.findClass (gR g) = some m.cls ∧ (∀ w ∈ lw_all, w.before args s = true) ∧ meth.locks = false ∧ meth.sig.returnType = ret ∧ va_K E.1 vwCl (tys E) s ∧ A = ao g h0 P0 s.heap.size ∧ R = rmm d kc0 ks0 ∧ EX l S0 A s ∧ c.exceptionTable.toList = []
/-- what the heap holds now -/
def HS (E : Ev) (g h0 : Nat) (P0 : Le) (kc0 ks0 : Nat) (Sb : Nat → Bool) (A : Nat → Prop) (H0 : Heap) (P : Le) (C : Me) (Z : Le) (H : Heap) (locs : List Loc) (cells slots : Nat) : Prop :=
  hp E g h0 P C Z H ∧ hd A g h0 P ∧ va_S A H0 H locs ∧ (∀ k, Sb k = false → P k = P0 k) ∧ kc0 + cells = Z 1000 ∧ ks0 + slots = Z 1001
/-- a method's end: an answer with the new memory, or an exception -/
def QT (E : Ev) (g h0 : Nat) (b : Bool) (P0 : Le) (kc0 ks0 : Nat) (Sb : Nat → Bool) (A : Nat → Prop) (Q : Int32 → Me → Le → Prop) (PX : Nat → Me → Le → Prop) (st : State) (o : Outcome) (t : State) (L : List Loc) (k n : Nat) : Prop :=
  (∀ q ∈ L, A q.base) ∧ va_F A st t ∧ ∃ (P1 : Le) (C1 : Me) (Z1 : Le), hp E g h0 P1 C1 Z1 t.heap ∧ hd A g h0 P1 ∧ (∀ i, Sb i = false → P1 i = P0 i) ∧ kc0 + k = Z1 1000 ∧ ks0 + n = Z1 1001 ∧
    ((∃ r, o = .returned (ans b r) ∧ Q r C1 Z1) ∨ ∃ x cd, o = .threw x ∧ PX cd C1 Z1 ∧ exc cd x t)
/-- a method that reads alone -/
def QR (b : Bool) (C : Me) (Z : Le) (Q : Int32 → Me → Le → Prop) (PX : Nat → Me → Le → Prop) (st : State) (o : Outcome) (t : State) (L : List Loc) (k n : Nat) : Prop :=
  L = [] ∧ ((∃ r, o = .returned (ans b r) ∧ t.heap = st.heap ∧ k = 0 ∧ n = 0 ∧ Q r C Z) ∨ ∃ x cd, o = .threw x ∧ k = 1 ∧ n = 6 ∧ (Z 1000 + 1 ≤ KC ∧ Z 1001 + 6 ≤ KS) ∧ st.heap.size ≤ t.heap.size ∧ (∀ q, q < st.heap.size → t.heap[q]? = st.heap[q]?) ∧ PX cd C (zx Z) ∧ exc cd x t)
def Pw (l : Launch) (S0 : State) (E : Ev) (g h0 : Nat) (P : Le) (sz : Nat) (C : Me) (Z : Le) (U : State) : Prop := U.heap.size = sz ∧ hp E g h0 P C Z U.heap ∧ hd (fun _ => True) g h0 P ∧ va_K E.1 vwCl (tys E) U ∧ EX l S0 (ao g h0 P sz) U
/-- the contract of an instance method -/
def MT (l : Launch) (S0 : State) (E : Ev) (g h0 : Nat) (y : MethodName) (cc : ByteArray) (maxL : Nat) (ret : Option FieldType) (d : Nat) (b : Bool) (Sb : Nat → Bool) (av : List Value) (C : Me) (Z : Le) (Q : Int32 → Me → Le → Prop) (PX : Nat → Me → Le → Prop) : Prop :=
  ∀ (P : Le) (sz : Nat), MX l y (ws_ y cc maxL ret) (rmm d (Z 1000) (Z 1001)) (va_Pc (.ref h0 :: av) (Pw l S0 E g h0 P sz C Z)) (fun _ => QT E g h0 b P (Z 1000) (Z 1001) Sb (ao g h0 P sz) Q PX)
def MR (l : Launch) (S0 : State) (E : Ev) (g h0 : Nat) (y : MethodName) (cc : ByteArray) (maxL : Nat) (ret : Option FieldType) (d : Nat) (b : Bool) (av : List Value) (C : Me) (Z : Le) (Q : Int32 → Me → Le → Prop) (PX : Nat → Me → Le → Prop) : Prop :=
  ∀ (P : Le) (sz : Nat), MX l y (ws_ y cc maxL ret) (rmm d (Z 1000) (Z 1001)) (va_Pc (.ref h0 :: av) (Pw l S0 E g h0 P sz C Z)) (fun _ => QR b C Z Q PX)
theorem Pw.blind {l : Launch} {S0 : State} {E : Ev} {g h0 : Nat} {P : Le} {sz : Nat} {C : Me} {Z : Le} {av : List Value} : FrameBlind (va_Pc av (Pw l S0 E g h0 P sz C Z)) := by
  intro a U gg mk q
  obtain ⟨q0, q1, qP, qD, qK, qE⟩ := q
  exact ⟨q0, q1, qP, qD, va_K.moved (u := U) (U := U.calling gg mk a) (Vm.Alike.refl U.vm) qK, qE.same rfl rfl⟩
section MTO
variable {l : Launch} {S0 : State} {E : Ev} {g h0 : Nat} {y : MethodName} {cc : ByteArray} {maxL : Nat} {ret : Option FieldType} {d : Nat} {b : Bool} {Sb : Nat → Bool} {av : List Value} {C : Me} {Z : Le} {Q : Int32 → Me → Le → Prop} {PX : Nat → Me → Le → Prop}
theorem mt_of (hgk : Gk g) (hy : plainName y.cls = true) (hyc : y.cls = gR g) (hlen : (lg_sl (.ref h0 :: av)).length ≤ maxL)
    (body : ∀ (p : Program) (e : Env) (s : State) (m : MethodId) (below : List Frame) (meth : Method) (c : Code) (A : Nat → Prop) (P : Le) (ls : Array Slot), Cx E g h0 P (Z 1000) (Z 1001) S0 A p l (rmm d (Z 1000) (Z 1001)) s m (.ref h0 :: av).toArray meth c cc maxL ret d →
      HS E g h0 P (Z 1000) (Z 1001) Sb A s.heap P C Z s.heap [] 0 0 → lv_has ls maxL (lv_args 0 (.ref h0 :: av)) →
      W p l e (rmm d (Z 1000) (Z 1001)) s m (.ref h0 :: av).toArray below meth c s.heap [] 0 0 (MQx below (QT E g h0 b P (Z 1000) (Z 1001) Sb A Q PX s) s) (F0 m 0 ls [])) :
    MT l S0 E g h0 y cc maxL ret d b Sb av C Z Q PX := by
  intro P sz
  refine MX.ofW (cc := cc) (maxL := maxL) (ret := ret) hy rfl ?_
  intro p e s m args below meth c s₁ B hml hex hv
  obtain ⟨rfl, hsz, hP, hD0, hK, hE⟩ := hv
  have hts := atoms_spec (ws := ws_ y cc maxL ret) B.pre
  have hts : ∀ w ∈ lw_all, w.before _ s = true := fun w h => hts w (List.mem_cons_of_mem _ h)
  have hown : s.vm.findClass (gR g) = some m.cls := by rw [← hyc]; exact findClass_of_methodNamed B.named
  subst hsz
  rw [lg_entry_eq]
  have hl := lv_entry (.ref h0 :: av) (n := maxL) hlen
  exact body p e s m below meth c _ P _ ⟨hgk, B.exec, B.bytes, hml, hown, hts, B.notSynchronized, B.returns, hK, rfl, rfl, hE, hex⟩ ⟨hP, hD0.self, va_S.rf, fun _ _ => rfl, rfl, rfl⟩ hl
theorem mr_of (hgk : Gk g) (hy : plainName y.cls = true) (hyc : y.cls = gR g) (hlen : (lg_sl (.ref h0 :: av)).length ≤ maxL)
    (body : ∀ (p : Program) (e : Env) (s : State) (m : MethodId) (below : List Frame) (meth : Method) (c : Code) (A : Nat → Prop) (P : Le) (ls : Array Slot), Cx E g h0 P (Z 1000) (Z 1001) S0 A p l (rmm d (Z 1000) (Z 1001)) s m (.ref h0 :: av).toArray meth c cc maxL ret d →
      HS E g h0 P (Z 1000) (Z 1001) (fun _ => false) A s.heap P C Z s.heap [] 0 0 → lv_has ls maxL (lv_args 0 (.ref h0 :: av)) →
      W p l e (rmm d (Z 1000) (Z 1001)) s m (.ref h0 :: av).toArray below meth c s.heap [] 0 0 (MQx below (QR b C Z Q PX s) s) (F0 m 0 ls [])) :
    MR l S0 E g h0 y cc maxL ret d b av C Z Q PX := by
  intro P sz
  refine MX.ofW (cc := cc) (maxL := maxL) (ret := ret) hy rfl ?_
  intro p e s m args below meth c s₁ B hml hex hv
  obtain ⟨rfl, hsz, hP, hD0, hK, hE⟩ := hv
  have hts := atoms_spec (ws := ws_ y cc maxL ret) B.pre
  have hts : ∀ w ∈ lw_all, w.before _ s = true := fun w h => hts w (List.mem_cons_of_mem _ h)
  have hown : s.vm.findClass (gR g) = some m.cls := by rw [← hyc]; exact findClass_of_methodNamed B.named
  subst hsz
  rw [lg_entry_eq]
  have hl := lv_entry (.ref h0 :: av) (n := maxL) hlen
  exact body p e s m below meth c _ P _ ⟨hgk, B.exec, B.bytes, hml, hown, hts, B.notSynchronized, B.returns, hK, rfl, rfl, hE, hex⟩ ⟨hP, hD0.self, va_S.rf, fun _ _ => rfl, rfl, rfl⟩ hl
end MTO
