/-! OWN CALLS: contracts whose outcome may be an answer or an exception, and that tell what they used -/
def FrX (st t : State) (L : List Loc) (k n : Nat) : Prop := st.WarmedH t.vm ∧ st.sameButNew ({ t with vm := st.vm } : State) L k n
/-- a contract: outcome, end, written places, cells and slots used -/
def MX (l : Launch) (y : MethodName) (ws : List Cond) (rm : Room) (Pc : Array Value → State → Prop) (Qx : Array Value → State → Outcome → State → List Loc → Nat → Nat → Prop) : Prop :=
  MetFree l y (headSpec ws rm) Pc (fun _ _ _ _ _ => True) (fun a st o t => ∃ L k n, FrX st t L k n ∧ Qx a st o t L k n)
/-- the end that a walk owes -/
def MQx (below : List Frame) (Qx : Outcome → State → List Loc → Nat → Nat → Prop) (s : State) : State → Prop := fun t =>
  ∃ o, t.status = .running ∧ Ended t below o ∧ ∃ L k n, FrX s t L k n ∧ Qx o t L k n
/-- the machine with the note 'x is being thrown' over the frame g comes to Q -/
def WT (p : Program) (l : Launch) (e : Env) (R : Room) (s : State) (m : MethodId) (args : Array Value) (below : List Frame) (meth : Method) (c : Code) (H : Heap) (locs : List Loc) (cells slots : Nat) (Q : State → Prop) (x : Addr) (g : JFrame) : Prop :=
  ∀ T : State, T.heap = H → Stand p l e R s m args below meth c T locs cells slots → ∃ t, Steps p.tables e below ((T.setTop g).pushFrame (.throwing x)) t ∧ Q t
theorem MX.ofW {l : Launch} {y : MethodName} {ws ws' : List Cond} {rm : Room} {Pc : Array Value → State → Prop} {Qx : Array Value → State → Outcome → State → List Loc → Nat → Nat → Prop} {cc : ByteArray} {maxL : Nat} {ret : Option FieldType}
    (hy : plainName y.cls = true) (hw : ws = Cond.code y cc maxL ret :: ws')
    (body : ∀ p e s m args below meth c s₁, BodyLoose p l y (headSpec ws rm) cc maxL ret e s m args below meth c s₁ → c.maxLocals = maxL → c.exceptionTable.toList = [] → Pc args s →
      W p l e rm s m args below meth c s.heap [] 0 0 (MQx below (Qx args s) s) (entryFrame m args maxL)) : MX l y ws rm Pc Qx := by
  refine MetFree.of_bodyS (code := cc) (maxLocals := maxL) (ret := ret) hy ?_ ?_
  · intro args s m h hn
    obtain ⟨meth, c, h1, h2, h3, h4, h5, h6, -, -⟩ := Cond.code_spec hn (atoms_spec (ws := ws) h _ (by rw [hw]; exact List.mem_cons_self))
    exact ⟨meth, c, h1, h2, h3, h4, h5, h6⟩
  · intro p e s m args below meth c s₁ B hml hP _
    have hh0 : s₁.heap = s.heap := by rw [B.state]; rfl
    have X := Stand.of_body B
    obtain ⟨meth', c', h1, h2, -, -, -, -, h7, -⟩ := Cond.code_spec B.named (atoms_spec (ws := ws) B.pre _ (by rw [hw]; exact List.mem_cons_self))
    cases X.method.symm.trans h1
    cases X.code.symm.trans h2
    have h8 : c.exceptionTable.toList = [] := by
      have h0 : c.exceptionTable.size = 0 := by simpa [Array.isEmpty] using h7
      exact List.eq_nil_of_length_eq_zero (by simpa using h0)
    obtain ⟨t, a1, o, b1, b2, b3⟩ := body p e s m args below meth c s₁ B hml h8 hP s₁ hh0 X
    exact ⟨t, o, a1, b1, b2, b3⟩
section CALLS
variable {p : Program} {l : Launch} {e : Env} {R : Room} {s : State} {m : MethodId} {args : Array Value} {below : List Frame} {meth : Method} {c : Code}
/-- a call of a method by its contract, whatever its outcome -/
theorem bk_any {y : MethodName} {ws : List Cond} {rm : Room} {Pc : Array Value → State → Prop} {Qx : Array Value → State → Outcome → State → List Loc → Nat → Nat → Prop} {U : State} {Ls : List Loc} {c0 s0 : Nat} (hM : MX l y ws rm Pc Qx)
    (X : Stand p l e R s m args below meth c U Ls c0 s0) {g : JFrame} {ig : Instr} {len : Nat} {mk : MethodId} {a : Array Value} (hg : g.method = m) (hsize : g.locals.size = c.maxLocals) (hdg : decode c.code g.pc = .ok (ig, len))
    (hn : U.methodNamed? y = some mk) {methY : Method} {cY : Code} (hmY : U.vm.method? mk = some methY) (hcY : methY.code = some cY) (hpre : ∀ w ∈ ws, w.before a U = true) (hini : (Cond.initialized y.cls).before a U = true)
    (hfr : rm.frames + 1 ≤ R.frames) (hlo : 2 * g.monitorRoom + (g.stack.map fun v => v.category).sum + (cY.maxLocals + 11) + rm.locals ≤ R.locals) (hce : c0 + rm.cells ≤ R.cells) (hsl : s0 + rm.slots ≤ R.slots) (hP : Pc a (U.calling g mk a)) :
    ∃ (o : Outcome) (t U' : State) (L : List Loc) (k n : Nat), Stand p l e R s m args below meth c U' (Ls ++ L) (c0 + k) (s0 + n) ∧ U'.heap = t.heap ∧ U'.vm = t.vm ∧ Qx a (U.calling g mk a) o t L k n ∧
      (∀ v, o = .returned v → Steps p.tables e below (doInvoke e (U.setTop g) [] mk a).1 (U'.setTop { g with pc := g.pc + len, stack := v.toList ++ g.stack })) ∧
      (∀ x, o = .threw x → Steps p.tables e below (doInvoke e (U.setTop g) [] mk a).1 ((U'.setTop g).pushFrame (.throwing x))) := by
  subst hg
  have hAt : At U g.method c below := X.here
  obtain ⟨kY, hkY, -⟩ := className_of_methodNamed hn
  have hiY : kY.init = .initialized := Cond.initialized_spec (findClass_of_methodNamed hn) hkY hini
  have happ : (headSpec ws rm).appliesLoose y e.platform (U.calling g mk a) = true :=
    Spec.appliesLoose_calling (g := g) hAt hdg hn hkY hiY (X.room_calling (g := g) (R' := rm) hsize hmY hcY hfr (by omega) hce hsl) (atoms_intro hpre)
  obtain ⟨mid, hmid⟩ := hAt.above
  have hfs : (U.setTop g).frames = (.java g :: mid) ++ below := by rw [State.frames_setTop' g hAt.top, hmid]; rfl
  obtain ⟨o, t, hst, -, hend, L, k, n, ⟨hW2, hsame⟩, hq⟩ := Steps.callFree hM p X.admits X.cas X.clock (acts := []) hfs happ hP trivial
  rw [State.frames_setTop' g hAt.top] at hend
  obtain ⟨g₀, hg0⟩ := Option.isSome_iff_exists.mp hAt.top
  obtain ⟨r, hr⟩ := State.topJava?_eq_some.mp hg0
  have hsame : (U.calling g mk a).sameButNew ({ t with vm := (U.calling g mk a).vm } : State) L k n := hsame
  obtain ⟨e2, q2, q3, q4, q5, q6⟩ := id hsame
  have hW' : U.WarmedH t.vm := hW2
  have e3 : t = ({ (U.calling g mk a).setFrames t.frames with heap := t.heap, slotsUsed := t.slotsUsed } : State).setVm t.vm := by
    have e4 : t = ({ t with vm := (U.calling g mk a).vm } : State).setVm t.vm := rfl
    rw [e2] at e4
    exact e4
  have hsameU : U.sameButNew ({ U with heap := t.heap, slotsUsed := t.slotsUsed } : State) L k n := by
    refine ⟨?_, q2, q3, q4, q5, q6⟩
    obtain ⟨th, hth, -⟩ := State.frames_cons hr
    show ({ U with heap := t.heap, slotsUsed := t.slotsUsed } : State) = { U.setFrames U.frames with heap := t.heap, slotsUsed := t.slotsUsed }
    rw [State.setFrames_self hth]
  have hrV : (({ U with heap := t.heap, slotsUsed := t.slotsUsed } : State).setVm t.vm).frames = .java g₀ :: r := hr
  refine ⟨o, t, ({ U with heap := t.heap, slotsUsed := t.slotsUsed } : State).setVm t.vm, L, k, n,
    ⟨X.admits, X.cas, X.clock, X.frames, X.room, X.hears, X.method, X.code, (X.here.setHeapUsed t.heap t.slotsUsed).setVm hW'.alike, X.tail, State.WarmedH.trans X.warmed hW', X.limits, X.bytes, X.same.trans (hsameU.setVm s.vm)⟩, rfl, rfl, hq, ?_, ?_⟩
  · intro v hv
    subst hv
    obtain ⟨c₂, i₂, len₂, hc₂, hd₂, hf₂⟩ := hend
    have hcc : c₂ = c := by
      have h1 : t.code? g.method = U.code? g.method := by rw [State.code?_eq, State.code?_eq, hW'.alike.method?]
      exact Option.some.inj (hc₂.symm.trans (h1.trans hAt.code))
    subst hcc
    have hlen : len₂ = len := by rw [hdg] at hd₂; cases hd₂; rfl
    subst hlen
    have ht : t = (({ U with heap := t.heap, slotsUsed := t.slotsUsed } : State).setVm t.vm).setTop { g with pc := g.pc + len₂, stack := v.toList ++ g.stack } := by
      refine e3.trans ?_
      rw [hf₂, State.calling_eq hAt.top, State.setFrames_setFrames, State.setTop_of_frames _ hrV, hr]
      rfl
    rw [← ht]
    exact hst
  · intro x hx
    subst hx
    have hf₂ : t.frames = .throwing x :: .java g :: U.frames.tail := hend
    have ht : t = ((({ U with heap := t.heap, slotsUsed := t.slotsUsed } : State).setVm t.vm).setTop g).pushFrame (.throwing x) := by
      refine e3.trans ?_
      rw [hf₂, State.calling_eq hAt.top, State.setFrames_setFrames, State.pushFrame, State.frames_setTop _ hrV, State.setTop_of_frames _ hrV, State.setFrames_setFrames, hr]
      rfl
    rw [← ht]
    exact hst
variable {H : Heap} {locs : List Loc} {cells slots : Nat} {Q : State → Prop}
variable {y : MethodName} {bytes cc : ByteArray} {maxL nL mc ms n index : Nat} {ret : Option FieldType} {ws : List Cond} {rm : Room} {Pc : Array Value → State → Prop} {Qx : Array Value → State → Outcome → State → List Loc → Nat → Nat → Prop} {Ts : List Cond} {own C : String} {b : Addr} {As rest : List Value} {g : JFrame}
/-- invokevirtual -/
theorem runVx (S : CallFix p m c cc nL s args Ts own) (hM : MX l y ws rm Pc Qx) (cw : CallW R s args own C index y bytes maxL ret ws rm mc ms n) (hp : PreV s H C b Pc As)
    (hg : g.method = m) (hn : As.length = n) (hsize : g.locals.size = nL) (hstack : g.stack = As.reverse ++ .ref b :: rest) (hW : 2 * g.monitorRoom + (rest.map fun v => v.category).sum ≤ 8) (hdg : decode cc g.pc = .ok (.invokevirtual index, 3)) (hf : cells + mc ≤ R.cells ∧ slots + ms ≤ R.slots)
    (kr : ∀ (v : Option Value) (st t : State) (L : List Loc) (k j : Nat), st.heap = H → s.WarmedH t.vm → Qx (Value.ref b :: As).toArray st (.returned v) t L k j → W p l e R s m args below meth c t.heap (locs ++ L) (cells + k) (slots + j) Q { g with pc := g.pc + 3, stack := v.toList ++ rest })
    (kx : ∀ (x : Addr) (st t : State) (L : List Loc) (k j : Nat), st.heap = H → s.WarmedH t.vm → Qx (Value.ref b :: As).toArray st (.threw x) t L k j → WT p l e R s m args below meth c t.heap (locs ++ L) (cells + k) (slots + j) Q x { g with stack := rest }) :
    W p l e R s m args below meth c H locs cells slots Q g := by
  obtain ⟨⟨hrc, hrs, hfr, hlo, hws, -, hcode, hini, hy, hlen, hl⟩, hin, hse⟩ := cw
  obtain ⟨hx, hb, hml, ho, -⟩ := S
  obtain ⟨hbl, ⟨cellB, hcB, hoB, hclB⟩, hPc⟩ := hp
  intro T hT X
  obtain ⟨mk, methM, hnamed, hmethM, hstM, habM⟩ := Cond.instanceMethod_spec hin
  obtain ⟨methM', cM, hmethM', hcM, -, hmlM, -, -, -, hsigM⟩ := Cond.code_spec hnamed hcode
  cases hmethM.symm.trans hmethM'
  obtain ⟨c2, r2, m2, q1, q2, q3, q4, kP, hkP, hkPi⟩ := Cond.selects_spec hse
  cases hclB.symm.trans q1
  cases (State.methodFound?_of_named hnamed hy).symm.trans q2
  cases hnamed.symm.trans q3
  have hselP : selectMethod e.platform s.vm cellB.cls mk = .method mk := by rw [Launch.admits_selectMethod X.admits]; exact q4
  obtain ⟨vm₁, X₁, hstep₁⟩ := X.invokevirtual hx ho hl hnamed hmethM hstM hkP hkPi hy (a := b) (cell := cellB) (by rw [hT]; exact hcB)
    (fun z h => by rw [h] at hoB; cases hoB) hselP hmethM habM hkP hkPi (g := g) hg (argsL := As) (rest := rest) (hn.trans (hlen _ hsigM)) hstack (by rw [hb]; exact hdg)
  have hm1 : (T.setVm vm₁).vm.method? mk = some methM := by rw [X₁.warmed.alike.method?]; exact hmethM
  obtain ⟨o, t, U', L, k, j, X', e1, e2, hq, k1, k2⟩ := bk_any (g := { g with stack := rest }) (ig := .invokevirtual index) (len := 3) (mk := mk) (a := (Value.ref b :: As).toArray) hM X₁ hg (hsize.trans hml.symm) (by rw [hb]; exact hdg) (X₁.named hnamed) hm1 hcM
    (fun w hw => hws w hw _ _ X₁.warmed) (word_at X₁.warmed (Or.inl (by first | rfl | simp [Cond.onTables, Cond.keeps, Cond.steady])) hini) hfr (by rw [hmlM]; show 2 * g.monitorRoom + (rest.map fun v => v.category).sum + _ + _ ≤ _; omega) (by rw [hrc]; exact hf.1) (by rw [hrs]; exact hf.2) (hbl _ _ _ _ (hPc (T.setVm vm₁) hT X₁.warmed))
  have hW' : s.WarmedH t.vm := by rw [← e2]; exact X'.warmed
  cases o with
  | returned v =>
    obtain ⟨t2, a1, b1⟩ := kr v ((T.setVm vm₁).calling _ _ _) t L k j hT hW' hq U' e1 X'
    exact ⟨t2, hstep₁ _ fun acts => by rw [doInvoke_state]; exact (k1 v rfl).trans a1, b1⟩
  | threw x =>
    obtain ⟨t2, a1, b1⟩ := kx x ((T.setVm vm₁).calling _ _ _) t L k j hT hW' hq U' e1 X'
    exact ⟨t2, hstep₁ _ fun acts => by rw [doInvoke_state]; exact (k2 x rfl).trans a1, b1⟩
/-- invokestatic -/
theorem runSx (S : CallFix p m c cc nL s args Ts own) (hM : MX l y ws rm Pc Qx) (cw : CallB R s args own index y bytes maxL ret ws rm mc ms n ∧ (Cond.static y).before args s = true) (hp : PreS s H Pc As)
    (hg : g.method = m) (hn : As.length = n) (hsize : g.locals.size = nL) (hstack : g.stack = As.reverse ++ rest) (hW : 2 * g.monitorRoom + (rest.map fun v => v.category).sum ≤ 8) (hdg : decode cc g.pc = .ok (.invokestatic index, 3)) (hf : cells + mc ≤ R.cells ∧ slots + ms ≤ R.slots)
    (kr : ∀ (v : Option Value) (st t : State) (L : List Loc) (k j : Nat), st.heap = H → s.WarmedH t.vm → Qx As.toArray st (.returned v) t L k j → W p l e R s m args below meth c t.heap (locs ++ L) (cells + k) (slots + j) Q { g with pc := g.pc + 3, stack := v.toList ++ rest })
    (kx : ∀ (x : Addr) (st t : State) (L : List Loc) (k j : Nat), st.heap = H → s.WarmedH t.vm → Qx As.toArray st (.threw x) t L k j → WT p l e R s m args below meth c t.heap (locs ++ L) (cells + k) (slots + j) Q x { g with stack := rest }) :
    W p l e R s m args below meth c H locs cells slots Q g := by
  obtain ⟨⟨hrc, hrs, hfr, hlo, hws, -, hcode, hini, hy, hlen, hl⟩, hstt⟩ := cw
  obtain ⟨hx, hb, hml, ho, -⟩ := S
  intro T hT X
  obtain ⟨mk, hnamed⟩ := Cond.code_named hcode
  obtain ⟨methM, cM, hmethM, hcM, -, hmlM, -, -, -, hsigM⟩ := Cond.code_spec hnamed hcode
  have hstatic : methM.isStatic = true := Cond.static_spec hnamed hmethM hstt
  obtain ⟨kP, hkP, -⟩ := className_of_methodNamed hnamed
  have hinitP : kP.init = .initialized := Cond.initialized_spec (findClass_of_methodNamed hnamed) hkP hini
  obtain ⟨vm₁, X₁, hstep₁⟩ := X.invokestatic hx ho hl hnamed hmethM hstatic hkP hinitP hy (g := g) hg (argsL := As) (rest := rest) (hn.trans (hlen _ hsigM)) hstack (by rw [hb]; exact hdg)
  have hm1 : (T.setVm vm₁).vm.method? mk = some methM := by rw [X₁.warmed.alike.method?]; exact hmethM
  obtain ⟨o, t, U', L, k, j, X', e1, e2, hq, k1, k2⟩ := bk_any (g := { g with stack := rest }) (ig := .invokestatic index) (len := 3) (mk := mk) (a := As.toArray) hM X₁ hg (hsize.trans hml.symm) (by rw [hb]; exact hdg) (X₁.named hnamed) hm1 hcM
    (fun w hw => hws w hw _ _ X₁.warmed) (word_at X₁.warmed (Or.inl (by first | rfl | simp [Cond.onTables, Cond.keeps, Cond.steady])) hini) hfr (by rw [hmlM]; show 2 * g.monitorRoom + (rest.map fun v => v.category).sum + _ + _ ≤ _; omega) (by rw [hrc]; exact hf.1) (by rw [hrs]; exact hf.2) (hp.1 _ _ _ _ (hp.2 (T.setVm vm₁) hT X₁.warmed))
  have hW' : s.WarmedH t.vm := by rw [← e2]; exact X'.warmed
  cases o with
  | returned v =>
    obtain ⟨t2, a1, b1⟩ := kr v ((T.setVm vm₁).calling _ _ _) t L k j hT hW' hq U' e1 X'
    exact ⟨t2, hstep₁ _ fun acts => by rw [doInvoke_state]; exact (k1 v rfl).trans a1, b1⟩
  | threw x =>
    obtain ⟨t2, a1, b1⟩ := kx x ((T.setVm vm₁).calling _ _ _) t L k j hT hW' hq U' e1 X'
    exact ⟨t2, hstep₁ _ fun acts => by rw [doInvoke_state]; exact (k2 x rfl).trans a1, b1⟩
/-- the exception leaves the method: no handlers -/
theorem WT.out {Qy : Outcome → State → List Loc → Nat → Nat → Prop} {x : Addr} {pc : Nat} {ls : Array Slot} {st : List Value} (hex : c.exceptionTable.toList = []) (hlk : meth.locks = false) (hq : ∀ t : State, t.heap = H → s.WarmedH t.vm → Qy (.threw x) t locs cells slots) :
    WT p l e R s m args below meth c H locs cells slots (MQx below Qy s) x (F0 m pc ls st) := by
  intro T hT X
  obtain ⟨h1, h2, h3, h4, h5⟩ := X.leaveThrown x (g := F0 m pc ls st) rfl rfl rfl (by rw [hex]; intro z hz; cases hz) hlk
  exact ⟨_, h1, .threw x, h2, h3, locs, cells, slots, ⟨h4, h5⟩, hq _ hT h4⟩
/-- returns -/
theorem Rx.int {Qy : Outcome → State → List Loc → Nat → Nat → Prop} {v : Int32} {ty : FieldType} (hexec : p.tables.exec = Jvm.exec) (hb : c.code = cc) (hr : meth.sig.returnType = some ty) (hn : narrow ty (.int v) = .int v) (hlocks : meth.locks = false)
    {pc : Nat} {ls : Array Slot} (hdg : decode cc pc = .ok (.ireturn, 1)) (hq : ∀ t : State, t.heap = H → s.WarmedH t.vm → Qy (.returned (some (.int v))) t locs cells slots) :
    W p l e R s m args below meth c H locs cells slots (MQx below Qy s) (F0 m pc ls [.int v]) := by
  intro T hT X
  obtain ⟨fs, hret, hrun, hended, hW, hframe⟩ := X.leave (v := some (.int v)) (fun h => by rw [hr] at h; cases h)
  have hmeth' : T.vm.method? m = some meth := X.method'
  refine ⟨T.setFrames fs, ?_, .returned (some (.int v)), hrun, hended, locs, cells, slots, ⟨hW, hframe⟩, hq _ hT hW⟩
  jvm_step X.here [X.here.top, hexec, hb, hdg, hmeth', hr, hn]
  (try refine ⟨rfl, ?_⟩); (try refine ⟨rfl, ?_⟩)
  first | (intro acts; rw [hret _ acts rfl rfl rfl]) | rw [hret _ _ rfl rfl rfl]
  exact Steps.refl _
theorem Rx.void {Qy : Outcome → State → List Loc → Nat → Nat → Prop} (hexec : p.tables.exec = Jvm.exec) (hb : c.code = cc) (hr : meth.sig.returnType = none) (hlocks : meth.locks = false)
    {pc : Nat} {ls : Array Slot} (hdg : decode cc pc = .ok (.return_, 1)) (hq : ∀ t : State, t.heap = H → s.WarmedH t.vm → Qy (.returned none) t locs cells slots) :
    W p l e R s m args below meth c H locs cells slots (MQx below Qy s) (F0 m pc ls []) := by
  intro T hT X
  obtain ⟨fs, hret, hrun, hended, hW, hframe⟩ := X.leave (v := none) (fun _ => rfl)
  have hmeth' : T.vm.method? m = some meth := X.method'
  refine ⟨T.setFrames fs, ?_, .returned none, hrun, hended, locs, cells, slots, ⟨hW, hframe⟩, hq _ hT hW⟩
  jvm_step X.here [X.here.top, hexec, hb, hdg, hmeth', hr]
  (try refine ⟨rfl, ?_⟩); (try refine ⟨rfl, ?_⟩)
  first | (intro acts; rw [hret _ acts rfl rfl rfl]) | rw [hret _ _ rfl rfl rfl]
  exact Steps.refl _
end CALLS
