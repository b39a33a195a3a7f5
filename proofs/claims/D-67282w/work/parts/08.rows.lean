set_option maxRecDepth 100000
/-! OWN ROWS: one an instruction, over the memory of rows -/
def fI (g k index : Nat) : Prop := k < gN g ∧ isA (gTy g k) = false ∧ Cond.fieldLink (gR g) index (gR g) (gT g k).2.1 (gT g k).2.2.1 ∈ lw_all ∧ (gT g k).1 = gR g
def fA (g k index : Nat) : Prop := k < gN g ∧ isA (gTy g k) = true ∧ Cond.fieldLink (gR g) index (gR g) (gT g k).2.1 (gT g k).2.2.1 ∈ lw_all ∧ (gT g k).1 = gR g
def fP (g k : Nat) : Prop := (gT g k).2.2.2 = false ∧ gTy g k = .int
def fZ (g k : Nat) : Prop := (gT g k).2.2.2 = false ∧ gTy g k = .boolean
def aI (g k : Nat) : Prop := k < gN g ∧ gTy g k = .array .int
def aZ (g k : Nat) : Prop := k < gN g ∧ gTy g k = .array .boolean
/-- a boolean as an int -/
def zb (v : Int32) : Prop := narrow .boolean (.int v) = .int v ∧ fits .boolean (.int v) = true
theorem zb0 : zb 0 := ⟨by decide +kernel, by decide +kernel⟩
theorem zb1 : zb 1 := ⟨by decide +kernel, by decide +kernel⟩
def bI (q : Prop) [Decidable q] : Int32 := if q then 1 else 0
section ROWS
variable {p : Program} {l : Launch} {e : Env} {R : Room} {s : State} {m : MethodId} {args : Array Value} {below : List Frame} {meth : Method} {c : Code} {H : Heap} {locs : List Loc} {cells slots : Nat} {Qe : State → Prop}
variable {E : Ev} {g h0 : Nat} {P0 : Le} {kc0 ks0 : Nat} {S0 : State} {A : Nat → Prop} {cc : ByteArray} {nL : Nat} {ret : Option FieldType} {d : Nat} {Sb : Nat → Bool} {P : Le} {C : Me} {Z : Le}
variable {pc : Nat} {ls : Array Slot} {rest : List Value}
theorem r_gi (X : Cx E g h0 P0 kc0 ks0 S0 A p l R s m args meth c cc nL ret d) (hS : HS E g h0 P0 kc0 ks0 Sb A s.heap P C Z H locs cells slots) {k index : Nat} (f : fI g k index) (hdg : decode cc pc = .ok (.getfield index, 3))
    (kk : W p l e R s m args below meth c H locs cells slots Qe (F0 m (pc + 3) ls (.int (C k 0) :: rest))) : W p l e R s m args below meth c H locs cells slots Qe (F0 m pc ls (.ref h0 :: rest)) := by
  obtain ⟨⟨hc, hin, -, -⟩, hx, hb, -, hown, hts, -, -, hK, -⟩ := X
  obtain ⟨⟨⟨cell, q1, q2, q3, q4⟩, -⟩, -⟩ := hS
  obtain ⟨hk, hta, hlink, href⟩ := f
  obtain ⟨hSl, hfc, kC, hkC, hkind⟩ := hK.1 g _ hc
  obtain ⟨cf, kf, fi, f, hi, hsl⟩ := hSl k hk
  refine W.getf hx hb hown (hts _ hlink) (by rw [← href]; exact hi) (u_facts hfc hkC (u_lays hts hin hk) hi).1 q1 (by rw [q3]; exact fun h => by cases h) (v := .int (C k 0)) ?_ rfl rfl hdg kk
  rw [hsl, q4 k hk]
  simp [hv, hta]
theorem r_ga (X : Cx E g h0 P0 kc0 ks0 S0 A p l R s m args meth c cc nL ret d) (hS : HS E g h0 P0 kc0 ks0 Sb A s.heap P C Z H locs cells slots) {k index : Nat} (f : fA g k index) (hdg : decode cc pc = .ok (.getfield index, 3))
    (kk : W p l e R s m args below meth c H locs cells slots Qe (F0 m (pc + 3) ls (.ref (P k) :: rest))) : W p l e R s m args below meth c H locs cells slots Qe (F0 m pc ls (.ref h0 :: rest)) := by
  obtain ⟨⟨hc, hin, -, -⟩, hx, hb, -, hown, hts, -, -, hK, -⟩ := X
  obtain ⟨⟨⟨cell, q1, q2, q3, q4⟩, -⟩, -⟩ := hS
  obtain ⟨hk, hta, hlink, href⟩ := f
  obtain ⟨hSl, hfc, kC, hkC, hkind⟩ := hK.1 g _ hc
  obtain ⟨cf, kf, fi, f, hi, hsl⟩ := hSl k hk
  refine W.getf hx hb hown (hts _ hlink) (by rw [← href]; exact hi) (u_facts hfc hkC (u_lays hts hin hk) hi).1 q1 (by rw [q3]; exact fun h => by cases h) (v := .ref (P k)) ?_ rfl rfl hdg kk
  rw [hsl, q4 k hk]
  simp [hv, hta]
/-- putfield of an int or boolean field -/
theorem r_p (X : Cx E g h0 P0 kc0 ks0 S0 A p l R s m args meth c cc nL ret d) (hS : HS E g h0 P0 kc0 ks0 Sb A s.heap P C Z H locs cells slots) {k index : Nat} (f : fI g k index) (hfin : (gT g k).2.2.2 = false) {v : Int32} (hn : narrow (gTy g k) (.int v) = .int v) (hfit : fits (gTy g k) (.int v) = true) (hdg : decode cc pc = .ok (.putfield index, 3))
    (kk : ∀ C1, C1 = stM C k 0 v → ∀ (H1 : Heap) (locs1 : List Loc), HS E g h0 P0 kc0 ks0 Sb A s.heap P C1 Z H1 locs1 cells slots → W p l e R s m args below meth c H1 locs1 cells slots Qe (F0 m (pc + 3) ls rest)) : W p l e R s m args below meth c H locs cells slots Qe (F0 m pc ls (.int v :: .ref h0 :: rest)) := by
  obtain ⟨⟨hc, hin, hty, hnm⟩, hx, hb, -, hown, hts, -, -, hK, -⟩ := X
  obtain ⟨hP, hD, hS0, hSb, hz⟩ := hS
  obtain ⟨hk, hta, hlink, href⟩ := f
  have hap := va_apart (own := gR g) hts hin (gTy g) hty hnm hK hc
  obtain ⟨cell, q1, q2, q3, q4⟩ := hP.1
  obtain ⟨hSl, hfc, kC, hkC, hkind⟩ := hK.1 g _ hc
  obtain ⟨cf, kf, fi, f, hi, hsl⟩ := hSl k hk
  have hlay := hts _ (hin _ (u_in_lay hk))
  unfold u_lay at hlay
  rw [if_neg (by rw [hfin]; decide)] at hlay
  have hst := (u_facts hfc hkC (u_lays hts hin hk) hi).1
  have h6 := u_store hfc hkC hkind hlay hi (hty k hk) hn hfit
  refine W.putK hx hb (f := f) ⟨hown, hts _ hlink, ⟨_, _, _, by rw [← href]; exact hi⟩, hst⟩ (by rw [q2]; exact h6) q1 q3 (by rw [hsl]; exact k2_hasslot (q4 k hk)) rfl rfl hdg fun H' e1 e2 e3 => ?_
  rw [hsl] at e1 ⊢
  exact kk _ rfl H' _ ⟨hP.stF hD hk hta ⟨_, e1, q2, q3, t_set q4 hap hk (.int v)⟩ e3, hD, hS0.put e2 e3 hD.1, hSb, hz⟩
theorem r_pi (X : Cx E g h0 P0 kc0 ks0 S0 A p l R s m args meth c cc nL ret d) (hS : HS E g h0 P0 kc0 ks0 Sb A s.heap P C Z H locs cells slots) {k index : Nat} (f : fI g k index) (f2 : fP g k) {v : Int32} (hdg : decode cc pc = .ok (.putfield index, 3))
    (kk : ∀ C1, C1 = stM C k 0 v → ∀ (H1 : Heap) (locs1 : List Loc), HS E g h0 P0 kc0 ks0 Sb A s.heap P C1 Z H1 locs1 cells slots → W p l e R s m args below meth c H1 locs1 cells slots Qe (F0 m (pc + 3) ls rest)) : W p l e R s m args below meth c H locs cells slots Qe (F0 m pc ls (.int v :: .ref h0 :: rest)) :=
  r_p X hS f f2.1 (by rw [f2.2]; rfl) (by rw [f2.2]; rfl) hdg kk
theorem r_pz (X : Cx E g h0 P0 kc0 ks0 S0 A p l R s m args meth c cc nL ret d) (hS : HS E g h0 P0 kc0 ks0 Sb A s.heap P C Z H locs cells slots) {k index : Nat} (f : fI g k index) (f2 : fZ g k) {v : Int32} (hz : zb v) (hdg : decode cc pc = .ok (.putfield index, 3))
    (kk : ∀ C1, C1 = stM C k 0 v → ∀ (H1 : Heap) (locs1 : List Loc), HS E g h0 P0 kc0 ks0 Sb A s.heap P C1 Z H1 locs1 cells slots → W p l e R s m args below meth c H1 locs1 cells slots Qe (F0 m (pc + 3) ls rest)) : W p l e R s m args below meth c H locs cells slots Qe (F0 m pc ls (.int v :: .ref h0 :: rest)) :=
  r_p X hS f f2.1 (by rw [f2.2]; exact hz.1) (by rw [f2.2]; exact hz.2) hdg kk
theorem r_in {j n : Nat} (hj : j < n) (hn : n < 2147483648) : ¬ (nI j < 0 ∨ n ≤ (nI j).toNatClampNeg) := nI_in hj hn
theorem isA_int {t : FieldType} (h : t = .array .int) : isA t = true := by rw [h]; rfl
theorem isA_bool {t : FieldType} (h : t = .array .boolean) : isA t = true := by rw [h]; rfl
theorem r_il (X : Cx E g h0 P0 kc0 ks0 S0 A p l R s m args meth c cc nL ret d) (hS : HS E g h0 P0 kc0 ks0 Sb A s.heap P C Z H locs cells slots) {k : Nat} (f : aI g k) {i : Int32} {j : Nat} (hj : j < Z k) (hi : i = nI j) (hdg : decode cc pc = .ok (.iaload, 1))
    (kk : W p l e R s m args below meth c H locs cells slots Qe (F0 m (pc + 1) ls (.int (C k j) :: rest))) : W p l e R s m args below meth c H locs cells slots Qe (F0 m pc ls (.int i :: .ref (P k) :: rest)) := by
  subst hi
  obtain ⟨-, hx, hb, -, hown, hts, -, -, hK, -⟩ := X
  obtain ⟨hP, -⟩ := hS
  obtain ⟨hc, hlt⟩ := hP.2.1 k f.1 (isA_int f.2)
  rw [f.2] at hc
  have hcl : (nI j).toNatClampNeg = j := nI_clamp (by omega)
  exact W.iald (v := .int (C k j)) hx hb hc ((hK.2 0 _ rfl).1 (Z k) (fun j => .int (C k j))) (fun q => by cases q) (by show ¬ (nI j < 0 ∨ (arrV _ _ _).slots.size ≤ _); rw [arrV_size]; exact r_in hj hlt) (by show (arrV _ _ _).slots[_]? = _; rw [hcl, arrV_read _ _ hj]) rfl rfl hdg kk
theorem r_zl (X : Cx E g h0 P0 kc0 ks0 S0 A p l R s m args meth c cc nL ret d) (hS : HS E g h0 P0 kc0 ks0 Sb A s.heap P C Z H locs cells slots) {k : Nat} (f : aZ g k) {i : Int32} {j : Nat} (hj : j < Z k) (hi : i = nI j) (hdg : decode cc pc = .ok (.baload, 1))
    (kk : W p l e R s m args below meth c H locs cells slots Qe (F0 m (pc + 1) ls (.int (C k j) :: rest))) : W p l e R s m args below meth c H locs cells slots Qe (F0 m pc ls (.int i :: .ref (P k) :: rest)) := by
  subst hi
  obtain ⟨-, hx, hb, -, hown, hts, -, -, hK, -⟩ := X
  obtain ⟨hP, -⟩ := hS
  obtain ⟨hc, hlt⟩ := hP.2.1 k f.1 (isA_bool f.2)
  rw [f.2] at hc
  have hcl : (nI j).toNatClampNeg = j := nI_clamp (by omega)
  exact W.zald (v := .int (C k j)) hx hb hc ((hK.2 1 _ rfl).1 (Z k) (fun j => .int (C k j))) (fun q => by cases q) (by show ¬ (nI j < 0 ∨ (arrV _ _ _).slots.size ≤ _); rw [arrV_size]; exact r_in hj hlt) (by show (arrV _ _ _).slots[_]? = _; rw [hcl, arrV_read _ _ hj]) rfl rfl hdg kk
theorem arr_upd (cA : ClassId) (n j : Nat) (f : Nat → Int32) (x : Int32) : (vp_cell cA (n, .inl f)).setSlot j (.int x) = vp_cell cA (n, .inl (upd f j x)) := by
  rw [vp_cell_i, vp_cell_i, arrV_store]
  congr 2
  funext q
  by_cases hq : q = j
  · subst hq
    simp [updV, upd]
  · simp [updV, upd, hq]
theorem r_is (X : Cx E g h0 P0 kc0 ks0 S0 A p l R s m args meth c cc nL ret d) (hS : HS E g h0 P0 kc0 ks0 Sb A s.heap P C Z H locs cells slots) {k : Nat} (f : aI g k) {i x : Int32} {j : Nat} (hj : j < Z k) (hi : i = nI j) (hdg : decode cc pc = .ok (.iastore, 1))
    (kk : ∀ C1, C1 = stM C k j x → ∀ (H1 : Heap) (locs1 : List Loc), HS E g h0 P0 kc0 ks0 Sb A s.heap P C1 Z H1 locs1 cells slots → W p l e R s m args below meth c H1 locs1 cells slots Qe (F0 m (pc + 1) ls rest)) : W p l e R s m args below meth c H locs cells slots Qe (F0 m pc ls (.int x :: .int i :: .ref (P k) :: rest)) := by
  subst hi
  obtain ⟨-, hx, hb, -, hown, hts, -, -, hK, -⟩ := X
  obtain ⟨hP, hD, hS0, hSb, hz⟩ := hS
  have hia := isA_int f.2
  obtain ⟨hc, hlt⟩ := hP.2.1 k f.1 hia
  have hcl : (nI j).toNatClampNeg = j := nI_clamp (by omega)
  have hc' : H[P k]? = some (vp_cell E.2.1 (Z k, .inl (C k))) := by rw [f.2] at hc; exact hc
  refine W.iast hx hb hc' ((hK.2 0 _ rfl).1 (Z k) (fun j => .int (C k j))) (fun q => by cases q) (by show ¬ (nI j < 0 ∨ (arrV _ _ _).slots.size ≤ _); rw [arrV_size]; exact r_in hj hlt) rfl rfl hdg fun H1 e1 z oq => ?_
  rw [hcl, arr_upd] at e1
  exact kk _ rfl H1 _ ⟨hP.stA hD f.1 hia (by rw [f.2]; exact e1) oq, hD, hS0.put z oq (hD.2.1 k f.1 hia).1, hSb, hz⟩
theorem r_zs (X : Cx E g h0 P0 kc0 ks0 S0 A p l R s m args meth c cc nL ret d) (hS : HS E g h0 P0 kc0 ks0 Sb A s.heap P C Z H locs cells slots) {k : Nat} (f : aZ g k) {i x : Int32} {j : Nat} (hzb : zb x) (hj : j < Z k) (hi : i = nI j) (hdg : decode cc pc = .ok (.bastore, 1))
    (kk : ∀ C1, C1 = stM C k j x → ∀ (H1 : Heap) (locs1 : List Loc), HS E g h0 P0 kc0 ks0 Sb A s.heap P C1 Z H1 locs1 cells slots → W p l e R s m args below meth c H1 locs1 cells slots Qe (F0 m (pc + 1) ls rest)) : W p l e R s m args below meth c H locs cells slots Qe (F0 m pc ls (.int x :: .int i :: .ref (P k) :: rest)) := by
  subst hi
  obtain ⟨-, hx, hb, -, hown, hts, -, -, hK, -⟩ := X
  obtain ⟨hP, hD, hS0, hSb, hz⟩ := hS
  have hia := isA_bool f.2
  obtain ⟨hc, hlt⟩ := hP.2.1 k f.1 hia
  have hcl : (nI j).toNatClampNeg = j := nI_clamp (by omega)
  have hc' : H[P k]? = some (vp_cell E.2.2.1 (Z k, .inl (C k))) := by rw [f.2] at hc; exact hc
  refine W.zast hx hb hc' ((hK.2 1 _ rfl).1 (Z k) (fun j => .int (C k j))) (fun q => by cases q) (by show ¬ (nI j < 0 ∨ (arrV _ _ _).slots.size ≤ _); rw [arrV_size]; exact r_in hj hlt) rfl rfl hdg fun H1 e1 z oq => ?_
  rw [hcl, hzb.1, arr_upd] at e1
  exact kk _ rfl H1 _ ⟨hP.stA hD f.1 hia (by rw [f.2]; exact e1) oq, hD, hS0.put z oq (hD.2.1 k f.1 hia).1, hSb, hz⟩
theorem r_len (X : Cx E g h0 P0 kc0 ks0 S0 A p l R s m args meth c cc nL ret d) (hS : HS E g h0 P0 kc0 ks0 Sb A s.heap P C Z H locs cells slots) {k : Nat} (f : aI g k) (hdg : decode cc pc = .ok (.arraylength, 1))
    (kk : W p l e R s m args below meth c H locs cells slots Qe (F0 m (pc + 1) ls (.int (nI (Z k)) :: rest))) : W p l e R s m args below meth c H locs cells slots Qe (F0 m pc ls (.ref (P k) :: rest)) := by
  obtain ⟨-, hx, hb, -, hown, hts, -, -, hK, -⟩ := X
  obtain ⟨hP, -⟩ := hS
  obtain ⟨hc, hlt⟩ := hP.2.1 k f.1 (isA_int f.2)
  rw [f.2] at hc
  exact W.alen (n := nI (Z k)) hx hb hc ((hK.2 0 _ rfl).1 (Z k) (fun j => .int (C k j))) (by rw [vp_cell_i, arrV_size] <;> rfl) rfl rfl hdg kk
/-- returns of a method with a contract MT -/
theorem r_ri {b : Bool} {Q : Int32 → Me → Le → Prop} {PX : Nat → Me → Le → Prop} {ty : FieldType} (X : Cx E g h0 P0 kc0 ks0 S0 A p l R s m args meth c cc nL (some ty) d) (hS : HS E g h0 P0 kc0 ks0 Sb A s.heap P C Z H locs cells slots) {v : Int32} (hb : b = true) (hn : narrow ty (.int v) = .int v) (hdg : decode cc pc = .ok (.ireturn, 1)) (hq : Q v C Z) :
    W p l e R s m args below meth c H locs cells slots (MQx below (QT E g h0 b P0 kc0 ks0 Sb A Q PX s) s) (F0 m pc ls [.int v]) := by
  obtain ⟨-, hx, hbb, -, -, -, hlk, hr, -⟩ := X
  obtain ⟨hP, hD, hS0, hSb, hz1, hz2⟩ := hS
  refine Rx.int hx hbb hr hn hlk hdg fun t ht hW => ?_
  exact ⟨hS0.2.2, hS0.F ht, P, C, Z, by rw [ht]; exact hP, hD, hSb, hz1, hz2, Or.inl ⟨v, by rw [hb]; rfl, hq⟩⟩
theorem r_rv {b : Bool} {Q : Int32 → Me → Le → Prop} {PX : Nat → Me → Le → Prop} (X : Cx E g h0 P0 kc0 ks0 S0 A p l R s m args meth c cc nL none d) (hS : HS E g h0 P0 kc0 ks0 Sb A s.heap P C Z H locs cells slots) (hb : b = false) (hdg : decode cc pc = .ok (.return_, 1)) (hq : Q 0 C Z) :
    W p l e R s m args below meth c H locs cells slots (MQx below (QT E g h0 b P0 kc0 ks0 Sb A Q PX s) s) (F0 m pc ls []) := by
  obtain ⟨-, hx, hbb, -, -, -, hlk, hr, -⟩ := X
  obtain ⟨hP, hD, hS0, hSb, hz1, hz2⟩ := hS
  refine Rx.void hx hbb hr hlk hdg fun t ht hW => ?_
  exact ⟨hS0.2.2, hS0.F ht, P, C, Z, by rw [ht]; exact hP, hD, hSb, hz1, hz2, Or.inl ⟨0, by rw [hb]; rfl, hq⟩⟩
/-- returns of a method that reads alone -/
theorem r_riR {b : Bool} {Q : Int32 → Me → Le → Prop} {PX : Nat → Me → Le → Prop} {ty : FieldType} (X : Cx E g h0 P0 kc0 ks0 S0 A p l R s m args meth c cc nL (some ty) d) {v : Int32} (hb : b = true) (hn : narrow ty (.int v) = .int v) (hdg : decode cc pc = .ok (.ireturn, 1)) (hq : Q v C Z) :
    W p l e R s m args below meth c s.heap [] 0 0 (MQx below (QR b C Z Q PX s) s) (F0 m pc ls [.int v]) := by
  obtain ⟨-, hx, hbb, -, -, -, hlk, hr, -⟩ := X
  refine Rx.int hx hbb hr hn hlk hdg fun t ht hW => ?_
  exact ⟨rfl, Or.inl ⟨v, by rw [hb]; rfl, ht, rfl, rfl, hq⟩⟩
theorem r_rvR {b : Bool} {Q : Int32 → Me → Le → Prop} {PX : Nat → Me → Le → Prop} (X : Cx E g h0 P0 kc0 ks0 S0 A p l R s m args meth c cc nL none d) (hb : b = false) (hdg : decode cc pc = .ok (.return_, 1)) (hq : Q 0 C Z) :
    W p l e R s m args below meth c s.heap [] 0 0 (MQx below (QR b C Z Q PX s) s) (F0 m pc ls []) := by
  obtain ⟨-, hx, hbb, -, -, -, hlk, hr, -⟩ := X
  refine Rx.void hx hbb hr hlk hdg fun t ht hW => ?_
  exact ⟨rfl, Or.inl ⟨0, by rw [hb]; rfl, ht, rfl, rfl, hq⟩⟩
end ROWS
