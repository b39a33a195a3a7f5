set_option maxRecDepth 100000
/-! OWN ROWS over Int: the memory V (row, place), numbers as Int; what a method asks and gives as a predicate (wp) of x-words -/
abbrev Mv : Type := Nat → Int → Int
abbrev Po : Type := Int → Mv → Le → Prop
abbrev Px : Type := Nat → Mv → Le → Prop
def I3 (x : Int) : Int32 := Int32.ofInt x
def inR (x : Int) : Prop := -2147483648 ≤ x ∧ x < 2147483648
def inM (V : Mv) : Prop := ∀ k i, inR (V k i)
def toC (V : Mv) : Me := fun k j => I3 (V k (j : Int))
def sV (V : Mv) (k : Nat) (i v : Int) : Mv := fun a => if a = k then (fun b => if b = i then v else V a b) else V a
def gV (V : Mv) (k : Nat) (n : Int) : Mv := fun a => if a = k then (fun b => if b < n then V a b else 0) else V a
def bz (v : Int) : Prop := v = 0 ∨ v = 1
/-- the x-words -/
def xL (V : Mv) (Z : Le) (k : Nat) (i : Int) (K : Int → Prop) : Prop := (0 ≤ i ∧ i < (Z k : Int)) ∧ K (V k i)
def xS (V : Mv) (Z : Le) (k : Nat) (i v : Int) (K : Mv → Prop) : Prop := (0 ≤ i ∧ i < (Z k : Int)) ∧ ∀ V1, V1 = sV V k i v → K V1
def xB (V : Mv) (Z : Le) (k : Nat) (i v : Int) (K : Mv → Prop) : Prop := (0 ≤ i ∧ i < (Z k : Int)) ∧ bz v ∧ ∀ V1, V1 = sV V k i v → K V1
def xF (V : Mv) (k : Nat) (v : Int) (K : Mv → Prop) : Prop := ∀ V1, V1 = sV V k 0 v → K V1
def xZ (V : Mv) (k : Nat) (v : Int) (K : Mv → Prop) : Prop := bz v ∧ ∀ V1, V1 = sV V k 0 v → K V1
def xA (e : Int) (K : Int → Prop) : Prop := inR e ∧ K e
def xI (c : Prop) (T F : Prop) : Prop := (c → T) ∧ (¬ c → F)
def xG (V : Mv) (Z : Le) (k : Nat) (n : Int) (K : Mv → Le → Prop) : Prop := ((Z k : Int) < n ∧ n ≤ 100000000 ∧ Z 1000 + 1 ≤ KC ∧ (Z 1001 : Int) + n ≤ (KS : Int)) ∧ ∀ V1 Z1, V1 = gV V k (Z k) → Z1 = zg Z k n.toNat → K V1 Z1
def xT (cd : Nat) (V : Mv) (Z : Le) (PX : Px) : Prop := (Z 1000 + 1 ≤ KC ∧ Z 1001 + 6 ≤ KS) ∧ PX cd V (zx Z)
def xN (z : Int) (V : Mv) (Z : Le) (PX : Px) (K : Prop) : Prop := (z = 0 → xT 0 V Z PX) ∧ (¬ z = 0 → K)
def xR (v : Int) (K : Prop) : Prop := bz v ∧ K
def QL (Q : Po) : Int32 → Me → Le → Prop := fun r C1 Z1 => ∃ x V1, inR x ∧ inM V1 ∧ r = I3 x ∧ C1 = toC V1 ∧ Q x V1 Z1
def RL (Q : Int → Prop) : Int32 → Me → Le → Prop := fun r _ _ => ∃ x, inR x ∧ r = I3 x ∧ Q x
def PL (PX : Px) : Nat → Me → Le → Prop := fun cd C1 Z1 => ∃ V1, inM V1 ∧ C1 = toC V1 ∧ PX cd V1 Z1
def sbs (L : List Nat) : Nat → Bool := fun k => L.contains k
theorem sbs_sub {L L' : List Nat} (h : L'.all (fun x => L.contains x) = true) : ∀ k, sbs L k = false → sbs L' k = false := by
  intro k hk
  by_cases h2 : L'.contains k = true
  · have h3 : k ∈ L' := by simpa using h2
    have h4 := List.all_eq_true.mp h k h3
    rw [sbs, h4] at hk
    cases hk
  · simpa [sbs] using h2
theorem inR_of {n : Nat} (h : n < 2147483648) : inR (n : Int) := ⟨by omega, by omega⟩
theorem inR_m (x : Int32) : inR x.toInt := ⟨Int32.le_toInt x, Int32.toInt_lt x⟩
theorem I3_to {x : Int} (h : inR x) : (I3 x).toInt = x := Int32.toInt_ofInt_of_le (by have := h.1; omega) (by have := h.2; omega)
theorem I3_of (x : Int32) : I3 x.toInt = x := Int32.toInt_inj.mp (I3_to (inR_m x))
theorem I3_lt {a b : Int} (ha : inR a) (hb : inR b) : (I3 a < I3 b) ↔ a < b := by rw [Int32.lt_iff_toInt_lt, I3_to ha, I3_to hb]
theorem I3_le {a b : Int} (ha : inR a) (hb : inR b) : (I3 a ≤ I3 b) ↔ a ≤ b := by rw [Int32.le_iff_toInt_le, I3_to ha, I3_to hb]
theorem I3_eq {a b : Int} (ha : inR a) (hb : inR b) : (I3 a = I3 b) ↔ a = b := by rw [← Int32.toInt_inj, I3_to ha, I3_to hb]
theorem I3_n (n : Nat) : I3 (n : Int) = nI n := Int32.ofInt_eq_ofNat
theorem I3_nn {i : Int} (h : 0 ≤ i) : I3 i = nI i.toNat := by rw [← I3_n, Int.toNat_of_nonneg h]
theorem I3_0 : I3 0 = 0 := by decide +kernel
theorem I3_1 : I3 1 = 1 := by decide +kernel
theorem I3_m1 : I3 (-1) = -1 := by decide +kernel
theorem I3_m2 : I3 (-2) = -2 := by decide +kernel
theorem inR_0 : inR 0 := ⟨by decide, by decide⟩
theorem inR_1 : inR 1 := ⟨by decide, by decide⟩
theorem bz_zb {v : Int} (h : bz v) : zb (I3 v) := by
  rcases h with rfl | rfl
  · exact ⟨by decide +kernel, by decide +kernel⟩
  · exact ⟨by decide +kernel, by decide +kernel⟩
theorem inM.set {V : Mv} (h : inM V) {k : Nat} {i v : Int} (hv : inR v) : inM (sV V k i v) := by
  intro a b
  unfold sV
  by_cases ha : a = k
  · by_cases hb : b = i
    · simpa [ha, hb] using hv
    · simpa [ha, hb] using h k b
  · simpa [ha] using h a b
theorem inM.grow {V : Mv} (h : inM V) {k : Nat} {n : Int} : inM (gV V k n) := by
  intro a b
  unfold gV
  by_cases ha : a = k
  · by_cases hb : b < n
    · simpa [ha, hb] using h k b
    · simpa [ha, hb] using inR_0
  · simpa [ha] using h a b
theorem toC_set (V : Mv) (k j : Nat) (v : Int) : toC (sV V k (j : Int) v) = stM (toC V) k j (I3 v) := by
  funext a b
  unfold toC sV stM upd
  by_cases ha : a = k
  · subst ha
    by_cases hb : b = j
    · subst hb
      simp
    · have h3 : ¬ (b : Int) = (j : Int) := by omega
      simp only [if_true, if_neg h3, if_neg hb]
  · simp [ha]
theorem toC_grow (V : Mv) (k n : Nat) : toC (gV V k (n : Int)) = stR (toC V) k (grw (toC V k) n) := by
  funext a b
  unfold toC gV stR grw
  by_cases ha : a = k
  · subst ha
    by_cases hb : b < n
    · have : (b : Int) < (n : Int) := by omega
      simp [hb]
    · have : ¬ (b : Int) < (n : Int) := by omega
      simp [hb, I3_0]
  · simp [ha]
section ZROWS
variable {p : Program} {l : Launch} {e : Env} {R : Room} {s : State} {m : MethodId} {args : Array Value} {below : List Frame} {meth : Method} {c : Code} {H : Heap} {locs : List Loc} {cells slots : Nat} {Qe : State → Prop}
variable {E : Ev} {g h0 : Nat} {P0 : Le} {kc0 ks0 : Nat} {S0 : State} {A : Nat → Prop} {cc : ByteArray} {nL : Nat} {ret : Option FieldType} {d : Nat} {Sb : Nat → Bool} {P : Le} {V : Mv} {Z : Le}
variable {pc : Nat} {ls : Array Slot} {rest : List Value}
theorem HS.zlt (hS : HS E g h0 P0 kc0 ks0 Sb A s.heap P (toC V) Z H locs cells slots) {k : Nat} (hk : k < gN g) (ha : isA (gTy g k) = true) : Z k < 2147483648 := (hS.1.2.1 k hk ha).2
theorem z_lenR (hS : HS E g h0 P0 kc0 ks0 Sb A s.heap P (toC V) Z H locs cells slots) {k : Nat} (f : aI g k) : inR (Z k : Int) := inR_of (HS.zlt hS f.1 (isA_int f.2))
theorem z_gi (X : Cx E g h0 P0 kc0 ks0 S0 A p l R s m args meth c cc nL ret d) (hS : HS E g h0 P0 kc0 ks0 Sb A s.heap P (toC V) Z H locs cells slots) {k index : Nat} (f : fI g k index) (hdg : decode cc pc = .ok (.getfield index, 3))
    (kk : W p l e R s m args below meth c H locs cells slots Qe (F0 m (pc + 3) ls (.int (I3 (V k 0)) :: rest))) : W p l e R s m args below meth c H locs cells slots Qe (F0 m pc ls (.ref h0 :: rest)) := r_gi X hS f hdg kk
theorem z_il (X : Cx E g h0 P0 kc0 ks0 S0 A p l R s m args meth c cc nL ret d) (hS : HS E g h0 P0 kc0 ks0 Sb A s.heap P (toC V) Z H locs cells slots) {k : Nat} (f : aI g k) {i : Int} {K : Int → Prop} (hw : xL V Z k i K) (hdg : decode cc pc = .ok (.iaload, 1))
    (kk : K (V k i) → W p l e R s m args below meth c H locs cells slots Qe (F0 m (pc + 1) ls (.int (I3 (V k i)) :: rest))) : W p l e R s m args below meth c H locs cells slots Qe (F0 m pc ls (.int (I3 i) :: .ref (P k) :: rest)) := by
  obtain ⟨⟨h1, h2⟩, h3⟩ := hw
  refine r_il X hS f (j := i.toNat) (by omega) (I3_nn h1) hdg ?_
  have e : toC V k i.toNat = I3 (V k i) := by
    unfold toC
    rw [Int.toNat_of_nonneg h1]
  rw [e]
  exact kk h3
theorem z_zl (X : Cx E g h0 P0 kc0 ks0 S0 A p l R s m args meth c cc nL ret d) (hS : HS E g h0 P0 kc0 ks0 Sb A s.heap P (toC V) Z H locs cells slots) {k : Nat} (f : aZ g k) {i : Int} {K : Int → Prop} (hw : xL V Z k i K) (hdg : decode cc pc = .ok (.baload, 1))
    (kk : K (V k i) → W p l e R s m args below meth c H locs cells slots Qe (F0 m (pc + 1) ls (.int (I3 (V k i)) :: rest))) : W p l e R s m args below meth c H locs cells slots Qe (F0 m pc ls (.int (I3 i) :: .ref (P k) :: rest)) := by
  obtain ⟨⟨h1, h2⟩, h3⟩ := hw
  refine r_zl X hS f (j := i.toNat) (by omega) (I3_nn h1) hdg ?_
  have e : toC V k i.toNat = I3 (V k i) := by
    unfold toC
    rw [Int.toNat_of_nonneg h1]
  rw [e]
  exact kk h3
theorem z_is (X : Cx E g h0 P0 kc0 ks0 S0 A p l R s m args meth c cc nL ret d) (hS : HS E g h0 P0 kc0 ks0 Sb A s.heap P (toC V) Z H locs cells slots) (hM : inM V) {k : Nat} (f : aI g k) {i v : Int} (hv : inR v) {K : Mv → Prop} (hw : xS V Z k i v K) (hdg : decode cc pc = .ok (.iastore, 1))
    (kk : ∀ V1 : Mv, inM V1 → K V1 → ∀ (H1 : Heap) (locs1 : List Loc), HS E g h0 P0 kc0 ks0 Sb A s.heap P (toC V1) Z H1 locs1 cells slots → W p l e R s m args below meth c H1 locs1 cells slots Qe (F0 m (pc + 1) ls rest)) : W p l e R s m args below meth c H locs cells slots Qe (F0 m pc ls (.int (I3 v) :: .int (I3 i) :: .ref (P k) :: rest)) := by
  obtain ⟨⟨h1, h2⟩, h3⟩ := hw
  refine r_is X hS f (j := i.toNat) (by omega) (I3_nn h1) hdg fun C1 hC1 H1 locs1 hS1 => ?_
  have hi : ((i.toNat : Nat) : Int) = i := Int.toNat_of_nonneg h1
  rw [hC1, ← toC_set, hi] at hS1
  exact kk _ (hM.set hv) (h3 _ rfl) H1 locs1 hS1
theorem z_zs (X : Cx E g h0 P0 kc0 ks0 S0 A p l R s m args meth c cc nL ret d) (hS : HS E g h0 P0 kc0 ks0 Sb A s.heap P (toC V) Z H locs cells slots) (hM : inM V) {k : Nat} (f : aZ g k) {i v : Int} (hv : inR v) {K : Mv → Prop} (hw : xB V Z k i v K) (hdg : decode cc pc = .ok (.bastore, 1))
    (kk : ∀ V1 : Mv, inM V1 → K V1 → ∀ (H1 : Heap) (locs1 : List Loc), HS E g h0 P0 kc0 ks0 Sb A s.heap P (toC V1) Z H1 locs1 cells slots → W p l e R s m args below meth c H1 locs1 cells slots Qe (F0 m (pc + 1) ls rest)) : W p l e R s m args below meth c H locs cells slots Qe (F0 m pc ls (.int (I3 v) :: .int (I3 i) :: .ref (P k) :: rest)) := by
  obtain ⟨⟨h1, h2⟩, hz, h3⟩ := hw
  refine r_zs X hS f (j := i.toNat) (bz_zb hz) (by omega) (I3_nn h1) hdg fun C1 hC1 H1 locs1 hS1 => ?_
  have hi : ((i.toNat : Nat) : Int) = i := Int.toNat_of_nonneg h1
  rw [hC1, ← toC_set, hi] at hS1
  exact kk _ (hM.set hv) (h3 _ rfl) H1 locs1 hS1
theorem z_pi (X : Cx E g h0 P0 kc0 ks0 S0 A p l R s m args meth c cc nL ret d) (hS : HS E g h0 P0 kc0 ks0 Sb A s.heap P (toC V) Z H locs cells slots) (hM : inM V) {k index : Nat} (f : fI g k index) (f2 : fP g k) {v : Int} (hv : inR v) {K : Mv → Prop} (hw : xF V k v K) (hdg : decode cc pc = .ok (.putfield index, 3))
    (kk : ∀ V1 : Mv, inM V1 → K V1 → ∀ (H1 : Heap) (locs1 : List Loc), HS E g h0 P0 kc0 ks0 Sb A s.heap P (toC V1) Z H1 locs1 cells slots → W p l e R s m args below meth c H1 locs1 cells slots Qe (F0 m (pc + 3) ls rest)) : W p l e R s m args below meth c H locs cells slots Qe (F0 m pc ls (.int (I3 v) :: .ref h0 :: rest)) := by
  refine r_pi X hS f f2 hdg fun C1 hC1 H1 locs1 hS1 => ?_
  rw [hC1, ← toC_set] at hS1
  exact kk _ (hM.set hv) (hw _ rfl) H1 locs1 hS1
theorem z_pz (X : Cx E g h0 P0 kc0 ks0 S0 A p l R s m args meth c cc nL ret d) (hS : HS E g h0 P0 kc0 ks0 Sb A s.heap P (toC V) Z H locs cells slots) (hM : inM V) {k index : Nat} (f : fI g k index) (f2 : fZ g k) {v : Int} (hv : inR v) {K : Mv → Prop} (hw : xZ V k v K) (hdg : decode cc pc = .ok (.putfield index, 3))
    (kk : ∀ V1 : Mv, inM V1 → K V1 → ∀ (H1 : Heap) (locs1 : List Loc), HS E g h0 P0 kc0 ks0 Sb A s.heap P (toC V1) Z H1 locs1 cells slots → W p l e R s m args below meth c H1 locs1 cells slots Qe (F0 m (pc + 3) ls rest)) : W p l e R s m args below meth c H locs cells slots Qe (F0 m pc ls (.int (I3 v) :: .ref h0 :: rest)) := by
  obtain ⟨hz, hw⟩ := hw
  refine r_pz X hS f f2 (bz_zb hz) hdg fun C1 hC1 H1 locs1 hS1 => ?_
  rw [hC1, ← toC_set] at hS1
  exact kk _ (hM.set hv) (hw _ rfl) H1 locs1 hS1
theorem z_len (X : Cx E g h0 P0 kc0 ks0 S0 A p l R s m args meth c cc nL ret d) (hS : HS E g h0 P0 kc0 ks0 Sb A s.heap P (toC V) Z H locs cells slots) {k : Nat} (f : aI g k) (hdg : decode cc pc = .ok (.arraylength, 1))
    (kk : W p l e R s m args below meth c H locs cells slots Qe (F0 m (pc + 1) ls (.int (I3 (Z k : Int)) :: rest))) : W p l e R s m args below meth c H locs cells slots Qe (F0 m pc ls (.ref (P k) :: rest)) := by
  refine r_len X hS f hdg ?_
  rw [← I3_n]
  exact kk
theorem z_grow (X : Cx E g h0 P0 kc0 ks0 S0 A p l R s m args meth c cc nL ret d) (hS : HS E g h0 P0 kc0 ks0 Sb A s.heap P (toC V) Z H locs cells slots) (hM : inM V) {k index ic : Nat} (f : fA g k index) (fa : aI g k) (hnf : (gT g k).2.2.2 = false) (hSbk : Sb k = true) (hN : gN g ≤ 1000) {n : Int} {K : Mv → Le → Prop} (hw : xG V Z k n K)
    (hG : GoodIn lw_all (va_wsS (gR g) ic yJ4_copyOf (ws_ yJ4_copyOf cJ4_copyOf 3 (some (.array .int))))) (hdd : 3 ≤ d) (hls : ls.size = nL) (hrm : (rest.map fun v => v.category).sum ≤ 7)
    (hdg : decode cc pc = .ok (.invokestatic ic, 3)) (hdg2 : decode cc (pc + 3) = .ok (.putfield index, 3))
    (kk : ∀ (V1 : Mv) (Z1 : Le), inM V1 → K V1 Z1 → ∀ (P1 : Le) (H1 : Heap) (locs1 : List Loc) (c1 s1 : Nat), (∀ j, j ≠ k → P1 j = P j) → HS E g h0 P0 kc0 ks0 Sb A s.heap P1 (toC V1) Z1 H1 locs1 c1 s1 → W p l e R s m args below meth c H1 locs1 c1 s1 Qe (F0 m (pc + 6) ls rest)) :
    W p l e R s m args below meth c H locs cells slots Qe (F0 m pc ls (.int (I3 n) :: .ref (P k) :: .ref h0 :: rest)) := by
  obtain ⟨⟨h1, h2, h3, h4⟩, h5⟩ := hw
  refine r_grow X hS f fa hnf hSbk hN (n1 := n.toNat) (I3_nn (by omega)) (by omega) (by omega) h3 (by omega) hG hdd hls hrm hdg hdg2 fun C1 hC1 Z1 hZ1 P1 H1 locs1 c1 s1 hP1 hS1 => ?_
  rw [hC1, ← toC_grow] at hS1
  exact kk _ Z1 hM.grow (h5 _ _ rfl hZ1) P1 H1 locs1 c1 s1 hP1 hS1
section NUM
theorem z_iconst (hx : p.tables.exec = Jvm.exec) (hb : c.code = cc) {n : Int} (hdg : decode cc pc = .ok (.iconst n, 1)) (k : W p l e R s m args below meth c H locs cells slots Qe (F0 m (pc + 1) ls (.int (I3 n) :: rest))) : W p l e R s m args below meth c H locs cells slots Qe (F0 m pc ls rest) := lv_iconst hx hb hdg rfl k
theorem z_bipush (hx : p.tables.exec = Jvm.exec) (hb : c.code = cc) {n : Int} (hdg : decode cc pc = .ok (.bipush n, 2)) (hv : (Int8.ofInt n).toInt32 = I3 n) (k : W p l e R s m args below meth c H locs cells slots Qe (F0 m (pc + 2) ls (.int (I3 n) :: rest))) : W p l e R s m args below meth c H locs cells slots Qe (F0 m pc ls rest) := lv_bipush hx hb hdg hv k
theorem z_sipush (hx : p.tables.exec = Jvm.exec) (hb : c.code = cc) {n : Int} (hdg : decode cc pc = .ok (.sipush n, 3)) (hv : (Int16.ofInt n).toInt32 = I3 n) (k : W p l e R s m args below meth c H locs cells slots Qe (F0 m (pc + 3) ls (.int (I3 n) :: rest))) : W p l e R s m args below meth c H locs cells slots Qe (F0 m pc ls rest) := lv_sipush hx hb hdg hv k
theorem z_add (hx : p.tables.exec = Jvm.exec) (hb : c.code = cc) {x y : Int} {K : Int → Prop} (hw : xA (x + y) K) (hdg : decode cc pc = .ok (.iadd, 1)) (k : inR (x + y) → K (x + y) → W p l e R s m args below meth c H locs cells slots Qe (F0 m (pc + 1) ls (.int (I3 (x + y)) :: rest))) : W p l e R s m args below meth c H locs cells slots Qe (F0 m pc ls (.int (I3 y) :: .int (I3 x) :: rest)) := by
  refine lv_iadd hx hb hdg ?_
  have e : I3 x + I3 y = I3 (x + y) := (Int32.ofInt_add x y).symm
  rw [e]
  exact k hw.1 hw.2
theorem z_sub (hx : p.tables.exec = Jvm.exec) (hb : c.code = cc) {x y : Int} {K : Int → Prop} (hw : xA (x - y) K) (hdg : decode cc pc = .ok (.isub, 1)) (k : inR (x - y) → K (x - y) → W p l e R s m args below meth c H locs cells slots Qe (F0 m (pc + 1) ls (.int (I3 (x - y)) :: rest))) : W p l e R s m args below meth c H locs cells slots Qe (F0 m pc ls (.int (I3 y) :: .int (I3 x) :: rest)) := by
  refine lv_isub hx hb hdg ?_
  have e : I3 x - I3 y = I3 (x - y) := (Int32.ofInt_sub x y).symm
  rw [e]
  exact k hw.1 hw.2
theorem z_mul (hx : p.tables.exec = Jvm.exec) (hb : c.code = cc) {x y : Int} {K : Int → Prop} (hw : xA (x * y) K) (hdg : decode cc pc = .ok (.imul, 1)) (k : inR (x * y) → K (x * y) → W p l e R s m args below meth c H locs cells slots Qe (F0 m (pc + 1) ls (.int (I3 (x * y)) :: rest))) : W p l e R s m args below meth c H locs cells slots Qe (F0 m pc ls (.int (I3 y) :: .int (I3 x) :: rest)) := by
  refine lv_imul hx hb hdg ?_
  have e : I3 x * I3 y = I3 (x * y) := (Int32.ofInt_mul x y).symm
  rw [e]
  exact k hw.1 hw.2
theorem z_inc (hx : p.tables.exec = Jvm.exec) (hb : c.code = cc) {i k : Nat} {n x : Int} {lv lv' : List (Nat × Value)} {K : Int → Prop} (hw : xA (x + n) K) (hdg : decode cc pc = .ok (.iinc i n, 3)) (h : lv_has ls nL lv) (hk : lv[k]? = some (i, .int (I3 x))) (hn : i < nL) (hl : (i, Value.int (I3 (x + n))) :: lv.filter (fun q => !(q.1 == i) && !(q.1 + 1 == i && q.2.category == 2)) = lv')
    (kk : ∀ ls' : Array Slot, lv_has ls' nL lv' → inR (x + n) → K (x + n) → W p l e R s m args below meth c H locs cells slots Qe (F0 m (pc + 3) ls' rest)) : W p l e R s m args below meth c H locs cells slots Qe (F0 m pc ls rest) :=
  lv_iinc hx hb hdg h hk (v := I3 (x + n)) (Int32.ofInt_add x n).symm hn hl fun ls' h' => kk ls' h' hw.1 hw.2
variable {x y : Int} {T F : Prop} {off : Int} {tgt : Nat}
theorem z_ieq (hx : p.tables.exec = Jvm.exec) (hb : c.code = cc) (h1 : inR x) (h2 : inR y) (hw : xI (x = y) T F) (hdg : decode cc pc = .ok (.if_icmp .eq off, 3)) (ht : (pc : Int) + off = (tgt : Int)) (kt : x = y → T → W p l e R s m args below meth c H locs cells slots Qe (F0 m tgt ls rest)) (kf : ¬ x = y → F → W p l e R s m args below meth c H locs cells slots Qe (F0 m (pc + 3) ls rest)) : W p l e R s m args below meth c H locs cells slots Qe (F0 m pc ls (.int (I3 y) :: .int (I3 x) :: rest)) :=
  lv_icmp_eq hx hb hdg ht (fun h => kt ((I3_eq h1 h2).mp h) (hw.1 ((I3_eq h1 h2).mp h))) (fun h => kf (fun q => h ((I3_eq h1 h2).mpr q)) (hw.2 (fun q => h ((I3_eq h1 h2).mpr q))))
theorem z_ine (hx : p.tables.exec = Jvm.exec) (hb : c.code = cc) (h1 : inR x) (h2 : inR y) (hw : xI (x = y) F T) (hdg : decode cc pc = .ok (.if_icmp .ne off, 3)) (ht : (pc : Int) + off = (tgt : Int)) (kt : ¬ x = y → T → W p l e R s m args below meth c H locs cells slots Qe (F0 m tgt ls rest)) (kf : x = y → F → W p l e R s m args below meth c H locs cells slots Qe (F0 m (pc + 3) ls rest)) : W p l e R s m args below meth c H locs cells slots Qe (F0 m pc ls (.int (I3 y) :: .int (I3 x) :: rest)) :=
  lv_icmp_ne hx hb hdg ht (fun h => kt (fun q => h ((I3_eq h1 h2).mpr q)) (hw.2 (fun q => h ((I3_eq h1 h2).mpr q)))) (fun h => kf ((I3_eq h1 h2).mp h) (hw.1 ((I3_eq h1 h2).mp h)))
theorem z_ilt (hx : p.tables.exec = Jvm.exec) (hb : c.code = cc) (h1 : inR x) (h2 : inR y) (hw : xI (x < y) T F) (hdg : decode cc pc = .ok (.if_icmp .lt off, 3)) (ht : (pc : Int) + off = (tgt : Int)) (kt : x < y → T → W p l e R s m args below meth c H locs cells slots Qe (F0 m tgt ls rest)) (kf : ¬ x < y → F → W p l e R s m args below meth c H locs cells slots Qe (F0 m (pc + 3) ls rest)) : W p l e R s m args below meth c H locs cells slots Qe (F0 m pc ls (.int (I3 y) :: .int (I3 x) :: rest)) :=
  lv_icmp_lt hx hb hdg ht (fun h => kt ((I3_lt h1 h2).mp h) (hw.1 ((I3_lt h1 h2).mp h))) (fun h => kf (fun q => h ((I3_lt h1 h2).mpr q)) (hw.2 (fun q => h ((I3_lt h1 h2).mpr q))))
theorem z_ige (hx : p.tables.exec = Jvm.exec) (hb : c.code = cc) (h1 : inR x) (h2 : inR y) (hw : xI (x < y) F T) (hdg : decode cc pc = .ok (.if_icmp .ge off, 3)) (ht : (pc : Int) + off = (tgt : Int)) (kt : ¬ x < y → T → W p l e R s m args below meth c H locs cells slots Qe (F0 m tgt ls rest)) (kf : x < y → F → W p l e R s m args below meth c H locs cells slots Qe (F0 m (pc + 3) ls rest)) : W p l e R s m args below meth c H locs cells slots Qe (F0 m pc ls (.int (I3 y) :: .int (I3 x) :: rest)) :=
  lv_icmp_ge hx hb hdg ht (fun h => have q : ¬ x < y := by { have := (I3_le h2 h1).mp h; omega }; kt q (hw.2 q)) (fun h => have q : x < y := by { have := mt (I3_le h2 h1).mpr h; omega }; kf q (hw.1 q))
theorem z_igt (hx : p.tables.exec = Jvm.exec) (hb : c.code = cc) (h1 : inR x) (h2 : inR y) (hw : xI (y < x) T F) (hdg : decode cc pc = .ok (.if_icmp .gt off, 3)) (ht : (pc : Int) + off = (tgt : Int)) (kt : y < x → T → W p l e R s m args below meth c H locs cells slots Qe (F0 m tgt ls rest)) (kf : ¬ y < x → F → W p l e R s m args below meth c H locs cells slots Qe (F0 m (pc + 3) ls rest)) : W p l e R s m args below meth c H locs cells slots Qe (F0 m pc ls (.int (I3 y) :: .int (I3 x) :: rest)) :=
  lv_icmp_gt hx hb hdg ht (fun h => kt ((I3_lt h2 h1).mp h) (hw.1 ((I3_lt h2 h1).mp h))) (fun h => kf (fun q => h ((I3_lt h2 h1).mpr q)) (hw.2 (fun q => h ((I3_lt h2 h1).mpr q))))
theorem z_ile (hx : p.tables.exec = Jvm.exec) (hb : c.code = cc) (h1 : inR x) (h2 : inR y) (hw : xI (y < x) F T) (hdg : decode cc pc = .ok (.if_icmp .le off, 3)) (ht : (pc : Int) + off = (tgt : Int)) (kt : ¬ y < x → T → W p l e R s m args below meth c H locs cells slots Qe (F0 m tgt ls rest)) (kf : y < x → F → W p l e R s m args below meth c H locs cells slots Qe (F0 m (pc + 3) ls rest)) : W p l e R s m args below meth c H locs cells slots Qe (F0 m pc ls (.int (I3 y) :: .int (I3 x) :: rest)) :=
  lv_icmp_le hx hb hdg ht (fun h => have q : ¬ y < x := by { have := (I3_le h1 h2).mp h; omega }; kt q (hw.2 q)) (fun h => have q : y < x := by { have := mt (I3_le h1 h2).mpr h; omega }; kf q (hw.1 q))
theorem z_zeq (hx : p.tables.exec = Jvm.exec) (hb : c.code = cc) (h1 : inR x) (hw : xI (x = 0) T F) (hdg : decode cc pc = .ok (.ifCond .eq off, 3)) (ht : (pc : Int) + off = (tgt : Int)) (kt : x = 0 → T → W p l e R s m args below meth c H locs cells slots Qe (F0 m tgt ls rest)) (kf : ¬ x = 0 → F → W p l e R s m args below meth c H locs cells slots Qe (F0 m (pc + 3) ls rest)) : W p l e R s m args below meth c H locs cells slots Qe (F0 m pc ls (.int (I3 x) :: rest)) :=
  lv_if_eq hx hb hdg ht (fun h => have q : x = 0 := (I3_eq h1 inR_0).mp (h.trans I3_0.symm); kt q (hw.1 q)) (fun h => have q : ¬ x = 0 := fun z => h (((I3_eq h1 inR_0).mpr z).trans I3_0); kf q (hw.2 q))
theorem z_zne (hx : p.tables.exec = Jvm.exec) (hb : c.code = cc) (h1 : inR x) (hw : xI (x = 0) F T) (hdg : decode cc pc = .ok (.ifCond .ne off, 3)) (ht : (pc : Int) + off = (tgt : Int)) (kt : ¬ x = 0 → T → W p l e R s m args below meth c H locs cells slots Qe (F0 m tgt ls rest)) (kf : x = 0 → F → W p l e R s m args below meth c H locs cells slots Qe (F0 m (pc + 3) ls rest)) : W p l e R s m args below meth c H locs cells slots Qe (F0 m pc ls (.int (I3 x) :: rest)) :=
  lv_if_ne hx hb hdg ht (fun h => have q : ¬ x = 0 := fun z => h (((I3_eq h1 inR_0).mpr z).trans I3_0); kt q (hw.2 q)) (fun h => have q : x = 0 := (I3_eq h1 inR_0).mp (h.trans I3_0.symm); kf q (hw.1 q))
theorem I3_ltz (h1 : inR x) : I3 x < 0 ↔ x < 0 := by rw [← I3_0]; exact I3_lt h1 inR_0
theorem I3_zlt (h1 : inR x) : 0 < I3 x ↔ 0 < x := by rw [← I3_0]; exact I3_lt inR_0 h1
theorem I3_lez (h1 : inR x) : I3 x ≤ 0 ↔ x ≤ 0 := by rw [← I3_0]; exact I3_le h1 inR_0
theorem I3_zle (h1 : inR x) : 0 ≤ I3 x ↔ 0 ≤ x := by rw [← I3_0]; exact I3_le inR_0 h1
theorem z_zlt (hx : p.tables.exec = Jvm.exec) (hb : c.code = cc) (h1 : inR x) (hw : xI (x < 0) T F) (hdg : decode cc pc = .ok (.ifCond .lt off, 3)) (ht : (pc : Int) + off = (tgt : Int)) (kt : x < 0 → T → W p l e R s m args below meth c H locs cells slots Qe (F0 m tgt ls rest)) (kf : ¬ x < 0 → F → W p l e R s m args below meth c H locs cells slots Qe (F0 m (pc + 3) ls rest)) : W p l e R s m args below meth c H locs cells slots Qe (F0 m pc ls (.int (I3 x) :: rest)) :=
  lv_if_lt hx hb hdg ht (fun h => kt ((I3_ltz h1).mp h) (hw.1 ((I3_ltz h1).mp h))) (fun h => kf (fun q => h ((I3_ltz h1).mpr q)) (hw.2 (fun q => h ((I3_ltz h1).mpr q))))
theorem z_zge (hx : p.tables.exec = Jvm.exec) (hb : c.code = cc) (h1 : inR x) (hw : xI (x < 0) F T) (hdg : decode cc pc = .ok (.ifCond .ge off, 3)) (ht : (pc : Int) + off = (tgt : Int)) (kt : ¬ x < 0 → T → W p l e R s m args below meth c H locs cells slots Qe (F0 m tgt ls rest)) (kf : x < 0 → F → W p l e R s m args below meth c H locs cells slots Qe (F0 m (pc + 3) ls rest)) : W p l e R s m args below meth c H locs cells slots Qe (F0 m pc ls (.int (I3 x) :: rest)) :=
  lv_if_ge hx hb hdg ht (fun h => have q : ¬ x < 0 := by { have := (I3_zle h1).mp h; omega }; kt q (hw.2 q)) (fun h => have q : x < 0 := by { have := mt (I3_zle h1).mpr h; omega }; kf q (hw.1 q))
theorem z_zgt (hx : p.tables.exec = Jvm.exec) (hb : c.code = cc) (h1 : inR x) (hw : xI (0 < x) T F) (hdg : decode cc pc = .ok (.ifCond .gt off, 3)) (ht : (pc : Int) + off = (tgt : Int)) (kt : 0 < x → T → W p l e R s m args below meth c H locs cells slots Qe (F0 m tgt ls rest)) (kf : ¬ 0 < x → F → W p l e R s m args below meth c H locs cells slots Qe (F0 m (pc + 3) ls rest)) : W p l e R s m args below meth c H locs cells slots Qe (F0 m pc ls (.int (I3 x) :: rest)) :=
  lv_if_gt hx hb hdg ht (fun h => kt ((I3_zlt h1).mp h) (hw.1 ((I3_zlt h1).mp h))) (fun h => kf (fun q => h ((I3_zlt h1).mpr q)) (hw.2 (fun q => h ((I3_zlt h1).mpr q))))
theorem z_zle (hx : p.tables.exec = Jvm.exec) (hb : c.code = cc) (h1 : inR x) (hw : xI (0 < x) F T) (hdg : decode cc pc = .ok (.ifCond .le off, 3)) (ht : (pc : Int) + off = (tgt : Int)) (kt : ¬ 0 < x → T → W p l e R s m args below meth c H locs cells slots Qe (F0 m tgt ls rest)) (kf : 0 < x → F → W p l e R s m args below meth c H locs cells slots Qe (F0 m (pc + 3) ls rest)) : W p l e R s m args below meth c H locs cells slots Qe (F0 m pc ls (.int (I3 x) :: rest)) :=
  lv_if_le hx hb hdg ht (fun h => have q : ¬ 0 < x := by { have := (I3_lez h1).mp h; omega }; kt q (hw.2 q)) (fun h => have q : 0 < x := by { have := mt (I3_lez h1).mpr h; omega }; kf q (hw.1 q))
variable {dflt lo hi : Int} {offs : Array Int} {len : Nat}
theorem z_tin (hx : p.tables.exec = Jvm.exec) (hb : c.code = cc) {a : Int} (h1 : inR x) (hc : x = a) (hdg : decode cc pc = .ok (.tableswitch dflt lo hi offs, len)) (h2 : ¬ a < lo) (h3 : ¬ hi < a) (ho : offs[(a - lo).toNat]? = some off) (ht : (pc : Int) + off = (tgt : Int)) (k : W p l e R s m args below meth c H locs cells slots Qe (F0 m tgt ls rest)) : W p l e R s m args below meth c H locs cells slots Qe (F0 m pc ls (.int (I3 x) :: rest)) :=
  lv_tableIn hx hb hdg (by rw [I3_to h1, hc]; exact h2) (by rw [I3_to h1, hc]; exact h3) (by rw [I3_to h1, hc]; exact ho) ht k
theorem z_tout (hx : p.tables.exec = Jvm.exec) (hb : c.code = cc) (h1 : inR x) (hdg : decode cc pc = .ok (.tableswitch dflt lo hi offs, len)) (h : x < lo ∨ hi < x) (ht : (pc : Int) + dflt = (tgt : Int)) (k : W p l e R s m args below meth c H locs cells slots Qe (F0 m tgt ls rest)) : W p l e R s m args below meth c H locs cells slots Qe (F0 m pc ls (.int (I3 x) :: rest)) :=
  lv_tableOut hx hb hdg (by rw [I3_to h1]; exact h) ht k
end NUM
end ZROWS
