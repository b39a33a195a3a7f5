/-! OWN FRAME: a memory of rows (C: row, place; Z: lengths of arrays, Z 1000 cells and Z 1001 slots used so far), both classes by their number g (0: PromiseDesk, 1: PromiseDeskModel) -/
abbrev Me : Type := Nat → Nat → Int32
abbrev Le : Type := Nat → Nat
abbrev Ev : Type := va_G × ClassId × ClassId × ClassId
abbrev vwCl : List vw_C := [(RX1, TX1, 56), (RX2, TX2, 52)]
def gR : Nat → String := fun g => match g with
  | 0 => RX1
  | _ => RX2
def gT : Nat → u_T := fun g => match g with
  | 0 => TX1
  | _ => TX2
def gN : Nat → Nat := fun g => match g with
  | 0 => 56
  | _ => 52
def gTy : Nat → Nat → FieldType := fun g => match g with
  | 0 => tyX1
  | _ => tyX2
def Gk (g : Nat) : Prop := vwCl[g]? = some (gR g, gT g, gN g) ∧ (∀ w ∈ u_ws (gR g) (gT g) (gN g), w ∈ lw_all) ∧ (∀ k, k < gN g → parseFieldDescriptor (gT g k).2.2.1 = some (gTy g k)) ∧ (∀ a, a < gN g → ∀ b, b < gN g → a ≠ b → (gT g a).2.1 ≠ (gT g b).2.1)
theorem Gk0 : Gk 0 := ⟨rfl, in_X1, tyX1_ok, nmX1⟩
theorem Gk1 : Gk 1 := ⟨rfl, in_X2, tyX2_ok, nmX2⟩
def KC : Nat := 300000
def KS : Nat := 3600000
def isA : FieldType → Bool
  | .array _ => true
  | _ => false
def aK (E : Ev) : FieldType → ClassId
  | .array .boolean => E.2.2.1
  | _ => E.2.1
abbrev tys (E : Ev) : List (ClassId × FieldType) := [(E.2.1, .int), (E.2.2.1, .boolean)]
def hv (g : Nat) (P : Le) (C : Me) (k : Nat) : Value := if isA (gTy g k) = true then .ref (P k) else .int (C k 0)
def hp (E : Ev) (g h0 : Nat) (P : Le) (C : Me) (Z : Le) (H : Heap) : Prop :=
  t_OB h0 (E.1.1 g) (gN g) (E.1.2 g) H (hv g P C) ∧ (∀ k, k < gN g → isA (gTy g k) = true → H[P k]? = some (vp_cell (aK E (gTy g k)) (Z k, .inl (C k))) ∧ Z k < 2147483648) ∧ Z 1000 ≤ KC ∧ Z 1001 ≤ KS
def hd (A : Nat → Prop) (g h0 : Nat) (P : Le) : Prop :=
  A h0 ∧ (∀ k, k < gN g → isA (gTy g k) = true → A (P k) ∧ P k ≠ h0) ∧ ∀ i j, i < gN g → j < gN g → isA (gTy g i) = true → isA (gTy g j) = true → P i = P j → i = j
def ao (g h0 : Nat) (P : Le) (sz : Nat) : Nat → Prop := fun q => q = h0 ∨ (∃ k, k < gN g ∧ isA (gTy g k) = true ∧ q = P k) ∨ sz ≤ q
def stM (C : Me) (k j : Nat) (v : Int32) : Me := fun a => if a = k then upd (C k) j v else C a
def stR (C : Me) (k : Nat) (f : Nat → Int32) : Me := fun a => if a = k then f else C a
def grw (f : Nat → Int32) (n : Nat) : Nat → Int32 := fun j => if j < n then f j else 0
def zU (Z : Le) (k n : Nat) : Le := fun a => if a = k then n else Z a
/-- the exceptions' class names -/
def xn : Nat → String := fun c => match c with
  | 0 => "java/lang/IllegalArgumentException"
  | _ => "java/lang/IllegalStateException"
def zx (Z : Le) : Le := zU (zU Z 1000 (Z 1000 + 1)) 1001 (Z 1001 + 6)
def rmm (d kc ks : Nat) : Room := { frames := d, cells := KC - kc, slots := KS - ks, locals := 64 * d }
theorem hp.kept {E : Ev} {g h0 : Nat} {P : Le} {C : Me} {Z : Le} {H H1 : Heap} (h : hp E g h0 P C Z H) (h1 : H1[h0]? = H[h0]?) (h2 : ∀ k, k < gN g → isA (gTy g k) = true → H1[P k]? = H[P k]?) : hp E g h0 P C Z H1 :=
  ⟨h.1.kept h1, fun k hk ha => ⟨by rw [h2 k hk ha]; exact (h.2.1 k hk ha).1, (h.2.1 k hk ha).2⟩, h.2.2⟩
theorem hp.lt0 {E : Ev} {g h0 : Nat} {P : Le} {C : Me} {Z : Le} {H : Heap} (h : hp E g h0 P C Z H) : h0 < H.size := by
  obtain ⟨⟨cell, h2, -⟩, -⟩ := h
  exact (Array.getElem?_eq_some_iff.mp h2).1
theorem hp.ltP {E : Ev} {g h0 : Nat} {P : Le} {C : Me} {Z : Le} {H : Heap} (h : hp E g h0 P C Z H) {k : Nat} (hk : k < gN g) (ha : isA (gTy g k) = true) : P k < H.size :=
  (Array.getElem?_eq_some_iff.mp (h.2.1 k hk ha).1).1
/-- what was there stays: the heap has only grown -/
theorem hp.grown {E : Ev} {g h0 : Nat} {P : Le} {C : Me} {Z : Le} {H H1 : Heap} (h : hp E g h0 P C Z H) (hq : ∀ q, q < H.size → H1[q]? = H[q]?) : hp E g h0 P C Z H1 :=
  h.kept (hq _ h.lt0) (fun _ hk ha => hq _ (h.ltP hk ha))
theorem hp.zx {E : Ev} {g h0 : Nat} {P : Le} {C : Me} {Z Z1 : Le} {H : Heap} (h : hp E g h0 P C Z H) (hz : ∀ k, k < gN g → Z1 k = Z k) (hb : Z1 1000 ≤ KC ∧ Z1 1001 ≤ KS) : hp E g h0 P C Z1 H :=
  ⟨h.1, fun k hk ha => by rw [hz k hk]; exact h.2.1 k hk ha, hb⟩
theorem hp.stA {E : Ev} {g h0 : Nat} {P : Le} {C : Me} {Z : Le} {H H1 : Heap} {A : Nat → Prop} {k j : Nat} {v : Int32} (h : hp E g h0 P C Z H) (hD : hd A g h0 P) (hk : k < gN g) (ha : isA (gTy g k) = true)
    (he : H1[P k]? = some (vp_cell (aK E (gTy g k)) (Z k, .inl (upd (C k) j v)))) (oq : ∀ q, q ≠ P k → H1[q]? = H[q]?) : hp E g h0 P (stM C k j v) Z H1 := by
  have hne : h0 ≠ P k := fun z => (hD.2.1 k hk ha).2 z.symm
  refine ⟨(h.1.kept (oq h0 hne)).to (fun i hi => ?_), fun i hi hai => ?_, h.2.2⟩
  · unfold hv
    by_cases hai : isA (gTy g i) = true
    · rw [if_pos hai, if_pos hai]
    · have hik : i ≠ k := fun z => hai (by rw [z]; exact ha)
      rw [if_neg hai, if_neg hai]
      simp [stM, hik]
  · by_cases hik : i = k
    · subst hik
      exact ⟨by rw [he]; simp [stM], (h.2.1 i hi hai).2⟩
    · have hne2 : P i ≠ P k := fun z => hik (hD.2.2 i k hi hk hai ha z)
      rw [oq _ hne2]
      have := h.2.1 i hi hai
      simpa [stM, hik] using this
theorem hp.stF {E : Ev} {g h0 : Nat} {P : Le} {C : Me} {Z : Le} {H H1 : Heap} {A : Nat → Prop} {k : Nat} {v : Int32} (h : hp E g h0 P C Z H) (hD : hd A g h0 P) (hk : k < gN g) (ha : isA (gTy g k) = false)
    (he : t_OB h0 (E.1.1 g) (gN g) (E.1.2 g) H1 (updV (hv g P C) k (.int v))) (oq : ∀ q, q ≠ h0 → H1[q]? = H[q]?) : hp E g h0 P (stM C k 0 v) Z H1 := by
  refine ⟨he.to (fun i hi => ?_), fun i hi hai => ?_, h.2.2⟩
  · by_cases hik : i = k
    · subst hik
      simp [updV, hv, ha, stM, upd]
    · simp [updV, hv, hik, stM]
  · have hik : i ≠ k := fun z => by rw [z, ha] at hai; cases hai
    rw [oq _ (hD.2.1 i hi hai).2]
    have := h.2.1 i hi hai
    simpa [stM, hik] using this
/-- an array field's row replaced by a new array -/
theorem hp.stG {E : Ev} {g h0 : Nat} {P : Le} {C : Me} {Z Z1 : Le} {H H1 : Heap} {A : Nat → Prop} {k q n : Nat} {f : Nat → Int32} (h : hp E g h0 P C Z H) (hD : hd A g h0 P) (hk : k < gN g) (ha : isA (gTy g k) = true)
    (hnew : H[q]? = some (vp_cell (aK E (gTy g k)) (n, .inl f))) (hn : n < 2147483648) (hq0 : q ≠ h0) (hzk : Z1 k = n) (hz : ∀ i, i < gN g → i ≠ k → Z1 i = Z i) (hb : Z1 1000 ≤ KC ∧ Z1 1001 ≤ KS)
    (he : t_OB h0 (E.1.1 g) (gN g) (E.1.2 g) H1 (updV (hv g P C) k (.ref q))) (oq : ∀ q, q ≠ h0 → H1[q]? = H[q]?) : hp E g h0 (zU P k q) (stR C k f) Z1 H1 := by
  refine ⟨he.to (fun i hi => ?_), fun i hi hai => ?_, hb⟩
  · by_cases hik : i = k
    · subst hik
      simp [updV, hv, ha, zU]
    · simp [updV, hv, hik, stR, zU]
  · by_cases hik : i = k
    · subst hik
      simp only [zU, stR, if_true]
      rw [hzk]
      exact ⟨by rw [oq _ hq0]; exact hnew, hn⟩
    · simp only [zU, stR, if_neg hik]
      rw [oq _ (hD.2.1 i hi hai).2, hz i hi hik]
      exact h.2.1 i hi hai
theorem hd.up {A : Nat → Prop} {g h0 : Nat} {P : Le} {k q : Nat} (h : hd A g h0 P) (hA : A q) (hq0 : q ≠ h0) (hnew : ∀ i, i < gN g → isA (gTy g i) = true → P i ≠ q) : hd A g h0 (zU P k q) := by
  refine ⟨h.1, fun i hi hai => ?_, fun i j hi hj hai haj hij => ?_⟩
  · by_cases hik : i = k
    · subst hik
      simp only [zU, if_true]
      exact ⟨hA, hq0⟩
    · simp only [zU, if_neg hik]
      exact h.2.1 i hi hai
  · by_cases hik : i = k <;> by_cases hjk : j = k
    · rw [hik, hjk]
    · simp only [zU, hik, if_true, if_neg hjk] at hij
      exact absurd hij.symm (hnew j hj haj)
    · simp only [zU, hjk, if_true, if_neg hik] at hij
      exact absurd hij (hnew i hi hai)
    · simp only [zU, if_neg hik, if_neg hjk] at hij
      exact h.2.2 i j hi hj hai haj hij
theorem hd.toA {A : Nat → Prop} {g h0 : Nat} {P : Le} {sz : Nat} (h : hd A g h0 P) (hA : ∀ q, sz ≤ q → A q) : ∀ q, ao g h0 P sz q → A q := by
  intro q hq
  rcases hq with rfl | ⟨k, hk, ha, rfl⟩ | hq
  · exact h.1
  · exact (h.2.1 k hk ha).1
  · exact hA q hq
theorem hd.self {A : Nat → Prop} {g h0 : Nat} {P : Le} {sz : Nat} (h : hd A g h0 P) : hd (ao g h0 P sz) g h0 P :=
  ⟨Or.inl rfl, fun k hk ha => ⟨Or.inr (Or.inl ⟨k, hk, ha, rfl⟩), (h.2.1 k hk ha).2⟩, h.2.2⟩
theorem hd.weaken {A B : Nat → Prop} {g h0 : Nat} {P : Le} (h : hd A g h0 P) (hAB : ∀ q, A q → B q) : hd B g h0 P :=
  ⟨hAB _ h.1, fun k hk ha => ⟨hAB _ (h.2.1 k hk ha).1, (h.2.1 k hk ha).2⟩, h.2.2⟩
