set_option maxRecDepth 100000
/-! growth of arrays (printed by gen/grow.py) -/
def pt (lo hi : Nat) (V U : Mv) : Mv := fun a => if lo ≤ a ∧ a ≤ hi then U a else V a
theorem pt_of {lo hi : Nat} {V U : Mv} (h : ∀ a, a < lo ∨ hi < a → U a = V a) : U = pt lo hi V U := by
  funext a
  unfold pt
  by_cases q : lo ≤ a ∧ a ≤ hi
  · rw [if_pos q]
  · rw [if_neg q, h a (by omega)]
theorem gV_ag {V : Mv} {k : Nat} {n : Int} : ag n (V k) (gV V k n k) := fun i _ b => by rw [gV_eq, if_pos b]
theorem zbud {n : Int} {Z : Le} {V : Mv} (h : rSZ n Z V) (hn : n ≤ 64) : (Z 1001 : Int) + 65536 * 6 ≤ 3600000 ∧ (Z 1000 : Int) + 6 ≤ 300000 := by
  obtain ⟨-, ⟨a, b, c, d, -⟩, ⟨e, -⟩, ⟨f, f1, f2, f3, f4, f5, -⟩, ⟨g, g1, g2, g3, -⟩, ⟨i, -⟩, ⟨j, j1, j2, j3, j4, j5, -⟩, ⟨k, k1, -⟩, l, m⟩ := h
  unfold zr at *
  unfold bud at *
  omega
theorem gr_fn {n : Int} {V : Mv} {Z : Le} (h : rSZ n Z V) (hn : n ≤ 64) (hc : V 19 0 = (Z 15 : Int)) (hb : V 19 0 ≤ 32768) {K : Mv → Le → Prop}
    (kk : ∀ U Z', rSZ n Z' U → U 19 0 < (Z' 15 : Int) → (∀ a, a < 15 ∨ 18 < a → U a = V a) → ag (V 19 0) (V 15) (U 15) ∧ ag (V 19 0) (V 16) (U 16) ∧ ag (V 19 0) (V 17) (U 17) ∧ ag (V 19 0) (V 18) (U 18) → K U Z') :
    xG V Z 15 (2 * V 19 0) fun V1 Z1 => xG V1 Z1 16 (2 * V 19 0) fun V2 Z2 => xG V2 Z2 17 (2 * V 19 0) fun V3 Z3 => xG V3 Z3 18 (2 * V 19 0) fun V4 Z4 => K V4 Z4 := by
  have hz := zbud h hn
  have hr : (64 : Int) ≤ V 19 0 := by
    rw [hc]
    have := h.2.1.1.1
    omega
  obtain ⟨-, y16, y17, y18, -⟩ := id h.2.1
  refine ⟨⟨by omega, by omega, by unfold KC; omega, by unfold KS; omega⟩, fun V1 Z1 e1 f1 => ?_⟩
  have z1 : Z1 16 = Z 16 ∧ Z1 1000 = Z 1000 + 1 ∧ (Z1 1001 : Int) = Z 1001 + 1 * (2 * V 19 0) := by
    subst f1
    refine ⟨rfl, rfl, ?_⟩
    simp [zg, zU]
    omega
  obtain ⟨z1a, z1b, z1c⟩ := z1
  refine ⟨⟨by omega, by omega, by unfold KC; omega, by unfold KS; omega⟩, fun V2 Z2 e2 f2 => ?_⟩
  have z2 : Z2 17 = Z 17 ∧ Z2 1000 = Z 1000 + 2 ∧ (Z2 1001 : Int) = Z 1001 + 2 * (2 * V 19 0) := by
    subst f2 f1
    refine ⟨rfl, rfl, ?_⟩
    simp [zg, zU]
    omega
  obtain ⟨z2a, z2b, z2c⟩ := z2
  refine ⟨⟨by omega, by omega, by unfold KC; omega, by unfold KS; omega⟩, fun V3 Z3 e3 f3 => ?_⟩
  have z3 : Z3 18 = Z 18 ∧ Z3 1000 = Z 1000 + 3 ∧ (Z3 1001 : Int) = Z 1001 + 3 * (2 * V 19 0) := by
    subst f3 f2 f1
    refine ⟨rfl, rfl, ?_⟩
    simp [zg, zU]
    omega
  obtain ⟨z3a, z3b, z3c⟩ := z3
  refine ⟨⟨by omega, by omega, by unfold KC; omega, by unfold KS; omega⟩, fun V4 Z4 e4 f4 => ?_⟩
  have hz0 : ∀ i : Nat, i < 1 → True := fun _ _ => trivial
  refine kk V4 Z4 ?_ ?_ ?_ ⟨?_, ?_, ?_, ?_⟩
  · clear z1c z2c z3c z1b z2b z3b z1a z2a z3a
    subst f4 f3 f2 f1
    subst e4 e3 e2 e1
    obtain ⟨a0, a1, a2, a3, a4, a5, a6, a7, a8, a9⟩ := h
    unfold zr at *
    refine ⟨a0, ?_, a2, a3, a4, a5, a6, a7, ?_, ?_⟩
    · simp [zr, zg, zU, gV]
      omega
    · simp [bud, zg, zU] at *
      omega
    · simp [bud, zg, zU] at *
      omega
  · clear z1c z2c z3c z1b z2b z3b z1a z2a z3a
    subst f4 f3 f2 f1
    subst e4 e3 e2 e1
    simp [zg, zU, gV]
    omega
  · intro a ha
    clear z1c z2c z3c z1b z2b z3b z1a z2a z3a
    subst f4 f3 f2 f1
    subst e4 e3 e2 e1
    rw [gV_ne (by omega), gV_ne (by omega), gV_ne (by omega), gV_ne (by omega)]
  · clear z1c z2c z3c z1b z2b z3b z1a z2a z3a
    subst f4 f3 f2 f1
    subst e4 e3 e2 e1
    intro i a b
    simp [gV, zg, zU]
    omega
  · clear z1c z2c z3c z1b z2b z3b z1a z2a z3a
    subst f4 f3 f2 f1
    subst e4 e3 e2 e1
    intro i a b
    simp [gV, zg, zU]
    omega
  · clear z1c z2c z3c z1b z2b z3b z1a z2a z3a
    subst f4 f3 f2 f1
    subst e4 e3 e2 e1
    intro i a b
    simp [gV, zg, zU]
    omega
  · clear z1c z2c z3c z1b z2b z3b z1a z2a z3a
    subst f4 f3 f2 f1
    subst e4 e3 e2 e1
    intro i a b
    simp [gV, zg, zU]
    omega
theorem gr_ce {n : Int} {V : Mv} {Z : Le} (h : rSZ n Z V) (hn : n ≤ 64) (hc : V 21 0 = (Z 20 : Int)) (hb : V 21 0 ≤ 32768) {K : Mv → Le → Prop}
    (kk : ∀ U Z', rSZ n Z' U → U 21 0 < (Z' 20 : Int) → (∀ a, a < 20 ∨ 20 < a → U a = V a) → ag (V 21 0) (V 20) (U 20) → K U Z') :
    xG V Z 20 (2 * V 21 0) fun V1 Z1 => K V1 Z1 := by
  have hz := zbud h hn
  have hr : (64 : Int) ≤ V 21 0 := by
    rw [hc]
    have := h.2.2.1.1.1
    omega
  refine ⟨⟨by omega, by omega, by unfold KC; omega, by unfold KS; omega⟩, fun V1 Z1 e1 f1 => ?_⟩
  have hz0 : ∀ i : Nat, i < 1 → True := fun _ _ => trivial
  refine kk V1 Z1 ?_ ?_ ?_ ?_
  · subst f1
    subst e1
    obtain ⟨a0, a1, a2, a3, a4, a5, a6, a7, a8, a9⟩ := h
    unfold zr at *
    refine ⟨a0, a1, ?_, a3, a4, a5, a6, a7, ?_, ?_⟩
    · simp [zr, zg, zU, gV]
      omega
    · simp [bud, zg, zU] at *
      omega
    · simp [bud, zg, zU] at *
      omega
  · subst f1
    subst e1
    simp [zg, zU, gV]
    omega
  · intro a ha
    subst f1
    subst e1
    rw [gV_ne (by omega)]
  · subst f1
    subst e1
    intro i a b
    simp [gV, zg, zU]
    omega
theorem gr_wa {n : Int} {V : Mv} {Z : Le} (h : rSZ n Z V) (hn : n ≤ 64) (hc : V 28 0 = (Z 22 : Int)) (hb : V 28 0 ≤ 32768) {K : Mv → Le → Prop}
    (kk : ∀ U Z', rSZ n Z' U → U 28 0 < (Z' 22 : Int) → (∀ a, a < 22 ∨ 27 < a → U a = V a) → ag (V 28 0) (V 22) (U 22) ∧ ag (V 28 0) (V 23) (U 23) ∧ ag (V 28 0) (V 24) (U 24) ∧ ag (V 28 0) (V 25) (U 25) ∧ ag (V 28 0) (V 26) (U 26) ∧ ag (V 28 0) (V 27) (U 27) → K U Z') :
    xG V Z 22 (2 * V 28 0) fun V1 Z1 => xG V1 Z1 23 (2 * V 28 0) fun V2 Z2 => xG V2 Z2 24 (2 * V 28 0) fun V3 Z3 => xG V3 Z3 25 (2 * V 28 0) fun V4 Z4 => xG V4 Z4 26 (2 * V 28 0) fun V5 Z5 => xG V5 Z5 27 (2 * V 28 0) fun V6 Z6 => K V6 Z6 := by
  have hz := zbud h hn
  have hr : (64 : Int) ≤ V 28 0 := by
    rw [hc]
    have := h.2.2.2.1.1.1
    omega
  obtain ⟨-, y23, y24, y25, y26, y27, -⟩ := id h.2.2.2.1
  refine ⟨⟨by omega, by omega, by unfold KC; omega, by unfold KS; omega⟩, fun V1 Z1 e1 f1 => ?_⟩
  have z1 : Z1 23 = Z 23 ∧ Z1 1000 = Z 1000 + 1 ∧ (Z1 1001 : Int) = Z 1001 + 1 * (2 * V 28 0) := by
    subst f1
    refine ⟨rfl, rfl, ?_⟩
    simp [zg, zU]
    omega
  obtain ⟨z1a, z1b, z1c⟩ := z1
  refine ⟨⟨by omega, by omega, by unfold KC; omega, by unfold KS; omega⟩, fun V2 Z2 e2 f2 => ?_⟩
  have z2 : Z2 24 = Z 24 ∧ Z2 1000 = Z 1000 + 2 ∧ (Z2 1001 : Int) = Z 1001 + 2 * (2 * V 28 0) := by
    subst f2 f1
    refine ⟨rfl, rfl, ?_⟩
    simp [zg, zU]
    omega
  obtain ⟨z2a, z2b, z2c⟩ := z2
  refine ⟨⟨by omega, by omega, by unfold KC; omega, by unfold KS; omega⟩, fun V3 Z3 e3 f3 => ?_⟩
  have z3 : Z3 25 = Z 25 ∧ Z3 1000 = Z 1000 + 3 ∧ (Z3 1001 : Int) = Z 1001 + 3 * (2 * V 28 0) := by
    subst f3 f2 f1
    refine ⟨rfl, rfl, ?_⟩
    simp [zg, zU]
    omega
  obtain ⟨z3a, z3b, z3c⟩ := z3
  refine ⟨⟨by omega, by omega, by unfold KC; omega, by unfold KS; omega⟩, fun V4 Z4 e4 f4 => ?_⟩
  have z4 : Z4 26 = Z 26 ∧ Z4 1000 = Z 1000 + 4 ∧ (Z4 1001 : Int) = Z 1001 + 4 * (2 * V 28 0) := by
    subst f4 f3 f2 f1
    refine ⟨rfl, rfl, ?_⟩
    simp [zg, zU]
    omega
  obtain ⟨z4a, z4b, z4c⟩ := z4
  refine ⟨⟨by omega, by omega, by unfold KC; omega, by unfold KS; omega⟩, fun V5 Z5 e5 f5 => ?_⟩
  have z5 : Z5 27 = Z 27 ∧ Z5 1000 = Z 1000 + 5 ∧ (Z5 1001 : Int) = Z 1001 + 5 * (2 * V 28 0) := by
    subst f5 f4 f3 f2 f1
    refine ⟨rfl, rfl, ?_⟩
    simp [zg, zU]
    omega
  obtain ⟨z5a, z5b, z5c⟩ := z5
  refine ⟨⟨by omega, by omega, by unfold KC; omega, by unfold KS; omega⟩, fun V6 Z6 e6 f6 => ?_⟩
  have hz0 : ∀ i : Nat, i < 1 → True := fun _ _ => trivial
  refine kk V6 Z6 ?_ ?_ ?_ ⟨?_, ?_, ?_, ?_, ?_, ?_⟩
  · clear z1c z2c z3c z4c z5c z1b z2b z3b z4b z5b z1a z2a z3a z4a z5a
    subst f6 f5 f4 f3 f2 f1
    subst e6 e5 e4 e3 e2 e1
    obtain ⟨a0, a1, a2, a3, a4, a5, a6, a7, a8, a9⟩ := h
    unfold zr at *
    refine ⟨a0, a1, a2, ?_, a4, a5, a6, a7, ?_, ?_⟩
    · simp [zr, zg, zU, gV]
      omega
    · simp [bud, zg, zU] at *
      omega
    · simp [bud, zg, zU] at *
      omega
  · clear z1c z2c z3c z4c z5c z1b z2b z3b z4b z5b z1a z2a z3a z4a z5a
    subst f6 f5 f4 f3 f2 f1
    subst e6 e5 e4 e3 e2 e1
    simp [zg, zU, gV]
    omega
  · intro a ha
    clear z1c z2c z3c z4c z5c z1b z2b z3b z4b z5b z1a z2a z3a z4a z5a
    subst f6 f5 f4 f3 f2 f1
    subst e6 e5 e4 e3 e2 e1
    rw [gV_ne (by omega), gV_ne (by omega), gV_ne (by omega), gV_ne (by omega), gV_ne (by omega), gV_ne (by omega)]
  · clear z1c z2c z3c z4c z5c z1b z2b z3b z4b z5b z1a z2a z3a z4a z5a
    subst f6 f5 f4 f3 f2 f1
    subst e6 e5 e4 e3 e2 e1
    intro i a b
    simp [gV, zg, zU]
    omega
  · clear z1c z2c z3c z4c z5c z1b z2b z3b z4b z5b z1a z2a z3a z4a z5a
    subst f6 f5 f4 f3 f2 f1
    subst e6 e5 e4 e3 e2 e1
    intro i a b
    simp [gV, zg, zU]
    omega
  · clear z1c z2c z3c z4c z5c z1b z2b z3b z4b z5b z1a z2a z3a z4a z5a
    subst f6 f5 f4 f3 f2 f1
    subst e6 e5 e4 e3 e2 e1
    intro i a b
    simp [gV, zg, zU]
    omega
  · clear z1c z2c z3c z4c z5c z1b z2b z3b z4b z5b z1a z2a z3a z4a z5a
    subst f6 f5 f4 f3 f2 f1
    subst e6 e5 e4 e3 e2 e1
    intro i a b
    simp [gV, zg, zU]
    omega
  · clear z1c z2c z3c z4c z5c z1b z2b z3b z4b z5b z1a z2a z3a z4a z5a
    subst f6 f5 f4 f3 f2 f1
    subst e6 e5 e4 e3 e2 e1
    intro i a b
    simp [gV, zg, zU]
    omega
  · clear z1c z2c z3c z4c z5c z1b z2b z3b z4b z5b z1a z2a z3a z4a z5a
    subst f6 f5 f4 f3 f2 f1
    subst e6 e5 e4 e3 e2 e1
    intro i a b
    simp [gV, zg, zU]
    omega
theorem gr_jo {n : Int} {V : Mv} {Z : Le} (h : rSZ n Z V) (hn : n ≤ 64) (hc : V 33 0 = (Z 29 : Int)) (hb : V 33 0 ≤ 32768) {K : Mv → Le → Prop}
    (kk : ∀ U Z', rSZ n Z' U → U 33 0 < (Z' 29 : Int) → (∀ a, a < 29 ∨ 32 < a → U a = V a) → ag (V 33 0) (V 29) (U 29) ∧ ag (V 33 0) (V 30) (U 30) ∧ ag (V 33 0) (V 31) (U 31) ∧ ag (V 33 0) (V 32) (U 32) → K U Z') :
    xG V Z 29 (2 * V 33 0) fun V1 Z1 => xG V1 Z1 30 (2 * V 33 0) fun V2 Z2 => xG V2 Z2 31 (2 * V 33 0) fun V3 Z3 => xG V3 Z3 32 (2 * V 33 0) fun V4 Z4 => K V4 Z4 := by
  have hz := zbud h hn
  have hr : (64 : Int) ≤ V 33 0 := by
    rw [hc]
    have := h.2.2.2.2.1.1.1
    omega
  obtain ⟨-, y30, y31, y32, -⟩ := id h.2.2.2.2.1
  refine ⟨⟨by omega, by omega, by unfold KC; omega, by unfold KS; omega⟩, fun V1 Z1 e1 f1 => ?_⟩
  have z1 : Z1 30 = Z 30 ∧ Z1 1000 = Z 1000 + 1 ∧ (Z1 1001 : Int) = Z 1001 + 1 * (2 * V 33 0) := by
    subst f1
    refine ⟨rfl, rfl, ?_⟩
    simp [zg, zU]
    omega
  obtain ⟨z1a, z1b, z1c⟩ := z1
  refine ⟨⟨by omega, by omega, by unfold KC; omega, by unfold KS; omega⟩, fun V2 Z2 e2 f2 => ?_⟩
  have z2 : Z2 31 = Z 31 ∧ Z2 1000 = Z 1000 + 2 ∧ (Z2 1001 : Int) = Z 1001 + 2 * (2 * V 33 0) := by
    subst f2 f1
    refine ⟨rfl, rfl, ?_⟩
    simp [zg, zU]
    omega
  obtain ⟨z2a, z2b, z2c⟩ := z2
  refine ⟨⟨by omega, by omega, by unfold KC; omega, by unfold KS; omega⟩, fun V3 Z3 e3 f3 => ?_⟩
  have z3 : Z3 32 = Z 32 ∧ Z3 1000 = Z 1000 + 3 ∧ (Z3 1001 : Int) = Z 1001 + 3 * (2 * V 33 0) := by
    subst f3 f2 f1
    refine ⟨rfl, rfl, ?_⟩
    simp [zg, zU]
    omega
  obtain ⟨z3a, z3b, z3c⟩ := z3
  refine ⟨⟨by omega, by omega, by unfold KC; omega, by unfold KS; omega⟩, fun V4 Z4 e4 f4 => ?_⟩
  have hz0 : ∀ i : Nat, i < 1 → True := fun _ _ => trivial
  refine kk V4 Z4 ?_ ?_ ?_ ⟨?_, ?_, ?_, ?_⟩
  · clear z1c z2c z3c z1b z2b z3b z1a z2a z3a
    subst f4 f3 f2 f1
    subst e4 e3 e2 e1
    obtain ⟨a0, a1, a2, a3, a4, a5, a6, a7, a8, a9⟩ := h
    unfold zr at *
    refine ⟨a0, a1, a2, a3, ?_, a5, a6, a7, ?_, ?_⟩
    · simp [zr, zg, zU, gV]
      omega
    · simp [bud, zg, zU] at *
      omega
    · simp [bud, zg, zU] at *
      omega
  · clear z1c z2c z3c z1b z2b z3b z1a z2a z3a
    subst f4 f3 f2 f1
    subst e4 e3 e2 e1
    simp [zg, zU, gV]
    omega
  · intro a ha
    clear z1c z2c z3c z1b z2b z3b z1a z2a z3a
    subst f4 f3 f2 f1
    subst e4 e3 e2 e1
    rw [gV_ne (by omega), gV_ne (by omega), gV_ne (by omega), gV_ne (by omega)]
  · clear z1c z2c z3c z1b z2b z3b z1a z2a z3a
    subst f4 f3 f2 f1
    subst e4 e3 e2 e1
    intro i a b
    simp [gV, zg, zU]
    omega
  · clear z1c z2c z3c z1b z2b z3b z1a z2a z3a
    subst f4 f3 f2 f1
    subst e4 e3 e2 e1
    intro i a b
    simp [gV, zg, zU]
    omega
  · clear z1c z2c z3c z1b z2b z3b z1a z2a z3a
    subst f4 f3 f2 f1
    subst e4 e3 e2 e1
    intro i a b
    simp [gV, zg, zU]
    omega
  · clear z1c z2c z3c z1b z2b z3b z1a z2a z3a
    subst f4 f3 f2 f1
    subst e4 e3 e2 e1
    intro i a b
    simp [gV, zg, zU]
    omega
theorem gr_as {n : Int} {V : Mv} {Z : Le} (h : rSZ n Z V) (hn : n ≤ 64) (hc : V 48 0 = (Z 42 : Int)) (hb : V 48 0 ≤ 32768) {K : Mv → Le → Prop}
    (kk : ∀ U Z', rSZ n Z' U → U 48 0 < (Z' 42 : Int) → (∀ a, a < 42 ∨ 47 < a → U a = V a) → ag (V 48 0) (V 42) (U 42) ∧ ag (V 48 0) (V 43) (U 43) ∧ ag (V 48 0) (V 44) (U 44) ∧ ag (V 48 0) (V 45) (U 45) ∧ ag (V 48 0) (V 46) (U 46) ∧ ag (V 48 0) (V 47) (U 47) → K U Z') :
    xG V Z 42 (2 * V 48 0) fun V1 Z1 => xG V1 Z1 43 (2 * V 48 0) fun V2 Z2 => xG V2 Z2 44 (2 * V 48 0) fun V3 Z3 => xG V3 Z3 45 (2 * V 48 0) fun V4 Z4 => xG V4 Z4 46 (2 * V 48 0) fun V5 Z5 => xG V5 Z5 47 (2 * V 48 0) fun V6 Z6 => K V6 Z6 := by
  have hz := zbud h hn
  have hr : (64 : Int) ≤ V 48 0 := by
    rw [hc]
    have := h.2.2.2.2.2.2.1.1.1
    omega
  obtain ⟨-, y43, y44, y45, y46, y47, -⟩ := id h.2.2.2.2.2.2.1
  refine ⟨⟨by omega, by omega, by unfold KC; omega, by unfold KS; omega⟩, fun V1 Z1 e1 f1 => ?_⟩
  have z1 : Z1 43 = Z 43 ∧ Z1 1000 = Z 1000 + 1 ∧ (Z1 1001 : Int) = Z 1001 + 1 * (2 * V 48 0) := by
    subst f1
    refine ⟨rfl, rfl, ?_⟩
    simp [zg, zU]
    omega
  obtain ⟨z1a, z1b, z1c⟩ := z1
  refine ⟨⟨by omega, by omega, by unfold KC; omega, by unfold KS; omega⟩, fun V2 Z2 e2 f2 => ?_⟩
  have z2 : Z2 44 = Z 44 ∧ Z2 1000 = Z 1000 + 2 ∧ (Z2 1001 : Int) = Z 1001 + 2 * (2 * V 48 0) := by
    subst f2 f1
    refine ⟨rfl, rfl, ?_⟩
    simp [zg, zU]
    omega
  obtain ⟨z2a, z2b, z2c⟩ := z2
  refine ⟨⟨by omega, by omega, by unfold KC; omega, by unfold KS; omega⟩, fun V3 Z3 e3 f3 => ?_⟩
  have z3 : Z3 45 = Z 45 ∧ Z3 1000 = Z 1000 + 3 ∧ (Z3 1001 : Int) = Z 1001 + 3 * (2 * V 48 0) := by
    subst f3 f2 f1
    refine ⟨rfl, rfl, ?_⟩
    simp [zg, zU]
    omega
  obtain ⟨z3a, z3b, z3c⟩ := z3
  refine ⟨⟨by omega, by omega, by unfold KC; omega, by unfold KS; omega⟩, fun V4 Z4 e4 f4 => ?_⟩
  have z4 : Z4 46 = Z 46 ∧ Z4 1000 = Z 1000 + 4 ∧ (Z4 1001 : Int) = Z 1001 + 4 * (2 * V 48 0) := by
    subst f4 f3 f2 f1
    refine ⟨rfl, rfl, ?_⟩
    simp [zg, zU]
    omega
  obtain ⟨z4a, z4b, z4c⟩ := z4
  refine ⟨⟨by omega, by omega, by unfold KC; omega, by unfold KS; omega⟩, fun V5 Z5 e5 f5 => ?_⟩
  have z5 : Z5 47 = Z 47 ∧ Z5 1000 = Z 1000 + 5 ∧ (Z5 1001 : Int) = Z 1001 + 5 * (2 * V 48 0) := by
    subst f5 f4 f3 f2 f1
    refine ⟨rfl, rfl, ?_⟩
    simp [zg, zU]
    omega
  obtain ⟨z5a, z5b, z5c⟩ := z5
  refine ⟨⟨by omega, by omega, by unfold KC; omega, by unfold KS; omega⟩, fun V6 Z6 e6 f6 => ?_⟩
  have hz0 : ∀ i : Nat, i < 1 → True := fun _ _ => trivial
  refine kk V6 Z6 ?_ ?_ ?_ ⟨?_, ?_, ?_, ?_, ?_, ?_⟩
  · clear z1c z2c z3c z4c z5c z1b z2b z3b z4b z5b z1a z2a z3a z4a z5a
    subst f6 f5 f4 f3 f2 f1
    subst e6 e5 e4 e3 e2 e1
    obtain ⟨a0, a1, a2, a3, a4, a5, a6, a7, a8, a9⟩ := h
    unfold zr at *
    refine ⟨a0, a1, a2, a3, a4, a5, ?_, a7, ?_, ?_⟩
    · simp [zr, zg, zU, gV]
      omega
    · simp [bud, zg, zU] at *
      omega
    · simp [bud, zg, zU] at *
      omega
  · clear z1c z2c z3c z4c z5c z1b z2b z3b z4b z5b z1a z2a z3a z4a z5a
    subst f6 f5 f4 f3 f2 f1
    subst e6 e5 e4 e3 e2 e1
    simp [zg, zU, gV]
    omega
  · intro a ha
    clear z1c z2c z3c z4c z5c z1b z2b z3b z4b z5b z1a z2a z3a z4a z5a
    subst f6 f5 f4 f3 f2 f1
    subst e6 e5 e4 e3 e2 e1
    rw [gV_ne (by omega), gV_ne (by omega), gV_ne (by omega), gV_ne (by omega), gV_ne (by omega), gV_ne (by omega)]
  · clear z1c z2c z3c z4c z5c z1b z2b z3b z4b z5b z1a z2a z3a z4a z5a
    subst f6 f5 f4 f3 f2 f1
    subst e6 e5 e4 e3 e2 e1
    intro i a b
    simp [gV, zg, zU]
    omega
  · clear z1c z2c z3c z4c z5c z1b z2b z3b z4b z5b z1a z2a z3a z4a z5a
    subst f6 f5 f4 f3 f2 f1
    subst e6 e5 e4 e3 e2 e1
    intro i a b
    simp [gV, zg, zU]
    omega
  · clear z1c z2c z3c z4c z5c z1b z2b z3b z4b z5b z1a z2a z3a z4a z5a
    subst f6 f5 f4 f3 f2 f1
    subst e6 e5 e4 e3 e2 e1
    intro i a b
    simp [gV, zg, zU]
    omega
  · clear z1c z2c z3c z4c z5c z1b z2b z3b z4b z5b z1a z2a z3a z4a z5a
    subst f6 f5 f4 f3 f2 f1
    subst e6 e5 e4 e3 e2 e1
    intro i a b
    simp [gV, zg, zU]
    omega
  · clear z1c z2c z3c z4c z5c z1b z2b z3b z4b z5b z1a z2a z3a z4a z5a
    subst f6 f5 f4 f3 f2 f1
    subst e6 e5 e4 e3 e2 e1
    intro i a b
    simp [gV, zg, zU]
    omega
  · clear z1c z2c z3c z4c z5c z1b z2b z3b z4b z5b z1a z2a z3a z4a z5a
    subst f6 f5 f4 f3 f2 f1
    subst e6 e5 e4 e3 e2 e1
    intro i a b
    simp [gV, zg, zU]
    omega
theorem gr_lo {n : Int} {V : Mv} {Z : Le} (h : rSZ n Z V) (hn : n ≤ 64) (hc : V 53 0 = (Z 51 : Int)) (hb : V 53 0 ≤ 32768) {K : Mv → Le → Prop}
    (kk : ∀ U Z', rSZ n Z' U → U 53 0 < (Z' 51 : Int) → (∀ a, a < 51 ∨ 52 < a → U a = V a) → ag (V 53 0) (V 51) (U 51) ∧ ag (V 53 0) (V 52) (U 52) → K U Z') :
    xG V Z 51 (2 * V 53 0) fun V1 Z1 => xA (2 * V1 53 0) fun _ => xG V1 Z1 52 (2 * V1 53 0) fun V2 Z2 => K V2 Z2 := by
  have hz := zbud h hn
  have hr : (64 : Int) ≤ V 53 0 := by
    rw [hc]
    have := h.2.2.2.2.2.2.2.1.1.1
    omega
  obtain ⟨-, y52, -⟩ := id h.2.2.2.2.2.2.2.1
  refine ⟨⟨by omega, by omega, by unfold KC; omega, by unfold KS; omega⟩, fun V1 Z1 e1 f1 => ?_⟩
  have e53 : V1 53 0 = V 53 0 := by rw [e1]; rfl
  refine ⟨by unfold inR; omega, ?_⟩
  rw [e53]
  have z1 : Z1 52 = Z 52 ∧ Z1 1000 = Z 1000 + 1 ∧ (Z1 1001 : Int) = Z 1001 + 1 * (2 * V 53 0) := by
    subst f1
    refine ⟨rfl, rfl, ?_⟩
    simp [zg, zU]
    omega
  obtain ⟨z1a, z1b, z1c⟩ := z1
  refine ⟨⟨by omega, by omega, by unfold KC; omega, by unfold KS; omega⟩, fun V2 Z2 e2 f2 => ?_⟩
  have hz0 : ∀ i : Nat, i < 1 → True := fun _ _ => trivial
  refine kk V2 Z2 ?_ ?_ ?_ ⟨?_, ?_⟩
  · clear z1c z1b z1a
    subst f2 f1
    subst e2 e1
    obtain ⟨a0, a1, a2, a3, a4, a5, a6, a7, a8, a9⟩ := h
    unfold zr at *
    refine ⟨a0, a1, a2, a3, a4, a5, a6, ?_, ?_, ?_⟩
    · simp [zr, zg, zU, gV]
      omega
    · simp [bud, zg, zU] at *
      omega
    · simp [bud, zg, zU] at *
      omega
  · clear z1c z1b z1a
    subst f2 f1
    subst e2 e1
    simp [zg, zU, gV]
    omega
  · intro a ha
    clear z1c z1b z1a
    subst f2 f1
    subst e2 e1
    rw [gV_ne (by omega), gV_ne (by omega)]
  · clear z1c z1b z1a
    subst f2 f1
    subst e2 e1
    intro i a b
    simp [gV, zg, zU]
    omega
  · clear z1c z1b z1a
    subst f2 f1
    subst e2 e1
    intro i a b
    simp [gV, zg, zU]
    omega
