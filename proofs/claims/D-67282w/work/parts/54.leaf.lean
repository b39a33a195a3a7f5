set_option maxRecDepth 100000
/-! the desk's leaf methods: what they answer and do to the memory -/
section LEAF
variable {n : Int} {V : Mv} {Z : Le}
def fnV (V : Mv) (a b c d : Int) : Mv := sV (sV (sV (sV (sV V 15 (V 19 0) a) 16 (V 19 0) b) 17 (V 19 0) c) 18 (V 19 0) d) 19 0 (V 19 0 + 1)
theorem c_fnJ {a b c d : Int} {Q : Po} (h : rSZ n Z V) (hlt : V 19 0 < (Z 15 : Int)) (hQ : Q (V 19 0) (fnV V a b c d) Z) : w1_function_J72 a b c d V Z Q := by
  obtain ⟨-, ⟨⟨a1, a2⟩, a3, a4, a5, a6, a7⟩, -⟩ := h
  unfold w1_function_J72
  refine ⟨by omega, fun V1 e1 => ?_⟩
  subst e1
  refine ⟨by simp [sV]; omega, fun V1 e1 => ?_⟩
  subst e1
  refine ⟨by simp [sV]; omega, fun V1 e1 => ?_⟩
  subst e1
  refine ⟨by simp [sV]; omega, fun V1 e1 => ?_⟩
  subst e1
  refine ⟨by simp [sV, inR]; omega, fun V1 e1 => ?_⟩
  have e2 : V1 = fnV V a b c d := by
    rw [e1]
    rfl
  subst e2
  have e3 : fnV V a b c d 19 0 - 1 = V 19 0 := by
    simp [fnV, sV]
  refine ⟨by rw [e3]; unfold inR; omega, ?_⟩
  rw [e3]
  exact hQ
/-- the end of 'function' -/
def fnP (n : Int) (V : Mv) (a b c d : Int) (x : Int) (V' : Mv) (Z' : Le) : Prop := x = V 19 0 ∧ rSZ n Z' V' ∧ (∀ r, r < 15 ∨ 19 < r → V' r = V r) ∧ V' 19 0 = V 19 0 + 1 ∧ ag (V 19 0) (V 15) (V' 15) ∧ ag (V 19 0) (V 16) (V' 16) ∧ ag (V 19 0) (V 17) (V' 17) ∧ ag (V 19 0) (V 18) (V' 18) ∧ V' 15 (V 19 0) = a ∧ V' 16 (V 19 0) = b ∧ V' 17 (V 19 0) = c ∧ V' 18 (V 19 0) = d
theorem fnV_P {U : Mv} {a b c d : Int} (h : rSZ n Z U) (hlt : U 19 0 < (Z 15 : Int)) (h1 : ∀ r, r < 15 ∨ 18 < r → U r = V r) (h2 : ag (V 19 0) (V 15) (U 15)) (h3 : ag (V 19 0) (V 16) (U 16)) (h4 : ag (V 19 0) (V 17) (U 17)) (h5 : ag (V 19 0) (V 18) (U 18)) : fnP n V a b c d (U 19 0) (fnV U a b c d) Z := by
  have e : U 19 0 = V 19 0 := by rw [h1 19 (by omega)]
  refine ⟨e, ?_, fun r hr => ?_, ?_, fun i q1 q2 => ?_, fun i q1 q2 => ?_, fun i q1 q2 => ?_, fun i q1 q2 => ?_, ?_, ?_, ?_, ?_⟩
  · obtain ⟨a0, ⟨a1, a2, a3, a4, a5, a6⟩, a7⟩ := h
    refine ⟨a0, ⟨a1, a2, a3, a4, ?_, ?_⟩, a7⟩
    · show (0 : Int) ≤ U 19 0 + 1
      omega
    · show U 19 0 + 1 ≤ (Z 15 : Int)
      omega
  · unfold fnV
    rw [sV_ne (by omega), sV_ne (by omega), sV_ne (by omega), sV_ne (by omega), sV_ne (by omega), h1 r (by omega)]
  · simp [fnV, sV, e]
  · have : ¬ i = U 19 0 := by omega
    simp [fnV, sV, this, h2 i q1 q2]
  · have : ¬ i = U 19 0 := by omega
    simp [fnV, sV, this, h3 i q1 q2]
  · have : ¬ i = U 19 0 := by omega
    simp [fnV, sV, this, h4 i q1 q2]
  · have : ¬ i = U 19 0 := by omega
    simp [fnV, sV, this, h5 i q1 q2]
  · simp [fnV, sV, e]
  · simp [fnV, sV, e]
  · simp [fnV, sV, e]
  · simp [fnV, sV, e]
theorem c_function {a b c d : Int} (h : rSZ n Z V) (hn : n ≤ 64) (hb : V 19 0 ≤ 32768) : Ens (w1_function a b c d V Z) (fnP n V a b c d) := by
  intro Q hQ
  unfold w1_function
  have h5 := h.2.1.2.2.2.2.1
  have h6 := h.2.1.2.2.2.2.2
  refine ⟨fun hc => ⟨by unfold inR; omega, ?_⟩, fun hc => ?_⟩
  · exact gr_fn h hn hc hb fun U Z' k1 k2 k3 ⟨k4, k5, k6, k7⟩ => c_fnJ k1 k2 (hQ _ _ _ (fnV_P k1 k2 k3 k4 k5 k6 k7))
  · exact c_fnJ h (by omega) (hQ _ _ _ (fnV_P h (by omega) (fun _ _ => rfl) ag.rf ag.rf ag.rf ag.rf))
def ceP (n : Int) (V : Mv) (v : Int) (x : Int) (V' : Mv) (Z' : Le) : Prop := x = V 21 0 ∧ rSZ n Z' V' ∧ (∀ r, r < 20 ∨ 21 < r → V' r = V r) ∧ V' 21 0 = V 21 0 + 1 ∧ ag (V 21 0) (V 20) (V' 20) ∧ V' 20 (V 21 0) = v
theorem c_ceJ {U : Mv} {v : Int} {Q : Po} (h : rSZ n Z U) (hlt : U 21 0 < (Z 20 : Int)) (h1 : ∀ r, r < 20 ∨ 20 < r → U r = V r) (h2 : ag (V 21 0) (V 20) (U 20)) (hQ : ∀ x V' Z', ceP n V v x V' Z' → Q x V' Z') : w1_newCell_J29 v U Z Q := by
  obtain ⟨a0, a1, ⟨a2, a3, a4⟩, a5⟩ := h
  have e : U 21 0 = V 21 0 := by rw [h1 21 (by omega)]
  unfold w1_newCell_J29
  refine ⟨by omega, fun V1 e1 => ?_⟩
  subst e1
  refine ⟨by simp [sV, inR]; have := a2.2; omega, fun V1 e1 => ?_⟩
  have e3 : V1 21 0 - 1 = U 21 0 := by
    subst e1
    simp [sV]
  refine ⟨by rw [e3]; unfold inR; have := a2.2; omega, ?_⟩
  refine hQ _ _ _ ⟨by omega, ?_, fun r hr => ?_, by omega, fun i q1 q2 => ?_, ?_⟩
  · subst e1
    refine ⟨a0, a1, ⟨a2, ?_, ?_⟩, a5⟩
    · show (0 : Int) ≤ U 21 0 + 1
      omega
    · show U 21 0 + 1 ≤ (Z 20 : Int)
      omega
  · subst e1
    rw [sV_ne (by omega), sV_ne (by omega), h1 r (by omega)]
  · subst e1
    have : ¬ i = U 21 0 := by omega
    simp [sV, this, h2 i q1 q2]
  · subst e1
    simp [sV, e]
theorem c_newCell {v : Int} (h : rSZ n Z V) (hn : n ≤ 64) (hb : V 21 0 ≤ 32768) : Ens (w1_newCell v V Z) (ceP n V v) := by
  intro Q hQ
  unfold w1_newCell
  have h5 := h.2.2.1.2.1
  have h6 := h.2.2.1.2.2
  refine ⟨fun hc => ⟨by unfold inR; omega, ?_⟩, fun hc => ?_⟩
  · exact gr_ce h hn hc hb fun U Z' k1 k2 k3 k4 => c_ceJ k1 k2 k3 k4 hQ
  · exact c_ceJ h (by omega) (fun _ _ => rfl) ag.rf hQ
def loP (n : Int) (V : Mv) (a b : Int) (V' : Mv) (Z' : Le) : Prop := rSZ n Z' V' ∧ (∀ r, r < 51 ∨ 53 < r → V' r = V r) ∧ V' 53 0 = V 53 0 + 1 ∧ ag (V 53 0) (V 51) (V' 51) ∧ ag (V 53 0) (V 52) (V' 52) ∧ V' 51 (V 53 0) = a ∧ V' 52 (V 53 0) = b
theorem c_loJ {U : Mv} {a b : Int} {Q : Po} (h : rSZ n Z U) (hlt : U 53 0 < (Z 51 : Int)) (h1 : ∀ r, r < 51 ∨ 52 < r → U r = V r) (h2 : ag (V 53 0) (V 51) (U 51)) (h3 : ag (V 53 0) (V 52) (U 52)) (hQ : ∀ x V' Z', loP n V a b V' Z' → Q x V' Z') : w1_log_2_J46 a b U Z Q := by
  obtain ⟨a0, a1, a2, a3, a4, a5, a6, ⟨a7, a8, a9, a10⟩, a11⟩ := h
  have e : U 53 0 = V 53 0 := by rw [h1 53 (by omega)]
  unfold w1_log_2_J46
  refine ⟨by omega, fun V1 e1 => ?_⟩
  subst e1
  refine ⟨by simp [sV]; omega, fun V1 e1 => ?_⟩
  subst e1
  refine ⟨by simp [sV, inR]; have := a7.2; omega, fun V1 e1 => ?_⟩
  refine hQ _ _ _ ⟨?_, fun r hr => ?_, ?_, fun i q1 q2 => ?_, fun i q1 q2 => ?_, ?_, ?_⟩
  · subst e1
    refine ⟨a0, a1, a2, a3, a4, a5, a6, ⟨a7, a8, ?_, ?_⟩, a11⟩
    · show (0 : Int) ≤ U 53 0 + 1
      omega
    · show U 53 0 + 1 ≤ (Z 51 : Int)
      omega
  · subst e1
    rw [sV_ne (by omega), sV_ne (by omega), sV_ne (by omega), h1 r (by omega)]
  · subst e1
    simp [sV, e]
  · subst e1
    have : ¬ i = U 53 0 := by omega
    simp [sV, this, h2 i q1 q2]
  · subst e1
    have : ¬ i = U 53 0 := by omega
    simp [sV, this, h3 i q1 q2]
  · subst e1
    simp [sV, e]
  · subst e1
    simp [sV, e]
theorem c_log {a b : Int} (h : rSZ n Z V) (hn : n ≤ 64) (hb : V 53 0 ≤ 32768) : Ens (w1_log_2 a b V Z) (fun _ => loP n V a b) := by
  intro Q hQ
  unfold w1_log_2
  have h5 := h.2.2.2.2.2.2.2.1.2.2.1
  have h6 := h.2.2.2.2.2.2.2.1.2.2.2
  refine ⟨fun hc => ⟨by unfold inR; omega, ?_⟩, fun hc => ?_⟩
  · exact gr_lo h hn hc hb fun U Z' k1 k2 k3 ⟨k4, k5⟩ => c_loJ k1 k2 k3 k4 k5 hQ
  · exact c_loJ h (by omega) (fun _ _ => rfl) ag.rf ag.rf hQ
def waP (n : Int) (V : Mv) (a b c d e : Int) (x : Int) (V' : Mv) (Z' : Le) : Prop := x = V 28 0 ∧ rSZ n Z' V' ∧ (∀ r, r < 22 ∨ 28 < r → V' r = V r) ∧ V' 28 0 = V 28 0 + 1 ∧ (ag (V 28 0) (V 22) (V' 22) ∧ ag (V 28 0) (V 23) (V' 23) ∧ ag (V 28 0) (V 24) (V' 24) ∧ ag (V 28 0) (V 25) (V' 25) ∧ ag (V 28 0) (V 26) (V' 26) ∧ ag (V 28 0) (V 27) (V' 27)) ∧ V' 22 (V 28 0) = a ∧ V' 23 (V 28 0) = b ∧ V' 24 (V 28 0) = c ∧ V' 25 (V 28 0) = d ∧ V' 26 (V 28 0) = e ∧ V' 27 (V 28 0) = 0
theorem c_waJ {U : Mv} {a b c d e : Int} {Q : Po} (h : rSZ n Z U) (hlt : U 28 0 < (Z 22 : Int)) (h1 : ∀ r, r < 22 ∨ 27 < r → U r = V r) (h2 : ag (V 28 0) (V 22) (U 22)) (h3 : ag (V 28 0) (V 23) (U 23)) (h4 : ag (V 28 0) (V 24) (U 24)) (h5 : ag (V 28 0) (V 25) (U 25)) (h6 : ag (V 28 0) (V 26) (U 26)) (h7 : ag (V 28 0) (V 27) (U 27)) (hQ : ∀ x V' Z', waP n V a b c d e x V' Z' → Q x V' Z') : w1_wait_J98 a b c d e U Z Q := by
  obtain ⟨a0, a1, a2, ⟨a3, b1, b2, b3, b4, b5, b6, b7⟩, a4⟩ := h
  have ee : U 28 0 = V 28 0 := by rw [h1 28 (by omega)]
  unfold w1_wait_J98
  refine ⟨by unfold inR; have := a3.2; omega, fun V1 e1 => ?_⟩
  refine ⟨by omega, fun V2 e2 => ?_⟩
  refine ⟨by omega, fun V3 e3 => ?_⟩
  refine ⟨by omega, fun V4 e4 => ?_⟩
  refine ⟨by omega, fun V5 e5 => ?_⟩
  refine ⟨by omega, fun V6 e6 => ?_⟩
  refine ⟨by omega, fun V7 e7 => ?_⟩
  subst e7; subst e6; subst e5; subst e4; subst e3; subst e2; subst e1
  refine hQ _ _ _ ⟨ee, ?_, fun r hr => ?_, ?_, ⟨fun i q1 q2 => ?_, fun i q1 q2 => ?_, fun i q1 q2 => ?_, fun i q1 q2 => ?_, fun i q1 q2 => ?_, fun i q1 q2 => ?_⟩, ?_, ?_, ?_, ?_, ?_, ?_⟩
  · refine ⟨a0, a1, a2, ⟨a3, b1, b2, b3, b4, b5, ?_, ?_⟩, a4⟩
    · show (1 : Int) ≤ U 28 0 + 1
      omega
    · show U 28 0 + 1 ≤ (Z 22 : Int)
      omega
  · rw [sV_ne (by omega), sV_ne (by omega), sV_ne (by omega), sV_ne (by omega), sV_ne (by omega), sV_ne (by omega), sV_ne (by omega), h1 r (by omega)]
  · simp [sV, ee]
  · have : ¬ i = U 28 0 := by omega
    simp [sV, this, h2 i q1 q2]
  · have : ¬ i = U 28 0 := by omega
    simp [sV, this, h3 i q1 q2]
  · have : ¬ i = U 28 0 := by omega
    simp [sV, this, h4 i q1 q2]
  · have : ¬ i = U 28 0 := by omega
    simp [sV, this, h5 i q1 q2]
  · have : ¬ i = U 28 0 := by omega
    simp [sV, this, h6 i q1 q2]
  · have : ¬ i = U 28 0 := by omega
    simp [sV, this, h7 i q1 q2]
  · simp [sV, ee]
  · simp [sV, ee]
  · simp [sV, ee]
  · simp [sV, ee]
  · simp [sV, ee]
  · simp [sV, ee]
theorem c_wait {a b c d e : Int} (h : rSZ n Z V) (hn : n ≤ 64) (hb : V 28 0 ≤ 32768) : Ens (w1_wait a b c d e V Z) (waP n V a b c d e) := by
  intro Q hQ
  unfold w1_wait
  have h5 := h.2.2.2.1.2.2.2.2.2.2.1
  have h6 := h.2.2.2.1.2.2.2.2.2.2.2
  refine ⟨fun hc => ⟨by unfold inR; omega, ?_⟩, fun hc => ?_⟩
  · exact gr_wa h hn hc hb fun U Z' k1 k2 k3 ⟨k4, k5, k6, k7, k8, k9⟩ => c_waJ k1 k2 k3 k4 k5 k6 k7 k8 k9 hQ
  · exact c_waJ h (by omega) (fun _ _ => rfl) ag.rf ag.rf ag.rf ag.rf ag.rf ag.rf hQ
/-- object -/
def nV (V : Mv) (o k : Int) : Mv := sV (sV (sV (sV V 0 o k) 3 o 0) 5 o (-1)) 7 0 (o + 1)
def nD (D : Mv) (o k : Int) : Mv := sV (sV (sV (sV (sV (sV D 1 0 (o + 1)) 2 o k) 3 o 0) 4 o (-1)) 5 o (-1)) 6 o (-1)
theorem c_object {k : Int} (h : rSZ n Z V) (h0 : 0 ≤ V 7 0) (h1 : V 7 0 < 3000) : Ens (w1_object k V Z) (fun x V' Z' => x = V 7 0 ∧ Z' = Z ∧ V' = nV V (V 7 0) k) := by
  obtain ⟨⟨z0, z1, z2, z3, z4, z5, -⟩, -⟩ := h
  intro Q hQ
  unfold w1_object
  refine ⟨by omega, ?_⟩
  intro V1 e1
  refine ⟨by simp [e1, sV]; omega, ?_⟩
  intro V2 e2
  refine ⟨by simp [e1, e2, sV]; omega, ?_⟩
  intro V3 e3
  refine ⟨by simp [inR, e1, e2, e3, sV]; omega, ?_⟩
  intro V4 e4
  refine ⟨by simp [inR, e1, e2, e3, e4, sV]; omega, ?_⟩
  refine hQ _ _ _ ⟨?_, rfl, ?_⟩
  · simp [e1, e2, e3, e4, sV]
  · subst e4; subst e3; subst e2; subst e1
    simp [nV, sV]
theorem d_newObject {k : Int} {D : Mv} (h0 : 0 ≤ D 1 0) (h1 : D 1 0 < 3000) : Rn (w2_newObject k D) (D 1 0) (nD D (D 1 0) k) := by
  intro Q hQ
  unfold w2_newObject
  refine ⟨by unfold inR; omega, ?_⟩
  intro V1 e1
  refine ⟨by simp [ZM]; omega, ?_⟩
  intro V2 e2
  refine ⟨by simp [ZM]; omega, ?_⟩
  intro V3 e3
  refine ⟨by simp [ZM]; omega, ?_⟩
  intro V4 e4
  refine ⟨by simp [ZM]; omega, ?_⟩
  intro V5 e5
  refine ⟨by simp [ZM]; omega, ?_⟩
  intro V6 e6
  subst e6; subst e5; subst e4; subst e3; subst e2; subst e1
  exact hQ
end LEAF
