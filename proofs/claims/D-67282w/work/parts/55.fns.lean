set_option maxRecDepth 100000
/-! bounds out of the relation; the functions of a promise -/
theorem remn_nn {D : Mv} (h : rAT D) (h0 : 0 ≤ D 50 0) : 0 ≤ remn D := by
  refine sm_nonneg fun i a b => ?_
  have := h.2 i a (by omega)
  omega
theorem undone_nn {D : Mv} (h : rDN D) (h0 : 0 ≤ D 15 0) : 0 ≤ undone D := by
  refine sm_nonneg fun i a b => ?_
  have := h i a (by omega)
  unfold bz at this
  omega
theorem pend_nn {G D : Mv} : 0 ≤ pend G D := by
  refine sm_nonneg fun i a b => ?_
  show (0 : Int) ≤ if 0 ≤ G 8 i then 1 else 0
  split <;> omega
theorem caps {px : Int} {B : Nat → Int} {g : Gh} {V D : Mv} {Z : Le} (h : RelX px B g V Z D) :
    B 0 ≤ 64 ∧ 0 ≤ D 1 0 ∧ D 1 0 ≤ 3000 ∧ V 7 0 = D 1 0 ∧ 0 ≤ D 15 0 ∧ D 15 0 ≤ 10300 ∧ 0 ≤ V 19 0 ∧ V 19 0 ≤ 24100 ∧ 0 ≤ V 21 0 ∧ V 21 0 ≤ 10800 ∧ 0 ≤ D 22 0 ∧ D 22 0 ≤ 3200 ∧ V 28 0 = D 22 0 + 1 ∧ 0 ≤ D 42 0 ∧ D 42 0 ≤ 3500 ∧ 0 ≤ V 39 0 ∧ V 39 0 ≤ 7000 ∧ 0 ≤ D 50 0 ∧ D 50 0 ≤ D 1 0 ∧ 0 ≤ V 48 0 ∧ V 48 0 ≤ D 50 0 ∧ 0 ≤ D 29 0 ∧ D 29 0 ≤ D 30 0 ∧ D 30 0 + B 8 ≤ 13500 ∧ 0 ≤ D 36 0 ∧ D 36 0 ≤ 4195 ∧ V 53 0 = D 36 0 ∧ 0 ≤ D 38 0 ∧ D 38 0 ≤ 200 ∧ V 41 0 = D 38 0 ∧ 0 ≤ D 33 0 ∧ D 33 0 ≤ 1000 ∧ V 50 0 = D 33 0 := by
  obtain ⟨⟨b0, b1, b2, b3, b4, b5, b6, b7, b8⟩, hZ, ⟨o1, o2, o3, -⟩, hOS, hOO, hOT, hOA, hFN, hRC, hDN, hCE, hHA, hGR, hAT, hVA, hAS, hWA, hWN, hHD, hCH, ⟨-, -, -, -, -, -, j1, j2, -⟩, hLO, hLI, ⟨c1, c2, c3, c4, c5, c6, c7, c8, c9, c10⟩⟩ := h
  have r0 := hRC.1
  have w0 := hWA.1
  have w1 := hWA.2.1
  have u1 := remn_nn hAT hGR.1
  have u2 := undone_nn hDN r0
  have u3 : 0 ≤ pend g.1 D := pend_nn
  have g0 := hGR.1
  have g1 := hGR.2.1
  have l0 := hLO.1
  have l1 := hLO.2.1
  have l2 := hLI.1
  have l3 := hLI.2.1
  have l4 := hLI.2.2.1
  have h0 := hHA.1
  have h1 := hHA.2.1
  have h2 := hHA.2.2.1
  obtain ⟨-, ⟨-, -, -, -, z1, -⟩, ⟨-, z2, -⟩, -, -, ⟨-, z3, -⟩, ⟨-, -, -, -, -, -, z4, -⟩, -⟩ := hZ
  refine ⟨?_, ?_, ?_, ?_, ?_, ?_, ?_, ?_, ?_, ?_, ?_, ?_, ?_, ?_, ?_, ?_, ?_, ?_, ?_, ?_, ?_, ?_, ?_, ?_, ?_, ?_, ?_, ?_, ?_, ?_, ?_, ?_, ?_⟩ <;> omega
theorem sm_succ {f g : Int → Int} {n : Nat} (h : ∀ i : Int, 0 ≤ i → i < n → g i = f i) : sm g (n + 1) = sm f n + g n := by
  simp only [sm]
  rw [sm_eq h]
section FNS
variable {n : Int} {V D : Mv} {Z : Le}
def fnsP (n : Int) (V : Mv) (p x : Int) (V' : Mv) (Z' : Le) : Prop := x = V 19 0 ∧ rSZ n Z' V' ∧ (∀ r, r < 15 ∨ 21 < r → V' r = V r) ∧ V' 19 0 = V 19 0 + 2 ∧ V' 21 0 = V 21 0 + 1 ∧ (ag (V 19 0) (V 15) (V' 15) ∧ ag (V 19 0) (V 16) (V' 16) ∧ ag (V 19 0) (V 17) (V' 17) ∧ ag (V 19 0) (V 18) (V' 18) ∧ ag (V 21 0) (V 20) (V' 20)) ∧
  V' 15 (V 19 0) = 1 ∧ V' 16 (V 19 0) = p ∧ V' 17 (V 19 0) = V 21 0 ∧ V' 15 (V 19 0 + 1) = 2 ∧ V' 16 (V 19 0 + 1) = p ∧ V' 17 (V 19 0 + 1) = V 21 0 ∧ V' 20 (V 21 0) = 0
theorem c_fns {p : Int} (h : rSZ n Z V) (hn : n ≤ 64) (hb : V 19 0 ≤ 32000) (hb2 : V 21 0 ≤ 32000) : Ens (w1_functionsOf p V Z) (fnsP n V p) := by
  intro Q hQ
  unfold w1_functionsOf
  have f0 := h.2.1.2.2.2.2.1
  refine c_newCell h hn (by omega) _ fun x1 V1 Z1 ⟨p1, p2, p3, p4, p5, p6⟩ => ?_
  have e1 : V1 19 = V 19 := p3 19 (by omega)
  refine c_function p2 hn (by rw [e1]; omega) _ fun x2 V2 Z2 ⟨q1, q2, q3, q4, q5, q6, q7, q8, q9, q10, q11, q12⟩ => ?_
  rw [e1] at q1 q4 q5 q6 q7 q8 q9 q10 q11 q12
  refine c_function q2 hn (by omega) _ fun x3 V3 Z3 ⟨r1, r2, r3, r4, r5, r6, r7, r8, r9, r10, r11, r12⟩ => ?_
  rw [q4] at r1 r4 r5 r6 r7 r8 r9 r10 r11 r12
  have e15 : V1 15 = V 15 := p3 15 (by omega)
  have e16 : V1 16 = V 16 := p3 16 (by omega)
  have e17 : V1 17 = V 17 := p3 17 (by omega)
  have e18 : V1 18 = V 18 := p3 18 (by omega)
  rw [e15] at q5
  rw [e16] at q6
  rw [e17] at q7
  rw [e18] at q8
  have e20 : V3 20 = V1 20 := (r3 20 (by omega)).trans (q3 20 (by omega))
  have e21 : V3 21 = V1 21 := (r3 21 (by omega)).trans (q3 21 (by omega))
  refine hQ _ _ _ ⟨q1, r2, fun r hr => ?_, by omega, by rw [e21]; exact p4, ⟨q5.tr r5 (by omega), q6.tr r6 (by omega), q7.tr r7 (by omega), q8.tr r8 (by omega), by rw [e20]; exact p5⟩, ?_, ?_, ?_, r9, r10, by rw [r11]; exact p1, by rw [e20]; exact p6⟩
  · rw [r3 r (by omega), q3 r (by omega), p3 r (by omega)]
  · rw [r5 _ f0 (by omega)]
    exact q9
  · rw [r6 _ f0 (by omega)]
    exact q10
  · rw [r7 _ f0 (by omega), q11]
    exact p1
def rcD (D : Mv) (p : Int) : Mv := sV (sV (sV D 15 0 (D 15 0 + 1)) 13 (D 15 0) p) 14 (D 15 0) 0
theorem d_record {p : Int} (h0 : 0 ≤ D 15 0) (h1 : D 15 0 < 12000) : Rn (w2_record p D) (D 15 0) (rcD D p) := by
  intro Q hQ
  unfold w2_record
  refine ⟨by unfold inR; omega, fun V1 e1 => ?_⟩
  refine ⟨by simp [ZM]; omega, fun V2 e2 => ?_⟩
  refine ⟨by simp [ZM]; omega, Or.inl rfl, fun V3 e3 => ?_⟩
  subst e3; subst e2; subst e1
  exact hQ
def fnG (G V D : Mv) : Mv := sV (sV (sV (sV G 0 (V 19 0) (D 15 0)) 0 (V 19 0 + 1) (D 15 0)) 1 (D 15 0) (V 21 0)) 2 (V 21 0) (3 * D 15 0)
theorem rel_fns {px p : Int} {B : Nat → Int} {G U : Mv} {pl : Int → List Int} {jq jf : List Int} {Z' : Le} {x : Int} (h : RelX px B (G, pl, jq, jf) V Z D) (hp : 0 ≤ p ∧ p < D 1 0 ∧ D 2 p = 0) (hb : D 15 0 + 1 ≤ D 1 0 + B 1) (hU : fnsP (B 0) V p x U Z') :
    RelX px B (fnG G V D, pl, jq, jf) U Z' (rcD D p) ∧ Ext G V D (fnG G V D) U (rcD D p) ∧ YN (fnG G V D) U (V 19 0) (D 15 0) := by
  obtain ⟨hB, hZ, hOK, hOS, hOO, hOT, hOA, hFN, hRC, hDN, hCE, hHA, hGR, hAT, hVA, hAS, hWA, hWN, hHD, hCH, hJO, hLO, hLI, hCO⟩ := id h
  have hc := caps h
  obtain ⟨k1, k2, k3, k4, k5, ⟨k6, k7, k8, k9, k10⟩, k11, k12, k13, k14, k15, k16, k17⟩ := hU
  obtain ⟨U, rfl⟩ : ∃ W, U = pt 15 21 V W := ⟨U, pt_of (fun a ha => k3 a ha)⟩
  have f0 : 0 ≤ V 19 0 := by omega
  have c0 : 0 ≤ V 21 0 := by omega
  have r0 : 0 ≤ D 15 0 := by omega
  have gf : ∀ i, fnG G V D 0 i = if i = V 19 0 + 1 then D 15 0 else if i = V 19 0 then D 15 0 else G 0 i := fun i => by simp [fnG, sV]
  have g1 : ∀ i, fnG G V D 1 i = if i = D 15 0 then V 21 0 else G 1 i := fun i => by simp [fnG, sV]
  have g2 : ∀ i, fnG G V D 2 i = if i = V 21 0 then 3 * D 15 0 else G 2 i := fun i => by simp [fnG, sV]
  have d13 : ∀ i, rcD D p 13 i = if i = D 15 0 then p else D 13 i := fun i => by simp [rcD, sV]
  have d14 : ∀ i, rcD D p 14 i = if i = D 15 0 then 0 else D 14 i := fun i => by simp [rcD, sV]
  have d15 : rcD D p 15 0 = D 15 0 + 1 := by simp [rcD, sV]
  have hX : Ext G V D (fnG G V D) (pt 15 21 V U) (rcD D p) := by
    refine ⟨⟨Int.le_refl _, ag.rf, ag.rf, ag.rf, ag.rf, ag.rf, ag.rf, ag.rf, ag.rf, ag.rf, ag.rf, ag.rf, ag.rf, fun i a b => ⟨fun _ _ => ⟨rfl, rfl⟩, fun _ => ⟨rfl, rfl⟩⟩⟩, ⟨by omega, k6, k7, k8, k9, fun i a b => ?_⟩, ⟨by omega, fun i a b => ?_, fun i a b => ?_, by omega, fun i a b => ?_⟩, ⟨Int.le_refl _, ag.rf, ag.rf, ag.rf, fun _ _ _ _ => rfl⟩, ⟨Int.le_refl _, ag.rf, ag.rf, ag.rf, ag.rf, ag.rf, ag.rf, ag.rf, ag.rf, ag.rf⟩, ⟨Int.le_refl _, ag.rf, ag.rf, ag.rf⟩, ⟨Int.le_refl _, ag.rf, ag.rf, ag.rf, ag.rf, ag.rf, ag.rf⟩, ⟨Int.le_refl _, ag.rf, fun _ _ _ _ => rfl⟩, ⟨Int.le_refl _, ag.rf, ag.rf, ag.rf, ag.rf, ag.rf, ag.rf, ag.rf, ag.rf, ag.rf, ag.rf⟩, ⟨Int.le_refl _, ag.rf, ag.rf, ag.rf, ag.rf, ag.rf, ag.rf⟩⟩
    · rw [gf, if_neg (by omega), if_neg (by omega)]
    · rw [d13, if_neg (by omega)]
    · rw [g1, if_neg (by omega)]
    · rw [g2, if_neg (by omega)]
  refine ⟨rel_ext h hX hB k2 hOK hOS (fun o a b => Or.inl ⟨b, rfl, rfl, rfl, rfl⟩) (fun f a b => absurd a (Int.not_le.mpr b)) (fun f a b => absurd a (Int.not_le.mpr b)) ?_ ?_ ?_ ?_ ⟨hHA.1, hHA.2.2.1⟩ (fun f a b => absurd a (Int.not_le.mpr b)) (fun f a b => absurd a (Int.not_le.mpr b)) hAT hVA (fun a q1 q2 => Or.inl ⟨q2, rfl, rfl⟩) hWA.1 (fun f a b => absurd a (Int.not_le.mpr b)) hWN hHD ?_ ?_ hLO hLI ?_, hX, ?_⟩
  · intro f a b
    by_cases q : f = V 19 0
    · subst q
      unfold FOK
      rw [k11, k12, k13, gf, if_neg (by omega), if_pos rfl, d13, if_pos rfl, g1, if_pos rfl, d15]
      refine ⟨by omega, by omega, fun z => by omega, fun z => ⟨r0, by omega, rfl, rfl⟩, fun z => by omega, fun z => by omega, fun z => by omega⟩
    · have q : f = V 19 0 + 1 := by omega
      subst q
      unfold FOK
      rw [k14, k15, k16, gf, if_pos rfl, d13, if_pos rfl, g1, if_pos rfl, d15]
      refine ⟨by omega, by omega, fun z => by omega, fun z => ⟨r0, by omega, rfl, rfl⟩, fun z => by omega, fun z => by omega, fun z => by omega⟩
  · intro r a b
    have q : r = D 15 0 := by omega
    subst q
    unfold COK
    rw [d13, if_pos rfl, g1, if_pos rfl, g2, if_pos rfl]
    exact ⟨hp.1, hp.2.1, hp.2.2, c0, by omega, rfl⟩
  · intro r a b
    rw [d14]
    split
    · exact Or.inl rfl
    · exact hDN r a (by omega)
  · intro i a b
    unfold EOK
    rw [g2]
    by_cases q : i = V 21 0
    · subst q
      rw [if_pos rfl, k17]
      refine ⟨fun r z => ?_, fun e z => by omega, fun g z => by omega⟩
      have : r = D 15 0 := by omega
      rw [d14, if_pos this]
      exact ⟨by omega, rfl⟩
    · rw [if_neg q, k10 i a (by omega)]
      obtain ⟨v1, v2, v3⟩ := hCE i a (by omega)
      refine ⟨fun r z => ?_, fun e z => v2 e z, fun g z => v3 g z⟩
      obtain ⟨y1, y2⟩ := v1 r z
      rw [d14, if_neg (by omega)]
      exact ⟨by omega, y2⟩
  · intro o a b
    obtain ⟨v1, v2, v3, v4⟩ := hCH o a b
    exact ⟨Lk.cg (D := D) (D' := rcD D p) (Int.le_refl _) (fun _ _ => rfl) v1, v2, v3, v4⟩
  · obtain ⟨j1, j2, j3, j4, j5, j6, j7, j8, j9⟩ := hJO
    exact ⟨Cj.cg (V := V) (V' := pt 15 21 V U) (Int.le_refl _) (fun _ _ => rfl) j1, Cj.cg (V := V) (V' := pt 15 21 V U) (Int.le_refl _) (fun _ _ => rfl) j2, j3, j4, j5, j6, j7, j8, JL.cg (V := V) (D := D) (V' := pt 15 21 V U) (D' := rcD D p) rfl j7 (fun j n hj q0 q1 q2 => q2.ext hX q0 q1 rfl rfl rfl) j9⟩
  · obtain ⟨c1, c2, c3, c4, c5, c6, c7, c8, c9, c10⟩ := hCO
    have eu : undone (rcD D p) = undone D + 1 := by
      unfold undone
      have e1 : (rcD D p 15 0).toNat = (D 15 0).toNat + 1 := by omega
      rw [e1, sm_succ (f := fun r => 1 - D 14 r)]
      · have e2 : (((D 15 0).toNat : Nat) : Int) = D 15 0 := by omega
        rw [e2, d14, if_pos rfl]
        omega
      · intro i a b
        rw [d14, if_neg (by omega)]
    have c9 : D 30 0 + pend G D + undone D + B 8 ≤ D 22 0 + D 15 0 := c9
    have ep : pend (fnG G V D) (rcD D p) = pend G D := rfl
    have er : remn (rcD D p) = remn D := rfl
    refine ⟨?_, c2, ?_, ?_, c5, c6, c7, c8, ?_, c10⟩
    · show rcD D p 15 0 ≤ D 1 0 + B 1
      omega
    · show U 19 0 + 2 * D 38 0 ≤ 2 * rcD D p 15 0 + D 1 0 + B 3
      have k4 : U 19 0 = V 19 0 + 2 := k4
      omega
    · show U 21 0 + D 38 0 ≤ rcD D p 15 0 + B 4
      have k5 : U 21 0 = V 21 0 + 1 := k5
      omega
    · show D 30 0 + pend (fnG G V D) (rcD D p) + undone (rcD D p) + B 8 ≤ D 22 0 + rcD D p 15 0
      rw [ep, eu]
      omega
  · refine ⟨f0, by omega, k11, k14, ?_, ?_⟩
    · rw [gf, if_neg (by omega), if_pos rfl]
    · rw [gf, if_pos rfl]
end FNS
