set_option maxRecDepth 100000
/-! jobs on both sides; settling -/
theorem JL.snoc {V D V' D' : Mv} {j : Int} (e30 : D' 30 0 = D 30 0 + 1) (hj : JOK V' D' j (D 30 0)) : ∀ {l : List Int} {m : Int}, 0 ≤ m → (∀ q i, q ∈ l → 0 ≤ i → i < D 30 0 → JOK V D q i → JOK V' D' q i) → JL V D m l → JL V' D' m (l ++ [j])
  | [], m, _, _, h => by
    have h : m = D 30 0 := h
    subst h
    exact ⟨hj, e30.symm⟩
  | q :: t, m, h0, e, h => by
    have hl := JL.len h
    simp only [List.length_cons] at hl
    exact ⟨e q m List.mem_cons_self h0 (by omega) h.1, JL.snoc e30 hj (by omega) (fun q i hq => e q i (List.mem_cons_of_mem _ hq)) h.2⟩
/-- what basic steps leave alone -/
def Fr (V D V' D' : Mv) : Prop := (∀ a, 38 ≤ a → a ≤ 55 → V' a = V a) ∧ (∀ a, 31 ≤ a → a ≤ 51 → D' a = D a) ∧ D' 29 = D 29 ∧ D' 0 = D 0
theorem Fr.rf {V D : Mv} : Fr V D V D := ⟨fun _ _ _ => rfl, fun _ _ _ => rfl, rfl, rfl⟩
theorem Fr.tr {V D V1 D1 V2 D2 : Mv} (h : Fr V D V1 D1) (k : Fr V1 D1 V2 D2) : Fr V D V2 D2 := ⟨fun a h1 h2 => (k.1 a h1 h2).trans (h.1 a h1 h2), fun a h1 h2 => (k.2.1 a h1 h2).trans (h.2.1 a h1 h2), k.2.2.1.trans h.2.2.1, k.2.2.2.trans h.2.2.2⟩
section SETTLE
variable {B : Nat → Int} {V D : Mv} {Z : Le}
theorem rel_job {px what how v : Int} {G T V' : Mv} {Z' : Le} {pl : Int → List Int} {jq jf : List Int} (h : RelX px B (G, pl, jq, jf) V Z D) (h8 : 1 ≤ B 8) (hE : enP (B 0) jq V what how v V' Z')
    (t23 : ag (D 30 0) (D 23) (T 23)) (t24 : ag (D 30 0) (D 24) (T 24)) (t25 : ag (D 30 0) (D 25) (T 25)) (t26 : ag (D 30 0) (D 26) (T 26)) (t27 : ag (D 30 0) (D 27) (T 27)) (t28 : ag (D 30 0) (D 28) (T 28)) (t29 : T 29 0 = D 29 0) (t30 : T 30 0 = D 30 0 + 1)
    (hnew : ∀ j, V' 29 j = what → V' 30 j = how → V' 31 j = v → JOK V' (pt 23 30 D T) j (D 30 0)) :
    ∃ jq' jf', RelX px (b8 B (-1)) (G, pl, jq', jf') V' Z' (pt 23 30 D T) ∧ Ext G V D G V' (pt 23 30 D T) := by
  obtain ⟨hB, hZ, hOK, hOS, hOO, hOT, hOA, hFN, hRC, hDN, hCE, hHA, hGR, hAT, hVA, hAS, hWA, hWN, hHD, hCH, hJO, hLO, hLI, hCO⟩ := id h
  obtain ⟨k1, k2, j, jf', ⟨m1, m2, m3, m4, m5, m6⟩, k4, k5, k6, k7⟩ := hE
  obtain ⟨U, rfl⟩ : ∃ W, V' = pt 29 37 V W := ⟨V', pt_of (fun a ha => k2 a ha)⟩
  have hX : Ext G V D G (pt 29 37 V U) (pt 23 30 D T) := by
    refine ⟨⟨Int.le_refl _, ag.rf, ag.rf, ag.rf, ag.rf, ag.rf, ag.rf, ag.rf, ag.rf, ag.rf, ag.rf, ag.rf, ag.rf, fun i a b => ⟨fun _ _ => ⟨rfl, rfl⟩, fun _ => ⟨rfl, rfl⟩⟩⟩, ⟨Int.le_refl _, ag.rf, ag.rf, ag.rf, ag.rf, ag.rf⟩, ⟨Int.le_refl _, ag.rf, ag.rf, Int.le_refl _, ag.rf⟩, ⟨Int.le_refl _, ag.rf, ag.rf, ag.rf, fun _ _ _ _ => rfl⟩, ⟨Int.le_refl _, ag.rf, ag.rf, ag.rf, ag.rf, ag.rf, ag.rf, ag.rf, ag.rf, ag.rf⟩, ⟨Int.le_refl _, ag.rf, ag.rf, ag.rf⟩, ⟨Int.le_refl _, ag.rf, ag.rf, ag.rf, ag.rf, ag.rf, ag.rf⟩, ⟨Int.le_refl _, ag.rf, fun _ _ _ _ => rfl⟩, ⟨Int.le_refl _, ag.rf, ag.rf, ag.rf, ag.rf, ag.rf, ag.rf, ag.rf, ag.rf, ag.rf, ag.rf⟩, ⟨?_, t23, t24, t25, t26, t27, t28⟩⟩
    show D 30 0 ≤ T 30 0
    omega
  refine ⟨jq ++ [j], jf', rel_ext h hX (hB.b8 (by omega)) k1 hOK hOS (fun o a b => Or.inl ⟨b, rfl, rfl, rfl, rfl⟩) (fun f a b => absurd a (Int.not_le.mpr b)) (fun f a b => absurd a (Int.not_le.mpr b)) (fun f a b => absurd a (Int.not_le.mpr b)) (fun f a b => absurd a (Int.not_le.mpr b)) hDN hCE ⟨hHA.1, hHA.2.2.1⟩ (fun f a b => absurd a (Int.not_le.mpr b)) (fun f a b => absurd a (Int.not_le.mpr b)) hAT hVA (fun a q1 q2 => Or.inl ⟨q2, rfl, rfl⟩) hWA.1 (fun f a b => absurd a (Int.not_le.mpr b)) hWN hHD ?_ ?_ hLO hLI ?_, hX⟩
  · intro o a b
    obtain ⟨v1, v2, v3, v4⟩ := hCH o a b
    exact ⟨Lk.cg (D := D) (by exact Int.le_refl _) (fun _ _ => by rfl) v1, v2, v3, v4⟩
  · obtain ⟨j1, j2, j3, j4, j5, j6, j7, j8, j9⟩ := hJO
    have j7 : 0 ≤ D 29 0 := j7
    refine ⟨m1, m2, m3, m4, m5, m6, ?_, ?_, ?_⟩
    · show 0 ≤ T 29 0
      omega
    · show T 30 0 - T 29 0 = _
      simp only [List.length_append, List.length_cons, List.length_nil]
      have j8 : D 30 0 - D 29 0 = jq.length := j8
      omega
    · show JL _ _ (T 29 0) _
      rw [t29]
      refine JL.snoc (V := V) (D := D) (V' := pt 29 37 V U) (D' := pt 23 30 D T) t30 (hnew j k4 k5 k6) j7 (fun q i hq i0 i1 hh => ?_) j9
      obtain ⟨x1, x2, x3⟩ := k7 q hq
      exact hh.ext hX i0 i1 x1 x2 x3
  · obtain ⟨c1, c2, c3, c4, c5, c6, c7, c8, c9, c10⟩ := hCO
    refine ⟨c1, c2, c3, c4, c5, c6, c7, c8, ?_, c10⟩
    have c9 : D 30 0 + pend G D + undone D + B 8 ≤ D 22 0 + D 15 0 := c9
    show T 30 0 + pend G D + undone D + (B 8 + -1) ≤ D 22 0 + D 15 0
    omega
/-- react -/
def reD (D : Mv) (k how v : Int) : Mv := sV (sV (sV (sV (sV (sV (sV D 28 (D 30 0) 0) 27 (D 30 0) (if how = 2 then 1 else 0)) 23 (D 30 0) (if how = 2 then D 20 k else D 18 k)) 24 (D 30 0) (if how = 2 then D 21 k else D 19 k)) 25 (D 30 0) (D 17 k)) 26 (D 30 0) v) 30 0 (D 30 0 + 1)
theorem d_react {k how v : Int} (h0 : 0 ≤ D 30 0) (h1 : D 30 0 < 24000) (hk : 0 ≤ k) (hk2 : k < 12000) : Rn (w2_react k how v D) 0 (reD D k how v) := by
  intro Q hQ
  unfold w2_react
  refine ⟨by simp [ZM]; omega, Or.inl rfl, fun V1 e1 => ?_⟩
  by_cases hh : how = 2
  · have hQ : Q 0 (sV (sV (sV (sV (sV (sV (sV D 28 (D 30 0) 0) 27 (D 30 0) 1) 23 (D 30 0) (D 20 k)) 24 (D 30 0) (D 21 k)) 25 (D 30 0) (D 17 k)) 26 (D 30 0) v) 30 0 (D 30 0 + 1)) := by
      unfold reD at hQ
      simpa only [hh, if_true] using hQ
    refine ⟨fun _ => ?_, fun z => absurd hh z⟩
    unfold w2_react_J28
    subst e1
    refine ⟨by show _ ∧ D 30 0 < _; simp [ZM, sV]; omega, Or.inr rfl, fun V2 e2 => ⟨fun _ => ⟨by simp [ZM]; omega, ?_⟩, fun z => absurd hh z⟩⟩
    subst e2
    unfold w2_react_J57
    refine ⟨by simp [ZM, sV]; omega, fun V3 e3 => ⟨fun _ => ⟨by simp [ZM]; omega, ?_⟩, fun z => absurd hh z⟩⟩
    subst e3
    unfold w2_react_J86
    refine ⟨by simp [ZM, sV]; omega, fun V4 e4 => ⟨by simp [ZM]; omega, ?_⟩⟩
    subst e4
    refine ⟨by simp [ZM, sV]; omega, fun V5 e5 => ?_⟩
    subst e5
    refine ⟨by simp [ZM, sV]; omega, fun V6 e6 => ⟨by subst e6; simp [sV, inR]; omega, fun V7 e7 => ?_⟩⟩
    subst e6; subst e7
    exact hQ
  · have hQ : Q 0 (sV (sV (sV (sV (sV (sV (sV D 28 (D 30 0) 0) 27 (D 30 0) 0) 23 (D 30 0) (D 18 k)) 24 (D 30 0) (D 19 k)) 25 (D 30 0) (D 17 k)) 26 (D 30 0) v) 30 0 (D 30 0 + 1)) := by
      unfold reD at hQ
      simpa only [hh, if_false] using hQ
    refine ⟨fun z => absurd z hh, fun _ => ?_⟩
    unfold w2_react_J28
    subst e1
    refine ⟨by show _ ∧ D 30 0 < _; simp [ZM, sV]; omega, Or.inl rfl, fun V2 e2 => ⟨fun z => absurd z hh, fun _ => ⟨by simp [ZM]; omega, ?_⟩⟩⟩
    subst e2
    unfold w2_react_J57
    refine ⟨by simp [ZM, sV]; omega, fun V3 e3 => ⟨fun z => absurd z hh, fun _ => ⟨by simp [ZM]; omega, ?_⟩⟩⟩
    subst e3
    unfold w2_react_J86
    refine ⟨by simp [ZM, sV]; omega, fun V4 e4 => ⟨by simp [ZM]; omega, ?_⟩⟩
    subst e4
    refine ⟨by simp [ZM, sV]; omega, fun V5 e5 => ?_⟩
    subst e5
    refine ⟨by simp [ZM, sV]; omega, fun V6 e6 => ⟨by subst e6; simp [sV, inR]; omega, fun V7 e7 => ?_⟩⟩
    subst e6; subst e7
    exact hQ
theorem joC_of {px : Int} {g : Gh} (h : RelX px B g V Z D) : joC g.2.2.1 g.2.2.2 V ∧ (g.2.2.1.length : Int) ≤ 13500 := by
  have hc := caps h
  obtain ⟨hB, hZ, hOK, hOS, hOO, hOT, hOA, hFN, hRC, hDN, hCE, hHA, hGR, hAT, hVA, hAS, hWA, hWN, hHD, hCH, ⟨j1, j2, j3, j4, j5, j6, j7, j8, j9⟩, hLO, hLI, hCO⟩ := h
  have := hB.2.2.2.2.2.2.2.2
  exact ⟨⟨j1, j2, j3, j4, j5, j6⟩, by omega⟩
/-- a reaction's job on both sides -/
theorem s_react {px k how v : Int} {g : Gh} (h : RelX px B g V Z D) (h8 : 1 ≤ B 8) (hk : 0 ≤ k ∧ k < D 22 0) (hh : how = 1 ∨ how = 2) (hv : okv D v) :
    Rn (w2_react k how v D) 0 (reD D k how v) ∧ Ens (w1_enqueue (k + 1) how v V Z) (fun _ V' Z' => ∃ jq' jf', RelX px (b8 B (-1)) (g.1, g.2.1, jq', jf') V' Z' (reD D k how v) ∧ Ext g.1 V D g.1 V' (reD D k how v) ∧ (∀ r, r < 29 ∨ 37 < r → V' r = V r)) := by
  obtain ⟨G, pl, jq, jf⟩ := g
  have hc := caps h
  have hjc := joC_of h
  refine ⟨d_react (by omega) (by omega) hk.1 (by omega), ?_⟩
  intro Q hQ
  have e : reD D k how v = pt 23 30 D (reD D k how v) := pt_of fun a ha => by
    unfold reD
    rw [sV_ne (by omega), sV_ne (by omega), sV_ne (by omega), sV_ne (by omega), sV_ne (by omega), sV_ne (by omega), sV_ne (by omega)]
  refine c_enqueue h.2.1 hc.1 hjc.1 (by have := hjc.2; omega) _ fun x V' Z' hE => hQ _ _ _ ?_
  have hne : ∀ i, i < D 30 0 → ¬ i = D 30 0 := fun i hi z => by omega
  obtain ⟨jq', jf', r1, r2⟩ := rel_job (T := reD D k how v) h h8 hE (fun i a b => by simp [reD, sV, hne i b]) (fun i a b => by simp [reD, sV, hne i b]) (fun i a b => by simp [reD, sV, hne i b]) (fun i a b => by simp [reD, sV, hne i b]) (fun i a b => by simp [reD, sV, hne i b]) (fun i a b => by simp [reD, sV, hne i b]) rfl (by simp [reD, sV]) (fun j q1 q2 q3 => by
    rw [← e]
    refine Or.inr ?_
    rw [q1, q2, q3]
    have e1 : k + 1 - 1 = k := by omega
    rw [e1]
    refine ⟨by omega, ?_, by simp [reD, sV], hv, by simp [reD, sV], by simp [reD, sV], ?_⟩
    · show k + 1 ≤ D 22 0
      omega
    · rcases hh with z | z
      · subst z
        exact Or.inl ⟨rfl, by simp [reD, sV], by simp [reD, sV], by simp [reD, sV]⟩
      · subst z
        exact Or.inr ⟨rfl, by simp [reD, sV], by simp [reD, sV], by simp [reD, sV]⟩)
  rw [← e] at r1 r2
  exact ⟨jq', jf', r1, r2, hE.2.1⟩
/-- ghosts: a reaction leaves the chain of px -/
theorem rel_pop {p k : Int} {t : List Int} {g : Gh} (h : RelX p B g V Z D) (hp : 0 ≤ p ∧ p < D 1 0) (hl : g.2.1 p = k :: t) :
    g.1 13 p = k ∧ 0 ≤ k ∧ k < D 22 0 ∧ RelX p (b8 B 1) (sV (sV g.1 8 k (-1)) 13 p (D 16 k), (fun x => if x = p then t else g.2.1 x), g.2.2.1, g.2.2.2) V Z D ∧ Ext g.1 V D (sV (sV g.1 8 k (-1)) 13 p (D 16 k)) V D := by
  obtain ⟨G, pl, jq, jf⟩ := g
  obtain ⟨hB, hZ, hOK, hOS, hOO, hOT, hOA, hFN, hRC, hDN, hCE, hHA, hGR, hAT, hVA, hAS, hWA, hWN, hHD, hCH, hJO, hLO, hLI, hCO⟩ := id h
  have hl : pl p = k :: t := hl
  have l1 : Lk D (G 13 p) (pl p) := (hCH p hp.1 hp.2).1
  have l2 : ∀ q ∈ pl p, G 8 q = p := (hCH p hp.1 hp.2).2.1
  have l3 : (pl p).Nodup := (hCH p hp.1 hp.2).2.2.1
  have l4 : ∀ h : pl p ≠ [], V 4 p = (pl p).getLast h + 1 := (hCH p hp.1 hp.2).2.2.2
  rw [hl] at l1 l2 l3
  obtain ⟨y1, y2, y3, y4⟩ := l1
  have hX : Ext G V D (sV (sV G 8 k (-1)) 13 p (D 16 k)) V D := Ext.rf
  refine ⟨y1, y2, y3, rel_ext h hX (hB.b8 (by have := hB.2.2.2.2.2.2.2.2; omega)) hZ hOK hOS (fun o a b => Or.inl ⟨b, rfl, rfl, rfl, rfl⟩) (fun f a b => absurd a (Int.not_le.mpr b)) (fun f a b => absurd a (Int.not_le.mpr b)) (fun f a b => absurd a (Int.not_le.mpr b)) (fun f a b => absurd a (Int.not_le.mpr b)) hDN hCE ⟨hHA.1, hHA.2.2.1⟩ (fun f a b => absurd a (Int.not_le.mpr b)) (fun f a b => absurd a (Int.not_le.mpr b)) hAT hVA (fun a q1 q2 => Or.inl ⟨q2, rfl, rfl⟩) hWA.1 (fun f a b => absurd a (Int.not_le.mpr b)) hWN ?_ ?_ hJO hLO hLI ?_, hX⟩
  · intro o a b c
    obtain ⟨u1, u2⟩ := hHD o a b c
    refine ⟨u1, ?_⟩
    show sV (sV G 8 k (-1)) 13 p (D 16 k) 13 o = D 5 o
    simp [sV, c]
    exact u2
  · intro o a b
    obtain ⟨v1, v2, v3, v4⟩ := hCH o a b
    by_cases q : o = p
    · subst q
      have g13 : sV (sV G 8 k (-1)) 13 o (D 16 k) 13 o = D 16 k := by simp [sV]
      show Lk D (sV (sV G 8 k (-1)) 13 o (D 16 k) 13 o) (if o = o then t else pl o) ∧ (∀ q ∈ (if o = o then t else pl o), sV (sV G 8 k (-1)) 13 o (D 16 k) 8 q = o) ∧ (if o = o then t else pl o).Nodup ∧ ∀ h : (if o = o then t else pl o) ≠ [], V 4 o = (if o = o then t else pl o).getLast h + 1
      rw [g13]
      simp only [if_true]
      have hnd := List.nodup_cons.mp l3
      refine ⟨y4, fun q hq => ?_, hnd.2, fun hne => ?_⟩
      · have hqk : ¬ q = k := fun z => hnd.1 (z ▸ hq)
        have e8 : sV (sV G 8 k (-1)) 13 o (D 16 k) 8 q = G 8 q := by simp [sV, hqk]
        rw [e8]
        exact l2 q (List.mem_cons_of_mem _ hq)
      · have hn2 : pl o ≠ [] := by rw [hl]; simp
        rw [l4 hn2]
        simp only [hl]
        rw [List.getLast_cons hne]
    · have g13 : sV (sV G 8 k (-1)) 13 p (D 16 k) 13 o = G 13 o := by simp [sV, q]
      show Lk D (sV (sV G 8 k (-1)) 13 p (D 16 k) 13 o) (if o = p then t else pl o) ∧ (∀ q ∈ (if o = p then t else pl o), sV (sV G 8 k (-1)) 13 p (D 16 k) 8 q = o) ∧ (if o = p then t else pl o).Nodup ∧ ∀ h : (if o = p then t else pl o) ≠ [], V 4 o = (if o = p then t else pl o).getLast h + 1
      rw [g13]
      simp only [if_neg q]
      refine ⟨v1, fun x hx => ?_, v3, v4⟩
      have hxk : ¬ x = k := by
        intro z
        have z1 := v2 x hx
        have z2 := l2 k List.mem_cons_self
        rw [z] at z1
        exact q (z1.symm.trans z2)
      have e8 : sV (sV G 8 k (-1)) 13 p (D 16 k) 8 x = G 8 x := by simp [sV, hxk]
      rw [e8]
      exact v2 x hx
  · obtain ⟨c1, c2, c3, c4, c5, c6, c7, c8, c9, c10⟩ := hCO
    refine ⟨c1, c2, c3, c4, c5, c6, c7, c8, ?_, c10⟩
    have c9 : D 30 0 + pend G D + undone D + B 8 ≤ D 22 0 + D 15 0 := c9
    have h8k := l2 k List.mem_cons_self
    have ep : pend (sV (sV G 8 k (-1)) 13 p (D 16 k)) D = pend G D - 1 := by
      unfold pend
      rw [sm_upd (f := fun k => if 0 ≤ G 8 k then 1 else 0) (j := k) y2 (by omega)]
      · have e8 : sV (sV G 8 k (-1)) 13 p (D 16 k) 8 k = -1 := by simp [sV]
        rw [e8, h8k, if_pos hp.1]
        simp
      · intro i i0 i1 i2
        have e8 : sV (sV G 8 k (-1)) 13 p (D 16 k) 8 i = G 8 i := by simp [sV, i2]
        rw [e8]
    show D 30 0 + pend (sV (sV G 8 k (-1)) 13 p (D 16 k)) D + undone D + (B 8 + 1) ≤ D 22 0 + D 15 0
    omega
theorem b8_b8 {B : Nat → Int} {a b : Int} (h : a + b = 0) : b8 (b8 B a) b = B := by
  funext k
  unfold b8
  by_cases q : k = 8
  · subst q
    simp
    omega
  · simp [q]
/-- the loop of settle -/
theorem s_settleL {p how v : Int} (hh : how = 1 ∨ how = 2) : ∀ (t : List Int) {g : Gh} {V : Mv} {Z : Le} {D : Mv}, RelX p B g V Z D → 0 ≤ p ∧ p < D 1 0 → g.2.1 p = t → okv D v →
    Ens (fun Q => w1_settle_2_L22 Q (t.length + 1) p how v (g.1 13 p + 1) V Z) (fun _ V' Z' => ∃ D' g', Rn (fun Q => w2_settle_2_L22 Q (t.length + 1) p how v (g.1 13 p) D) 0 D' ∧ RelX (-1) B g' V' Z' D' ∧ Ext g.1 V D g'.1 V' D' ∧ Fr V D V' D' ∧ D' 1 0 = D 1 0 ∧ D' 15 0 = D 15 0 ∧ D' 22 0 = D 22 0 ∧ V' 19 0 = V 19 0) := by
  intro t
  induction t with
  | nil =>
    intro g V Z D h hp hl hv Q hQ
    obtain ⟨G, pl, jq, jf⟩ := g
    have hc := caps h
    obtain ⟨hB, hZ, hOK, hOS, hOO, hOT, hOA, hFN, hRC, hDN, hCE, hHA, hGR, hAT, hVA, hAS, hWA, hWN, hHD, hCH, hJO, hLO, hLI, hCO⟩ := id h
    have l1 : Lk D (G 13 p) (pl p) := (hCH p hp.1 hp.2).1
    have hl : pl p = [] := hl
    rw [hl] at l1
    have l1 : G 13 p = -1 := l1
    show w1_settle_2_L22 Q (0 + 1) p how v (G 13 p + 1) V Z
    unfold w1_settle_2_L22
    refine ⟨fun _ => ⟨⟨hp.1, by have := hZ.1.2.2.2.1; omega⟩, fun V1 e1 => ?_⟩, fun z => absurd (by omega) z⟩
    refine hQ _ _ _ ⟨sV D 5 p (-1), (G, pl, jq, jf), ?_, ?_, ?_, ?_, rfl, rfl, rfl, ?_⟩
    · intro Q' hQ'
      show w2_settle_2_L22 Q' (0 + 1) p how v (G 13 p) D
      unfold w2_settle_2_L22
      exact ⟨fun _ => ⟨by simp [ZM]; omega, fun W e => by subst e; exact hQ'⟩, fun z => absurd (by omega) z⟩
    · subst e1
      refine ⟨hB, hZ, hOK, hOS, hOO, hOT, hOA, hFN, hRC, hDN, hCE, hHA, hGR, hAT, hVA, hAS, hWA, hWN, fun o a b c => ?_, fun o a b => ?_, ?_, hLO, hLI, hCO⟩
      · show sV V 3 p 0 3 o = sV D 5 p (-1) 5 o + 1 ∧ G 13 o = sV D 5 p (-1) 5 o
        by_cases q : o = p
        · subst q
          simp [sV, l1]
        · simp [sV, q]
          exact hHD o a b q
      · obtain ⟨v1, v2, v3, v4⟩ := hCH o a b
        exact ⟨Lk.cg (D := D) (by exact Int.le_refl _) (fun _ _ => by rfl) v1, v2, v3, v4⟩
      · obtain ⟨j1, j2, j3, j4, j5, j6, j7, j8, j9⟩ := hJO
        exact ⟨Cj.cg (V := V) (by exact Int.le_refl _) (fun _ _ => by rfl) j1, Cj.cg (V := V) (by exact Int.le_refl _) (fun _ _ => by rfl) j2, j3, j4, j5, j6, j7, j8, JL.cg (V := V) (D := D) (by rfl) j7 (fun j n hj q0 q1 q2 => q2) j9⟩
    · subst e1
      exact Ext.rf
    · subst e1
      exact ⟨fun a q1 q2 => by rw [sV_ne (by omega)], fun a q1 q2 => by rw [sV_ne (by omega)], rfl, rfl⟩
    · subst e1
      rfl
  | cons k t ih =>
    intro g V Z D h hp hl hv Q hQ
    obtain ⟨y1, y2, y3, y4, y5⟩ := rel_pop h hp hl
    have hc := caps h
    have hB := h.1
    have hwn := h.2.2.2.2.2.2.2.2.2.2.2.2.2.2.2.2.2.1
    obtain ⟨r1, r2⟩ := s_react (how := how) (v := v) (k := k) y4 (by show 1 ≤ B 8 + 1; have := hB.2.2.2.2.2.2.2.2; omega) ⟨y2, y3⟩ hh hv
    show w1_settle_2_L22 Q (t.length + 1 + 1) p how v (g.1 13 p + 1) V Z
    unfold w1_settle_2_L22
    refine ⟨fun z => absurd z (by omega), fun _ => ?_⟩
    rw [y1]
    refine r2 _ fun x V1 Z1 ⟨jq', jf', q1, q2, q3⟩ => ?_
    rw [b8_b8 (by omega)] at q1
    have hc1 := caps q1
    obtain ⟨w1, w2, w3⟩ := hwn k y2 y3
    have e27 : V1 27 (k + 1) = D 16 k + 1 := by rw [q3 27 (by omega)]; exact w1
    have hz1 := q1.2.1
    refine ⟨?_, ?_⟩
    · obtain ⟨-, -, -, ⟨zz, -, -, -, -, z27, z28, z29⟩, -⟩ := hz1
      have : V1 28 0 = D 22 0 + 1 := hc1.2.2.2.2.2.2.2.2.2.2.2.2.1
      omega
    · rw [e27]
      have g13 : sV (sV g.1 8 k (-1)) 13 p (D 16 k) 13 p = D 16 k := by simp [sV]
      have d1 : (reD D k how v) 1 0 = D 1 0 := rfl
      have key := ih q1 hp (by simp) (hv.ext q2.1)
      have key : Ens (fun Q => w1_settle_2_L22 Q (t.length + 1) p how v (sV (sV g.1 8 k (-1)) 13 p (D 16 k) 13 p + 1) V1 Z1) _ := key
      rw [g13] at key
      refine key _ fun x2 V2 Z2 ⟨D2, g2, k1, k2, k3, k4, k5, k6, k7, k8⟩ => hQ _ _ _ ⟨D2, g2, ?_, k2, y5.tr (q2.tr k3), Fr.tr (V1 := V1) (D1 := reD D k how v) ⟨fun a a1 a2 => q3 a (by omega), fun a a1 a2 => ?_, rfl, rfl⟩ k4, k5, k6, k7, ?_⟩
      · intro Q' hQ'
        show w2_settle_2_L22 Q' (t.length + 1 + 1) p how v (g.1 13 p) D
        rw [y1]
        unfold w2_settle_2_L22
        refine ⟨fun z => absurd z (by omega), fun _ => r1 _ ⟨by simp [ZM]; omega, ?_⟩⟩
        have k1 : Rn (fun Q => w2_settle_2_L22 Q (t.length + 1) p how v (sV (sV g.1 8 k (-1)) 13 p (D 16 k) 13 p) (reD D k how v)) 0 D2 := k1
        rw [g13] at k1
        exact k1 _ hQ'
      · unfold reD
        rw [sV_ne (by omega), sV_ne (by omega), sV_ne (by omega), sV_ne (by omega), sV_ne (by omega), sV_ne (by omega), sV_ne (by omega)]
      · rw [k8, q3 19 (by omega)]
end SETTLE
