set_option maxRecDepth 100000
/-! the relation behind a step: what is new is shown, what is old stays -/
theorem rel_ext {px px' : Int} {B B' : Nat → Int} {G G' V V' D D' : Mv} {pl pl' : Int → List Int} {jq jq' jf jf' : List Int} {Z Z' : Le} (h : RelX px B (G, pl, jq, jf) V Z D) (hX : Ext G V D G' V' D')
    (sB : rB B') (sZ : rSZ (B' 0) Z' V') (sOK : rOK V' D') (sOS : rOS V' D')
    (sOO : ∀ o, 0 ≤ o → o < D' 1 0 → (o < D 1 0 ∧ D' 6 o = D 6 o ∧ V' 5 o = V 5 o ∧ V' 13 o = V 13 o ∧ V' 14 o = V 14 o) ∨ KOK G' V' D' o)
    (sOT : ∀ o, D 1 0 ≤ o → o < D' 1 0 → TOK V' D' o) (sOA : ∀ o, D 1 0 ≤ o → o < D' 1 0 → BOK G' V' D' o)
    (sFN : ∀ f, V 19 0 ≤ f → f < V' 19 0 → FOK G' V' D' f) (sRC : ∀ r, D 15 0 ≤ r → r < D' 15 0 → COK G' V' D' r) (sDN : rDN D') (sCE : rCE G' V' D')
    (sH0 : V' 50 0 = D' 33 0 ∧ D' 33 0 ≤ 1000) (sHA : ∀ h, D 33 0 ≤ h → h < D' 33 0 → HOK V' D' h)
    (sGR : ∀ g, D 50 0 ≤ g → g < D' 50 0 → GOK G' V' D' g) (sAT : rAT D') (sVA : rVA G' V' D')
    (sAS : ∀ a, 0 ≤ a → a < V' 48 0 → (a < V 48 0 ∧ V' 42 a = V 42 a ∧ D' 49 (G 5 a) = D 49 (G 5 a)) ∨ AOK G' V' D' a)
    (sW0 : V' 28 0 = D' 22 0 + 1) (sWA : ∀ k, D 22 0 ≤ k → k < D' 22 0 → WOK G' V' D' k) (sWN : rWN V' D')
    (sHD : rHD px' G' V' D') (sCH : rCH G' pl' V' D') (sJO : rJO jq' jf' V' D') (sLO : rLO V' D') (sLI : rLI V' D') (sCO : rCO B' G' V' D') : RelX px' B' (G', pl', jq', jf') V' Z' D' := by
  obtain ⟨hB, hZ, hOK, hOS, hOO, hOT, hOA, hFN, hRC, hDN, hCE, hHA, hGR, hAT, hVA, hAS, hWA, hWN, hHD, hCH, hJO, hLO, hLI, hCO⟩ := h
  have x1 := hX.1.1
  have x15 := hX.2.2.1.1
  have x42 := hX.2.2.2.1.1
  have x50 := hX.2.2.2.2.1.1
  have x33 := hX.2.2.2.2.2.1.1
  have x22 := hX.2.2.2.2.2.2.2.2.1.1
  have hr0 := hRC.1
  have hh0 := hHA.2.1
  have hg0 := hGR.1
  have he0 := hGR.2.1
  have hw0 := hWA.2.1
  refine ⟨sB, sZ, sOK, sOS, fun o a b => ?_, fun o a b => ?_, fun o a b => ?_, fun f a b => ?_, ⟨by omega, fun r a b => ?_⟩, sDN, sCE, ⟨sH0.1, by omega, sH0.2, fun k a b => ?_⟩, ⟨by omega, by omega, fun g a b => ?_⟩, sAT, sVA, fun k a b => ?_, ⟨sW0, by omega, fun k a b => ?_⟩, sWN, sHD, sCH, sJO, sLO, sLI, sCO⟩
  · rcases sOO o a b with ⟨q, e6, e5, e13, e14⟩ | q
    · exact (hOO o a q).ext hX a q e6 e5 e13 e14
    · exact q
  · by_cases q : o < D 1 0
    · exact (hOT o a q).ext hX a q
    · exact sOT o (by omega) b
  · by_cases q : o < D 1 0
    · exact (hOA o a q).ext hX (hOK.2.2.2 o a q).2.1 a q
    · exact sOA o (by omega) b
  · by_cases q : f < V 19 0
    · exact (hFN f a q).ext hX a q
    · exact sFN f (by omega) b
  · by_cases q : r < D 15 0
    · exact (hRC.2 r a q).ext hX a q
    · exact sRC r (by omega) b
  · by_cases q : k < D 33 0
    · exact (hHA.2.2.2 k a q).ext hX a q
    · exact sHA k (by omega) b
  · by_cases q : g < D 50 0
    · exact (hGR.2.2 g a q).ext hX a q
    · exact sGR g (by omega) b
  · rcases sAS k a b with ⟨q, e42, e49⟩ | q
    · have u := hAS k a q
      exact u.ext hX a q (hGR.2.2 _ u.1 u.2.1) (hAT.2 _ u.1 u.2.1).1 e42 e49
    · exact q
  · by_cases q : k < D 22 0
    · exact (hWA.2.2 k a q).ext hX a q
    · exact sWA k (by omega) b
/-- memories patched in their rows of objects -/
def pV (V U : Mv) : Mv := fun a => if a < 15 then U a else V a
def pD (D T : Mv) : Mv := fun a => if a < 13 then T a else D a
theorem pV_of {V U : Mv} (h : ∀ a, 15 ≤ a → U a = V a) : U = pV V U := by
  funext a
  unfold pV
  by_cases q : a < 15
  · rw [if_pos q]
  · rw [if_neg q, h a (by omega)]
theorem pD_of {V U : Mv} (h : ∀ a, 13 ≤ a → U a = V a) : U = pD V U := by
  funext a
  unfold pD
  by_cases q : a < 13
  · rw [if_pos q]
  · rw [if_neg q, h a (by omega)]
theorem Lk.cg {D D' : Mv} (h22 : D 22 0 ≤ D' 22 0) : ∀ {l : List Int} {x : Int}, (∀ k ∈ l, D' 16 k = D 16 k) → Lk D x l → Lk D' x l
  | [], _, _, h => h
  | k :: t, _, e, ⟨h1, h2, h3, h4⟩ => ⟨h1, h2, by omega, by rw [e k List.mem_cons_self]; exact Lk.cg h22 (fun q hq => e q (List.mem_cons_of_mem _ hq)) h4⟩
theorem Cj.cg {V V' : Mv} (h33 : V 33 0 ≤ V' 33 0) : ∀ {l : List Int} {x : Int}, (∀ j ∈ l, V' 32 j = V 32 j) → Cj V x l → Cj V' x l
  | [], _, _, h => h
  | k :: t, _, e, ⟨h1, h2, h3, h4⟩ => ⟨h1, h2, by omega, by rw [e k List.mem_cons_self]; exact Cj.cg h33 (fun q hq => e q (List.mem_cons_of_mem _ hq)) h4⟩
theorem JL.cg {V D V' D' : Mv} (e30 : D' 30 0 = D 30 0) : ∀ {l : List Int} {m : Int}, 0 ≤ m → (∀ j n, j ∈ l → 0 ≤ n → n < D 30 0 → JOK V D j n → JOK V' D' j n) → JL V D m l → JL V' D' m l
  | [], m, _, _, h => by
    have h : m = D 30 0 := h
    show m = D' 30 0
    omega
  | j :: t, m, h0, e, ⟨h1, h2⟩ => by
    have hm : m < D 30 0 := by
      have : ∀ {l : List Int} {m : Int}, JL V D m l → m + l.length = D 30 0 := by
        intro l
        induction l with
        | nil => intro m h; have h : m = D 30 0 := h; simp [h]
        | cons a l ih => intro m h; have := ih h.2; simp only [List.length_cons]; omega
      have := this h2
      omega
    exact ⟨e j m List.mem_cons_self h0 hm h1, JL.cg e30 (by omega) (fun q n hq => e q n (List.mem_cons_of_mem _ hq)) h2⟩
theorem JL.len {V D : Mv} : ∀ {l : List Int} {m : Int}, JL V D m l → m + l.length = D 30 0
  | [], m, h => by
    have h : m = D 30 0 := h
    simp [h]
  | j :: t, m, h => by
    have := JL.len h.2
    simp only [List.length_cons]
    omega
section NEWO
variable {px o k gg : Int} {B : Nat → Int} {G V D U T : Mv} {pl : Int → List Int} {jq jf : List Int} {Z : Le}
/-- a new object -/
theorem rel_newO (h : RelX px B (G, pl, jq, jf) V Z D) (ho : o = D 1 0) (ho3 : o < 3000) (hk : 0 ≤ k ∧ k ≤ 5)
    (hU : ∀ a i, a < 15 → a ≠ 7 → i ≠ o → U a i = V a i) (hT : ∀ a i, 2 ≤ a → a < 13 → i ≠ o → T a i = D a i)
    (u7 : U 7 0 = o + 1) (t1 : T 1 0 = o + 1) (u0 : U 0 o = k) (t2 : T 2 o = k) (u3 : U 3 o = 0) (t5 : T 5 o = -1)
    (nS : SOK (pV V U) (pD D T) o) (nK : KOK G (pV V U) (pD D T) o) (nT : TOK (pV V U) (pD D T) o) (nB : BOK (sV (sV G 9 o gg) 13 o (-1)) (pV V U) (pD D T) o) :
    RelX px B (sV (sV G 9 o gg) 13 o (-1), (fun x => if x = o then [] else pl x), jq, jf) (pV V U) Z (pD D T) ∧ Ext G V D (sV (sV G 9 o gg) 13 o (-1)) (pV V U) (pD D T) := by
  obtain ⟨hB, hZ, hOK, hOS, hOO, hOT, hOA, hFN, hRC, hDN, hCE, hHA, hGR, hAT, hVA, hAS, hWA, hWN, hHD, hCH, hJO, hLO, hLI, hCO⟩ := id h
  have hX : Ext G V D (sV (sV G 9 o gg) 13 o (-1)) (pV V U) (pD D T) := by
    refine ⟨⟨?_, ?_, ?_, ?_, ?_, ?_, ?_, ?_, ?_, ?_, ?_, ?_, ?_, fun i a b => ⟨fun _ _ => ⟨?_, ?_⟩, fun _ => ⟨?_, ?_⟩⟩⟩, ⟨Int.le_refl _, ag.rf, ag.rf, ag.rf, ag.rf, ag.rf⟩, ⟨Int.le_refl _, ag.rf, ag.rf, Int.le_refl _, ag.rf⟩, ⟨Int.le_refl _, ag.rf, ag.rf, ag.rf, fun _ _ _ _ => rfl⟩, ⟨Int.le_refl _, ag.rf, ag.rf, ag.rf, ag.rf, ag.rf, ag.rf, ag.rf, ag.rf, ag.rf⟩, ⟨Int.le_refl _, ag.rf, ag.rf, ag.rf⟩, ⟨Int.le_refl _, ag.rf, ag.rf, ag.rf, ag.rf, ag.rf, ag.rf⟩, ⟨Int.le_refl _, ag.rf, fun _ _ _ _ => rfl⟩, ⟨Int.le_refl _, ag.rf, ag.rf, ag.rf, ag.rf, ag.rf, ag.rf, ag.rf, ag.rf, ag.rf, ag.rf⟩, ⟨Int.le_refl _, ag.rf, ag.rf, ag.rf, ag.rf, ag.rf, ag.rf⟩⟩
    · show D 1 0 ≤ T 1 0
      omega
    · exact fun i a b => hT 2 i (by decide) (by decide) (by omega)
    · exact fun i a b => hT 8 i (by decide) (by decide) (by omega)
    · exact fun i a b => hT 9 i (by decide) (by decide) (by omega)
    · exact fun i a b => hT 10 i (by decide) (by decide) (by omega)
    · exact fun i a b => hT 11 i (by decide) (by decide) (by omega)
    · exact fun i a b => hT 12 i (by decide) (by decide) (by omega)
    · exact fun i a b => hU 8 i (by decide) (by decide) (by omega)
    · exact fun i a b => hU 9 i (by decide) (by decide) (by omega)
    · exact fun i a b => hU 10 i (by decide) (by decide) (by omega)
    · exact fun i a b => hU 11 i (by decide) (by decide) (by omega)
    · exact fun i a b => hU 12 i (by decide) (by decide) (by omega)
    · intro i a b
      show sV (sV G 9 o gg) 13 o (-1) 9 i = G 9 i
      have : ¬ i = o := by omega
      simp [sV, this]
    · exact hT 6 i (by decide) (by decide) (by omega)
    · exact hU 5 i (by decide) (by decide) (by omega)
    · exact hU 1 i (by decide) (by decide) (by omega)
    · exact hU 2 i (by decide) (by decide) (by omega)
  refine ⟨rel_ext h hX hB hZ ?_ ?_ ?_ ?_ ?_ (fun f a b => absurd a (Int.not_le.mpr b)) (fun f a b => absurd a (Int.not_le.mpr b)) hDN hCE ⟨hHA.1, hHA.2.2.1⟩ (fun f a b => absurd a (Int.not_le.mpr b)) (fun f a b => absurd a (Int.not_le.mpr b)) hAT ?_ (fun a q1 q2 => Or.inl ⟨q2, rfl, rfl⟩) hWA.1 (fun f a b => absurd a (Int.not_le.mpr b)) hWN ?_ ?_ ?_ hLO ?_ ?_, hX⟩
  · refine ⟨?_, ?_, ?_, fun i a b => ?_⟩
    · show U 7 0 = T 1 0
      omega
    · show 0 ≤ T 1 0
      have := hOK.2.1
      omega
    · show T 1 0 ≤ 3000
      omega
    · have b : i < T 1 0 := b
      show U 0 i = T 2 i ∧ 0 ≤ T 2 i ∧ T 2 i ≤ 5
      by_cases q : i = o
      · subst q
        rw [u0, t2]
        exact ⟨rfl, hk⟩
      · rw [hU 0 i (by decide) (by decide) q, hT 2 i (by decide) (by decide) q]
        exact hOK.2.2.2 i a (by omega)
  · refine ⟨fun i a => ?_, fun i a b => ?_⟩
    · have a : T 1 0 ≤ i := a
      show U 1 i = 0 ∧ U 6 i = 0 ∧ T 7 i = 0
      rw [hU 1 i (by decide) (by decide) (by omega), hU 6 i (by decide) (by decide) (by omega), hT 7 i (by decide) (by decide) (by omega)]
      exact hOS.1 i (by omega)
    · have b : i < T 1 0 := b
      by_cases q : i = o
      · subst q
        exact nS
      · intro z
        have z : T 2 i = 0 := z
        show U 1 i = T 3 i ∧ 0 ≤ T 3 i ∧ T 3 i ≤ 2 ∧ (T 3 i = 0 → T 4 i = -1) ∧ (T 3 i ≠ 0 → U 2 i = T 4 i) ∧ okv (pD D T) (T 4 i) ∧ U 6 i = T 7 i ∧ bz (T 7 i)
        rw [hT 2 i (by decide) (by decide) q] at z
        rw [hU 1 i (by decide) (by decide) q, hU 2 i (by decide) (by decide) q, hU 6 i (by decide) (by decide) q, hT 3 i (by decide) (by decide) q, hT 4 i (by decide) (by decide) q, hT 7 i (by decide) (by decide) q]
        obtain ⟨v1, v2, v3, v4, v5, v6, v7, v8⟩ := hOS.2 i a (by omega) z
        exact ⟨v1, v2, v3, v4, v5, v6.ext hX.1, v7, v8⟩
  · intro i a b
    have b : i < T 1 0 := b
    by_cases q : i = o
    · subst q
      exact Or.inr nK
    · exact Or.inl ⟨by omega, hT 6 i (by decide) (by decide) q, hU 5 i (by decide) (by decide) q, hU 13 i (by decide) (by decide) q, hU 14 i (by decide) (by decide) q⟩
  · intro i a b
    have b : i < T 1 0 := b
    have q : i = o := by omega
    subst q
    exact nT
  · intro i a b
    have b : i < T 1 0 := b
    have q : i = o := by omega
    subst q
    exact nB
  · intro g a b c i d e
    obtain ⟨v1, v2⟩ := hVA g a b c i d e
    exact ⟨v1, v2.ext hX.1⟩
  · intro i a b c
    have b : i < T 1 0 := b
    show U 3 i = T 5 i + 1 ∧ sV (sV G 9 o gg) 13 o (-1) 13 i = T 5 i
    by_cases q : i = o
    · subst q
      rw [u3, t5]
      exact ⟨rfl, by simp [sV]⟩
    · rw [hU 3 i (by decide) (by decide) q, hT 5 i (by decide) (by decide) q]
      have := hHD i a (by omega) c
      exact ⟨this.1, by simp [sV, q]; exact this.2⟩
  · intro i a b
    have b : i < T 1 0 := b
    by_cases q : i = o
    · subst q
      simp [Lk, sV]
    · obtain ⟨v1, v2, v3, v4⟩ := hCH i a (by omega)
      have e13 : sV (sV G 9 o gg) 13 o (-1) 13 i = G 13 i := by simp [sV, q]
      show Lk (pD D T) (sV (sV G 9 o gg) 13 o (-1) 13 i) (if i = o then [] else pl i) ∧ (∀ k ∈ (if i = o then [] else pl i), G 8 k = i) ∧ (if i = o then [] else pl i).Nodup ∧ ∀ h : (if i = o then [] else pl i) ≠ [], U 4 i = (if i = o then [] else pl i).getLast h + 1
      rw [e13, hU 4 i (by decide) (by decide) q]
      simp only [if_neg q]
      exact ⟨Lk.cg (D := D) (D' := pD D T) (Int.le_refl _) (fun _ _ => rfl) v1, v2, v3, v4⟩
  · obtain ⟨j1, j2, j3, j4, j5, j6, j7, j8, j9⟩ := hJO
    exact ⟨Cj.cg (V := V) (V' := pV V U) (Int.le_refl _) (fun _ _ => rfl) j1, Cj.cg (V := V) (V' := pV V U) (Int.le_refl _) (fun _ _ => rfl) j2, j3, j4, j5, j6, j7, j8, JL.cg (V := V) (D := D) (V' := pV V U) (D' := pD D T) rfl j7 (fun j n hj q0 q1 q2 => q2.ext hX q0 q1 rfl rfl rfl) j9⟩
  · obtain ⟨v1, v2, v3, v4⟩ := hLI
    exact ⟨v1, v2, v3, fun i a b => ⟨(v4 i a b).1, (v4 i a b).2.ext hX.1⟩⟩
  · obtain ⟨c1, c2, c3, c4, c5, c6, c7, c8, c9, c10⟩ := hCO
    refine ⟨?_, ?_, ?_, ?_, ?_, ?_, ?_, c8, c9, c10⟩
    · show D 15 0 ≤ T 1 0 + B 1
      omega
    · show D 22 0 + remn D + D 38 0 ≤ T 1 0 + B 2
      omega
    · show V 19 0 + 2 * D 38 0 ≤ 2 * D 15 0 + T 1 0 + B 3
      omega
    · exact c4
    · show D 42 0 + D 38 0 ≤ T 1 0 + B 5
      omega
    · show V 39 0 + D 38 0 ≤ 2 * T 1 0 + B 6
      omega
    · show D 50 0 ≤ T 1 0
      omega
end NEWO
