set_option maxRecDepth 100000
/-! new promises; jobs are put behind the others -/
def b8 (B : Nat → Int) (n : Int) : Nat → Int := fun k => if k = 8 then B 8 + n else B k
theorem rB.b8 {B : Nat → Int} (h : rB B) {n : Int} (hn : 0 ≤ B 8 + n) : rB (b8 B n) := by
  obtain ⟨a, b, c, d, e, f, g, i, j⟩ := h
  exact ⟨a, b, c, d, e, f, g, i, hn⟩
theorem sV_i {V : Mv} {k a : Nat} {i j v : Int} (h : i ≠ j) : sV V k j v a i = V a i := by
  unfold sV
  by_cases q : a = k
  · simp [q, h]
  · simp [q]
def noP (o : Int) (g : Gh) : Gh := (sV (sV g.1 9 o 0) 13 o (-1), (fun x => if x = o then [] else g.2.1 x), g.2.2.1, g.2.2.2)
theorem rel_newP {px k : Int} {B : Nat → Int} {g : Gh} {V D : Mv} {Z : Le} (h : RelX px B g V Z D) (ho3 : D 1 0 < 3000) (hk : k = 0 ∨ k = 2) :
    RelX px B (noP (D 1 0) g) (nV V (D 1 0) k) Z (nD D (D 1 0) k) ∧ Ext g.1 V D (noP (D 1 0) g).1 (nV V (D 1 0) k) (nD D (D 1 0) k) := by
  obtain ⟨G, pl, jq, jf⟩ := g
  have hc := caps h
  have hOS := h.2.2.2.1
  have e1 : nV V (D 1 0) k = pV V (nV V (D 1 0) k) := pV_of fun a ha => by
    unfold nV
    rw [sV_ne (by omega), sV_ne (by omega), sV_ne (by omega), sV_ne (by omega)]
  have e2 : nD D (D 1 0) k = pD D (nD D (D 1 0) k) := pD_of fun a ha => by
    unfold nD
    rw [sV_ne (by omega), sV_ne (by omega), sV_ne (by omega), sV_ne (by omega), sV_ne (by omega), sV_ne (by omega)]
  obtain ⟨f1, f2, f3⟩ := hOS.1 (D 1 0) (Int.le_refl _)
  have key := rel_newO (o := D 1 0) (k := k) (gg := 0) (U := nV V (D 1 0) k) (T := nD D (D 1 0) k) h rfl ho3 (by omega)
    (fun a i q1 q2 q3 => by
      unfold nV
      rw [sV_ne q2, sV_i q3, sV_i q3, sV_i q3])
    (fun a i q1 q2 q3 => by
      unfold nD
      rw [sV_i q3, sV_i q3, sV_i q3, sV_i q3, sV_i q3, sV_ne (by omega)])
    (by simp [nV, sV]) (by simp [nD, sV]) (by simp [nV, sV]) (by simp [nD, sV]) (by simp [nV, sV]) (by simp [nD, sV])
    (by
      rw [← e1, ← e2]
      intro z
      have v1 : nV V (D 1 0) k 1 (D 1 0) = 0 := f1
      have v6 : nV V (D 1 0) k 6 (D 1 0) = 0 := f2
      have w7 : nD D (D 1 0) k 7 (D 1 0) = 0 := f3
      have w3 : nD D (D 1 0) k 3 (D 1 0) = 0 := by simp [nD, sV]
      have w4 : nD D (D 1 0) k 4 (D 1 0) = -1 := by simp [nD, sV]
      rw [v1, v6, w7, w3, w4]
      refine ⟨rfl, by omega, by omega, fun _ => rfl, fun q => absurd rfl q, ?_, rfl, Or.inl rfl⟩
      show -2 - (D 1 0 + 1) < -1
      omega)
    (by
      rw [← e1, ← e2]
      have w6 : nD D (D 1 0) k 6 (D 1 0) = -1 := by simp [nD, sV]
      have w2 : nD D (D 1 0) k 2 (D 1 0) = k := by simp [nD, sV]
      have v5 : nV V (D 1 0) k 5 (D 1 0) = -1 := by simp [nV, sV]
      refine ⟨fun _ => Or.inl ⟨w6, v5⟩, fun z => ?_⟩
      rw [w2] at z
      omega)
    (by
      rw [← e1, ← e2]
      have w2 : nD D (D 1 0) k 2 (D 1 0) = k := by simp [nD, sV]
      intro z
      rw [w2] at z
      omega)
    (by
      rw [← e1, ← e2]
      have w2 : nD D (D 1 0) k 2 (D 1 0) = k := by simp [nD, sV]
      refine ⟨fun z => ?_, fun z => ?_, fun z => ?_⟩ <;> (rw [w2] at z; omega))
  rw [← e1, ← e2] at key
  exact key
/-- the desk's queue -/
def joC (jq jf : List Int) (V : Mv) : Prop := Cj V (V 34 0) jq ∧ Cj V (V 37 0) jf ∧ (jq ++ jf).Nodup ∧ V 33 0 = 1 + jq.length + jf.length ∧ V 36 0 = jq.length ∧ ∀ h : jq ≠ [], V 35 0 = jq.getLast h
theorem Cj.snoc {V V' : Mv} {j : Int} (h33 : V 33 0 ≤ V' 33 0) (hj1 : 1 ≤ j) (hj2 : j < V' 33 0) (hj0 : V' 32 j = 0) : ∀ {l : List Int} {x : Int} (hne : l ≠ []), Cj V x l → l.Nodup → (∀ q ∈ l, q ≠ l.getLast hne → V' 32 q = V 32 q) → V' 32 (l.getLast hne) = j → Cj V' x (l ++ [j])
  | [k], x, _, ⟨h1, h2, h3, _⟩, _, _, e => ⟨h1, h2, by omega, e, hj1, hj2, hj0⟩
  | k :: k2 :: t, x, _, ⟨h1, h2, h3, h4⟩, hnd, he, e => by
    have hnd2 := List.nodup_cons.mp hnd
    have hk : k ≠ (k :: k2 :: t).getLast (by simp) := by
      intro q
      apply hnd2.1
      rw [List.getLast_cons (by simp : k2 :: t ≠ [])] at q
      rw [q]
      exact List.getLast_mem _
    refine ⟨h1, h2, by omega, ?_⟩
    rw [he k List.mem_cons_self hk]
    refine Cj.snoc h33 hj1 hj2 hj0 (by simp) h4 hnd2.2 (fun q hq hq2 => he q (List.mem_cons_of_mem _ hq) ?_) ?_
    · rw [List.getLast_cons (by simp : k2 :: t ≠ [])]
      exact hq2
    · rw [List.getLast_cons (by simp : k2 :: t ≠ [])] at e
      exact e
theorem Cj.mem {V : Mv} : ∀ {l : List Int} {x : Int}, Cj V x l → ∀ q ∈ l, 1 ≤ q ∧ q < V 33 0
  | [], _, _, _, h => by cases h
  | k :: t, _, ⟨_, h2, h3, h4⟩, q, hq => by
    rcases List.mem_cons.mp hq with h | h
    · subst h
      exact ⟨h2, h3⟩
    · exact Cj.mem h4 q h
theorem Cj.nil {V : Mv} {l : List Int} (h : Cj V 0 l) : l = [] := by
  cases l with
  | nil => rfl
  | cons k t =>
    obtain ⟨h1, h2, -⟩ := h
    omega
section JOBS
variable {n : Int} {V : Mv} {Z : Le}
/-- the end of 'enqueue' -/
def enP (n : Int) (jq : List Int) (V : Mv) (what how v : Int) (V' : Mv) (Z' : Le) : Prop := rSZ n Z' V' ∧ (∀ r, r < 29 ∨ 37 < r → V' r = V r) ∧ ∃ j jf', joC (jq ++ [j]) jf' V' ∧ V' 29 j = what ∧ V' 30 j = how ∧ V' 31 j = v ∧ ∀ q ∈ jq, V' 29 q = V 29 q ∧ V' 30 q = V 30 q ∧ V' 31 q = V 31 q
theorem c_enJ {U : Mv} {what how v j : Int} {jq jf' : List Int} {Q : Po} (h : rSZ n Z U) (h1 : ∀ r, r < 29 ∨ 37 < r → U r = V r) (hcj : Cj U (U 34 0) jq) (hcf : Cj U (U 37 0) jf') (hnd : (jq ++ (j :: jf')).Nodup) (hlen : U 33 0 = 2 + jq.length + jf'.length) (h36 : U 36 0 = jq.length) (hla : ∀ h : jq ≠ [], U 35 0 = jq.getLast h) (hj1 : 1 ≤ j) (hj2 : j < U 33 0) (hb : U 36 0 ≤ 30000)
    (hold : ∀ q ∈ jq, U 29 q = V 29 q ∧ U 30 q = V 30 q ∧ U 31 q = V 31 q) (hQ : ∀ x V' Z', enP n jq V what how v V' Z' → Q x V' Z') : w1_enqueue_J113 what how v j U Z Q := by
  obtain ⟨a0, a1, a2, a3, ⟨a4, b1, b2, b3, b4, b5⟩, a5⟩ := id h
  have hjq : j ∉ jq := fun q => (List.nodup_append.mp hnd).2.2 j q j List.mem_cons_self rfl
  have hjf : j ∉ jf' := (List.nodup_cons.mp (List.nodup_append.mp hnd).2.1).1
  unfold w1_enqueue_J113
  refine ⟨by omega, fun V1 e1 => ?_⟩
  refine ⟨by omega, fun V2 e2 => ?_⟩
  refine ⟨by omega, fun V3 e3 => ?_⟩
  refine ⟨by omega, fun V4 e4 => ?_⟩
  have e34 : V4 34 0 = U 34 0 := by subst e4; subst e3; subst e2; subst e1; rfl
  have e35 : V4 35 0 = U 35 0 := by subst e4; subst e3; subst e2; subst e1; rfl
  have e36 : V4 36 0 = U 36 0 := by subst e4; subst e3; subst e2; subst e1; rfl
  have e33 : V4 33 0 = U 33 0 := by subst e4; subst e3; subst e2; subst e1; rfl
  have f32 : ∀ q, q ≠ j → V4 32 q = U 32 q := by
    intro q hq
    subst e4; subst e3; subst e2; subst e1
    simp [sV, hq]
  have f32j : V4 32 j = 0 := by
    subst e4
    simp [sV]
  have fnew : V4 29 j = what ∧ V4 30 j = how ∧ V4 31 j = v := by
    subst e4; subst e3; subst e2; subst e1
    simp [sV]
  have fold : ∀ q, q ≠ j → V4 29 q = U 29 q ∧ V4 30 q = U 30 q ∧ V4 31 q = U 31 q := by
    intro q hq
    subst e4; subst e3; subst e2; subst e1
    simp [sV, hq]
  have hrow : ∀ r, r < 29 ∨ 32 < r → V4 r = U r := by
    intro r hr
    subst e4; subst e3; subst e2; subst e1
    rw [sV_ne (by omega), sV_ne (by omega), sV_ne (by omega), sV_ne (by omega)]
  have hsz : rSZ n Z V4 := by
    subst e4; subst e3; subst e2; subst e1
    exact h
  have hnd2 : ((jq ++ [j]) ++ jf').Nodup := by rw [List.append_assoc]; exact hnd
  have fin : ∀ V5 : Mv, (∀ r, r ≠ 34 → r ≠ 32 → V5 r = V4 r) → Cj V5 (V5 34 0) (jq ++ [j]) → Cj V5 (U 37 0) jf' → w1_enqueue_J172 j V5 Z Q := by
    intro V5 g1 g2 g3
    have g33 : V5 33 = V4 33 := g1 33 (by decide) (by decide)
    have g36 : V5 36 = V4 36 := g1 36 (by decide) (by decide)
    have g37 : V5 37 0 = U 37 0 := by rw [g1 37 (by decide) (by decide), hrow 37 (by omega)]
    unfold w1_enqueue_J172
    intro V6 e6
    have h36' : V6 36 0 = U 36 0 := by
      subst e6
      show V5 36 0 = U 36 0
      rw [g36, e36]
    refine ⟨by unfold inR; omega, fun V7 e7 => ?_⟩
    refine hQ _ _ _ ⟨?_, fun r hr => ?_, j, jf', ⟨?_, ?_, hnd2, ?_, ?_, fun _ => ?_⟩, ?_, ?_, ?_, fun q hq => ?_⟩
    · subst e7; subst e6
      obtain ⟨c0, c1, c2, c3, ⟨c4, d1, d2, d3, d4, d5⟩, c5, c6, c7, c8⟩ := hsz
      have x19 : V5 19 = V4 19 := g1 19 (by decide) (by decide)
      have x21 : V5 21 = V4 21 := g1 21 (by decide) (by decide)
      have x28 : V5 28 = V4 28 := g1 28 (by decide) (by decide)
      have x39 : V5 39 = V4 39 := g1 39 (by decide) (by decide)
      have x48 : V5 48 = V4 48 := g1 48 (by decide) (by decide)
      have x53 : V5 53 = V4 53 := g1 53 (by decide) (by decide)
      refine ⟨c0, ?_, ?_, ?_, ?_, ?_, ?_, ?_, c8⟩
      · show _ ∧ _ ∧ _ ∧ _ ∧ 0 ≤ V5 19 0 ∧ V5 19 0 ≤ _
        rw [x19]; exact c1
      · show _ ∧ 0 ≤ V5 21 0 ∧ V5 21 0 ≤ _
        rw [x21]; exact c2
      · show _ ∧ _ ∧ _ ∧ _ ∧ _ ∧ _ ∧ 1 ≤ V5 28 0 ∧ V5 28 0 ≤ _
        rw [x28]; exact c3
      · show _ ∧ _ ∧ _ ∧ _ ∧ 1 ≤ V5 33 0 ∧ V5 33 0 ≤ _
        rw [g33]; exact ⟨c4, d1, d2, d3, d4, d5⟩
      · show _ ∧ 0 ≤ V5 39 0 ∧ V5 39 0 ≤ _
        rw [x39]; exact c5
      · show _ ∧ _ ∧ _ ∧ _ ∧ _ ∧ _ ∧ 0 ≤ V5 48 0 ∧ V5 48 0 ≤ _
        rw [x48]; exact c6
      · show _ ∧ _ ∧ 0 ≤ V5 53 0 ∧ V5 53 0 ≤ _
        rw [x53]; exact c7
    · subst e7; subst e6
      rw [sV_ne (by omega), sV_ne (by omega), g1 r (by omega) (by omega), hrow r (by omega), h1 r hr]
    · subst e7; subst e6
      exact Cj.cg (V := V5) (by exact Int.le_refl _) (fun _ _ => by rfl) g2
    · subst e7; subst e6
      show Cj _ (V5 37 0) jf'
      rw [g37]
      exact Cj.cg (V := V5) (by exact Int.le_refl _) (fun _ _ => by rfl) g3
    · subst e7; subst e6
      show V5 33 0 = _
      rw [g33, e33, hlen]
      simp only [List.length_append, List.length_cons, List.length_nil]
      omega
    · subst e7
      simp only [sV, if_true, List.length_append, List.length_cons, List.length_nil]
      omega
    · subst e7; subst e6
      show j = (jq ++ [j]).getLast _
      simp
    · subst e7; subst e6
      show V5 29 j = what
      rw [g1 29 (by decide) (by decide)]; exact fnew.1
    · subst e7; subst e6
      show V5 30 j = how
      rw [g1 30 (by decide) (by decide)]; exact fnew.2.1
    · subst e7; subst e6
      show V5 31 j = v
      rw [g1 31 (by decide) (by decide)]; exact fnew.2.2
    · subst e7; subst e6
      show V5 29 q = V 29 q ∧ V5 30 q = V 30 q ∧ V5 31 q = V 31 q
      rw [g1 29 (by decide) (by decide), g1 30 (by decide) (by decide), g1 31 (by decide) (by decide)]
      have hne : q ≠ j := fun z => hjq (z ▸ hq)
      obtain ⟨y1, y2, y3⟩ := fold q hne
      obtain ⟨x1, x2, x3⟩ := hold q hq
      exact ⟨y1.trans x1, y2.trans x2, y3.trans x3⟩
  have hcf4 : Cj V4 (U 37 0) jf' := Cj.cg (by omega) (fun q hq => f32 q (fun z => hjf (z ▸ hq))) hcf
  refine ⟨fun hc => fun V5 e5 => ?_, fun hc => ⟨?_, fun V5 e5 => ?_⟩⟩
  · rw [e34] at hc
    rw [hc] at hcj
    have hnil := hcj.nil
    subst hnil
    refine fin V5 (fun r r1 r2 => by subst e5; rw [sV_ne r1]) ?_ ?_
    · subst e5
      show Cj _ j [j]
      exact ⟨rfl, hj1, by show j < V4 33 0; omega, f32j⟩
    · subst e5
      exact Cj.cg (V := V4) (by exact Int.le_refl _) (fun _ _ => by rfl) hcf4
  · have hne : jq ≠ [] := by
      intro z
      subst z
      exact hc (e34.trans hcj)
    have := hcj.mem _ (List.getLast_mem hne)
    rw [e35, hla hne]
    omega
  · have hne : jq ≠ [] := by
      intro z
      subst z
      exact hc (e34.trans hcj)
    have hl := hla hne
    have hlm := List.getLast_mem hne
    have hlj : jq.getLast hne ≠ j := fun z => hjq (z ▸ hlm)
    refine fin V5 (fun r r1 r2 => by subst e5; rw [sV_ne r2]) ?_ ?_
    · subst e5
      show Cj _ (V4 34 0) (jq ++ [j])
      rw [e34]
      refine Cj.snoc (V := U) ?_ hj1 ?_ ?_ hne hcj (List.nodup_append.mp hnd).1 (fun q hq hq2 => ?_) ?_
      · show U 33 0 ≤ V4 33 0
        omega
      · show j < V4 33 0
        omega
      · have : ¬ j = V4 35 0 := by rw [e35, hl]; exact fun z => hlj z.symm
        simp [sV, this, f32j]
      · have : ¬ q = V4 35 0 := by rw [e35, hl]; exact hq2
        simp [sV, this]
        exact f32 q (fun z => hjq (z ▸ hq))
      · rw [e35, hl]
        simp [sV]
    · subst e5
      refine Cj.cg (V := V4) (by exact Int.le_refl _) (fun q hq => ?_) hcf4
      have : ¬ q = V4 35 0 := by
        rw [e35, hl]
        intro z
        exact (List.nodup_append.mp hnd).2.2 _ hlm q (List.mem_cons_of_mem _ hq) z.symm
      simp [sV, this]
theorem c_enqueue {what how v : Int} {jq jf : List Int} (h : rSZ n Z V) (hn : n ≤ 64) (hj : joC jq jf V) (hb : jq.length ≤ 30000) : Ens (w1_enqueue what how v V Z) (fun _ => enP n jq V what how v) := by
  intro Q hQ
  obtain ⟨h1, h2, h3, h4, h5, h6⟩ := hj
  obtain ⟨a0, a1, a2, a3, ⟨a4, b1, b2, b3, b4, b5⟩, a5⟩ := id h
  unfold w1_enqueue
  refine ⟨fun hc => ?_, fun hc => ?_⟩
  · rw [hc] at h2
    have hnil := h2.nil
    subst hnil
    have hlen : V 33 0 = 1 + jq.length := by simpa using h4
    have hjq : ∀ q ∈ jq, q ≠ V 33 0 := fun q hq z => by
      have := h1.mem q hq
      omega
    have mk : ∀ (U : Mv) (Z' : Le), rSZ n Z' U → U 33 0 < (Z' 29 : Int) → (∀ r, r < 29 ∨ 32 < r → U r = V r) → ag (V 33 0) (V 29) (U 29) ∧ ag (V 33 0) (V 30) (U 30) ∧ ag (V 33 0) (V 31) (U 31) ∧ ag (V 33 0) (V 32) (U 32) → w1_enqueue_J97 what how v U Z' Q := by
      intro U Z' k1 k2 k3 ⟨k4, k5, k6, k7⟩
      have e33 : U 33 0 = V 33 0 := by rw [k3 33 (by omega)]
      unfold w1_enqueue_J97
      refine ⟨by unfold inR; omega, fun V1 e1 => ?_⟩
      rw [e33]
      have hm := fun q hq => h1.mem (V := V) q hq
      refine c_enJ (jq := jq) (jf' := []) (n := n) ?_ ?_ ?_ ?_ ?_ ?_ ?_ ?_ (by omega) ?_ ?_ ?_ hQ
      · subst e1
        obtain ⟨c0, c1, c2, c3, ⟨c4, d1, d2, d3, d4, d5⟩, c5⟩ := k1
        refine ⟨c0, c1, c2, c3, ⟨c4, d1, d2, d3, ?_, ?_⟩, c5⟩
        · show (1 : Int) ≤ U 33 0 + 1
          omega
        · show U 33 0 + 1 ≤ (Z' 29 : Int)
          omega
      · intro r hr
        subst e1
        rw [sV_ne (by omega), k3 r (by omega)]
      · subst e1
        show Cj _ (U 34 0) jq
        rw [k3 34 (by omega)]
        refine Cj.cg (V := V) ?_ (fun q hq => ?_) h1
        · show V 33 0 ≤ U 33 0 + 1
          omega
        · show U 32 q = V 32 q
          exact k7 q (by have := hm q hq; omega) (hm q hq).2
      · subst e1
        show U 37 0 = 0
        rw [k3 37 (by omega)]
        exact hc
      · rw [List.append_nil] at h3
        refine List.nodup_append.mpr ⟨h3, by simp, fun a ha b hb => ?_⟩
        rw [List.mem_singleton.mp hb]
        exact hjq a ha
      · subst e1
        simp only [sV, if_true, List.length_nil]
        omega
      · subst e1
        show U 36 0 = _
        rw [k3 36 (by omega)]
        exact h5
      · intro z
        subst e1
        show U 35 0 = _
        rw [k3 35 (by omega)]
        exact h6 z
      · subst e1
        simp only [sV, if_true]
        omega
      · subst e1
        show U 36 0 ≤ 30000
        rw [k3 36 (by omega), h5]
        omega
      · intro q hq
        subst e1
        have := hm q hq
        exact ⟨k4 q (by omega) this.2, k5 q (by omega) this.2, k6 q (by omega) this.2⟩
    refine ⟨fun hc2 => ⟨by unfold inR; omega, ?_⟩, fun hc2 => ?_⟩
    · exact gr_jo h hn hc2 (by omega) fun U Z' k1 k2 k3 k4 => mk U Z' k1 k2 k3 k4
    · exact mk V Z h (by omega) (fun _ _ => rfl) ⟨ag.rf, ag.rf, ag.rf, ag.rf⟩
  · cases jf with
    | nil => exact absurd h2 hc
    | cons j jf' =>
      obtain ⟨g1, g2, g3, g4⟩ := h2
      rw [g1]
      refine ⟨by omega, fun V1 e1 => ?_⟩
      refine c_enJ (V := V) (jq := jq) (jf' := jf') (n := n) ?_ ?_ ?_ ?_ h3 ?_ ?_ ?_ g2 ?_ ?_ ?_ hQ
      · subst e1
        exact h
      · intro r hr
        subst e1
        rw [sV_ne (by omega)]
      · subst e1
        exact Cj.cg (V := V) (by exact Int.le_refl _) (fun _ _ => by rfl) h1
      · subst e1
        show Cj _ (V 32 j) jf'
        exact Cj.cg (V := V) (by exact Int.le_refl _) (fun _ _ => by rfl) g4
      · subst e1
        show V 33 0 = _
        rw [h4]
        simp only [List.length_cons]
        omega
      · subst e1
        exact h5
      · subst e1
        exact h6
      · subst e1
        exact g3
      · subst e1
        show V 36 0 ≤ 30000
        rw [h5]
        omega
      · intro q hq
        subst e1
        exact ⟨rfl, rfl, rfl⟩
end JOBS
