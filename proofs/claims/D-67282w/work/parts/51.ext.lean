set_option maxRecDepth 100000
/-! what stays: the old entries of tables that only grow -/
def ag (c : Int) (f f' : Int → Int) : Prop := ∀ i, 0 ≤ i → i < c → f' i = f i
theorem ag.rf {c : Int} {f : Int → Int} : ag c f f := fun _ _ _ => rfl
theorem ag.tr {c c' : Int} {f f' f'' : Int → Int} (h1 : ag c f f') (h2 : ag c' f' f'') (hc : c ≤ c') : ag c f f'' := fun i a b => (h2 i a (by omega)).trans (h1 i a b)
/-- objects: kinds; data of thenables, arrays ..; kept functions of promises -/
def eO (G V D G' V' D' : Mv) : Prop := D 1 0 ≤ D' 1 0 ∧ ag (D 1 0) (D 2) (D' 2) ∧ ag (D 1 0) (D 8) (D' 8) ∧ ag (D 1 0) (D 9) (D' 9) ∧ ag (D 1 0) (D 10) (D' 10) ∧ ag (D 1 0) (D 11) (D' 11) ∧ ag (D 1 0) (D 12) (D' 12) ∧ ag (D 1 0) (V 8) (V' 8) ∧ ag (D 1 0) (V 9) (V' 9) ∧ ag (D 1 0) (V 10) (V' 10) ∧ ag (D 1 0) (V 11) (V' 11) ∧ ag (D 1 0) (V 12) (V' 12) ∧ ag (D 1 0) (G 9) (G' 9) ∧
  ∀ o, 0 ≤ o → o < D 1 0 → (D 2 o = 0 → 0 ≤ D 6 o → D' 6 o = D 6 o ∧ V' 5 o = V 5 o) ∧ (3 ≤ D 2 o → V' 1 o = V 1 o ∧ V' 2 o = V 2 o)
def eF (G V G' V' : Mv) : Prop := V 19 0 ≤ V' 19 0 ∧ ag (V 19 0) (V 15) (V' 15) ∧ ag (V 19 0) (V 16) (V' 16) ∧ ag (V 19 0) (V 17) (V' 17) ∧ ag (V 19 0) (V 18) (V' 18) ∧ ag (V 19 0) (G 0) (G' 0)
def eR (G V D G' V' D' : Mv) : Prop := D 15 0 ≤ D' 15 0 ∧ ag (D 15 0) (D 13) (D' 13) ∧ ag (D 15 0) (G 1) (G' 1) ∧ V 21 0 ≤ V' 21 0 ∧ ag (V 21 0) (G 2) (G' 2)
def eE (G D G' D' : Mv) : Prop := D 42 0 ≤ D' 42 0 ∧ ag (D 42 0) (D 40) (D' 40) ∧ ag (D 42 0) (G 7) (G' 7) ∧ ag (D 42 0) (G 10) (G' 10) ∧ ∀ e, 0 ≤ e → e < D 42 0 → G 7 e ≠ 0 → D' 39 e = D 39 e
def eG (G D G' D' : Mv) : Prop := D 50 0 ≤ D' 50 0 ∧ ag (D 50 0) (D 43) (D' 43) ∧ ag (D 50 0) (D 44) (D' 44) ∧ ag (D 50 0) (D 46) (D' 46) ∧ ag (D 50 0) (D 47) (D' 47) ∧ ag (D 50 0) (D 48) (D' 48) ∧ ag (D 50 0) (G 3) (G' 3) ∧ ag (D 50 0) (G 4) (G' 4) ∧ ag (D 50 0) (G 11) (G' 11) ∧ ag (D 50 0) (G 12) (G' 12)
def eH (V D V' D' : Mv) : Prop := D 33 0 ≤ D' 33 0 ∧ ag (D 33 0) (V 49) (V' 49) ∧ ag (D 33 0) (D 31) (D' 31) ∧ ag (D 33 0) (D 32) (D' 32)
def eA (G V G' V' : Mv) : Prop := V 48 0 ≤ V' 48 0 ∧ ag (V 48 0) (G 5) (G' 5) ∧ ag (V 48 0) (V 43) (V' 43) ∧ ag (V 48 0) (V 44) (V' 44) ∧ ag (V 48 0) (V 45) (V' 45) ∧ ag (V 48 0) (V 46) (V' 46) ∧ ag (V 48 0) (V 47) (V' 47)
def eV (G V G' V' : Mv) : Prop := V 39 0 ≤ V' 39 0 ∧ ag (V 39 0) (G 6) (G' 6) ∧ ∀ j, 0 ≤ j → j < V 39 0 → G 6 j = -1 → V' 38 j = V 38 j
def ag1 (c : Int) (f f' : Int → Int) : Prop := ∀ i, 0 ≤ i → i < c → f' (i + 1) = f (i + 1)
def eW (V D V' D' : Mv) : Prop := D 22 0 ≤ D' 22 0 ∧ ag (D 22 0) (D 17) (D' 17) ∧ ag (D 22 0) (D 18) (D' 18) ∧ ag (D 22 0) (D 19) (D' 19) ∧ ag (D 22 0) (D 20) (D' 20) ∧ ag (D 22 0) (D 21) (D' 21) ∧ ag1 (D 22 0) (V 22) (V' 22) ∧ ag1 (D 22 0) (V 23) (V' 23) ∧ ag1 (D 22 0) (V 24) (V' 24) ∧ ag1 (D 22 0) (V 25) (V' 25) ∧ ag1 (D 22 0) (V 26) (V' 26)
def eJ (D D' : Mv) : Prop := D 30 0 ≤ D' 30 0 ∧ ag (D 30 0) (D 23) (D' 23) ∧ ag (D 30 0) (D 24) (D' 24) ∧ ag (D 30 0) (D 25) (D' 25) ∧ ag (D 30 0) (D 26) (D' 26) ∧ ag (D 30 0) (D 27) (D' 27) ∧ ag (D 30 0) (D 28) (D' 28)
def Ext (G V D G' V' D' : Mv) : Prop := eO G V D G' V' D' ∧ eF G V G' V' ∧ eR G V D G' V' D' ∧ eE G D G' D' ∧ eG G D G' D' ∧ eH V D V' D' ∧ eA G V G' V' ∧ eV G V G' V' ∧ eW V D V' D' ∧ eJ D D'
theorem Ext.rf {G V D : Mv} : Ext G V D G V D := by
  refine ⟨⟨Int.le_refl _, ag.rf, ag.rf, ag.rf, ag.rf, ag.rf, ag.rf, ag.rf, ag.rf, ag.rf, ag.rf, ag.rf, ag.rf, fun o _ _ => ⟨fun _ _ => ⟨rfl, rfl⟩, fun _ => ⟨rfl, rfl⟩⟩⟩, ⟨Int.le_refl _, ag.rf, ag.rf, ag.rf, ag.rf, ag.rf⟩, ⟨Int.le_refl _, ag.rf, ag.rf, Int.le_refl _, ag.rf⟩, ⟨Int.le_refl _, ag.rf, ag.rf, ag.rf, fun _ _ _ _ => rfl⟩, ⟨Int.le_refl _, ag.rf, ag.rf, ag.rf, ag.rf, ag.rf, ag.rf, ag.rf, ag.rf, ag.rf⟩, ⟨Int.le_refl _, ag.rf, ag.rf, ag.rf⟩, ⟨Int.le_refl _, ag.rf, ag.rf, ag.rf, ag.rf, ag.rf, ag.rf⟩, ⟨Int.le_refl _, ag.rf, fun _ _ _ _ => rfl⟩, ⟨Int.le_refl _, ag.rf, ag.rf, ag.rf, ag.rf, ag.rf, ag.rf, ag.rf, ag.rf, ag.rf, ag.rf⟩, ⟨Int.le_refl _, ag.rf, ag.rf, ag.rf, ag.rf, ag.rf, ag.rf⟩⟩
theorem ag1.tr {c c' : Int} {f f' f'' : Int → Int} (h1 : ag1 c f f') (h2 : ag1 c' f' f'') (hc : c ≤ c') : ag1 c f f'' := fun i a b => (h2 i a (by omega)).trans (h1 i a b)
theorem eO.tr {G V D G1 V1 D1 G2 V2 D2 : Mv} (h : eO G V D G1 V1 D1) (k : eO G1 V1 D1 G2 V2 D2) : eO G V D G2 V2 D2 := by
  obtain ⟨a0, a1, a2, a3, a4, a5, a6, a7, a8, a9, a10, a11, a12, a13⟩ := h
  obtain ⟨b0, b1, b2, b3, b4, b5, b6, b7, b8, b9, b10, b11, b12, b13⟩ := k
  refine ⟨Int.le_trans a0 b0, a1.tr b1 a0, a2.tr b2 a0, a3.tr b3 a0, a4.tr b4 a0, a5.tr b5 a0, a6.tr b6 a0, a7.tr b7 a0, a8.tr b8 a0, a9.tr b9 a0, a10.tr b10 a0, a11.tr b11 a0, a12.tr b12 a0, fun o h1 h2 => ?_⟩
  obtain ⟨p1, p2⟩ := a13 o h1 h2
  obtain ⟨q1, q2⟩ := b13 o h1 (by omega)
  have e := a1 o h1 h2
  refine ⟨fun z1 z2 => ?_, fun z => ?_⟩
  · obtain ⟨u1, u2⟩ := p1 z1 z2
    obtain ⟨v1, v2⟩ := q1 (by rw [e]; exact z1) (by rw [u1]; exact z2)
    exact ⟨v1.trans u1, v2.trans u2⟩
  · obtain ⟨u1, u2⟩ := p2 z
    obtain ⟨v1, v2⟩ := q2 (by rw [e]; exact z)
    exact ⟨v1.trans u1, v2.trans u2⟩
theorem Ext.tr {G V D G1 V1 D1 G2 V2 D2 : Mv} (h : Ext G V D G1 V1 D1) (k : Ext G1 V1 D1 G2 V2 D2) : Ext G V D G2 V2 D2 := by
  obtain ⟨hO, hF, hR, hE, hG, hH, hA, hV, hW, hJ⟩ := h
  obtain ⟨kO, kF, kR, kE, kG, kH, kA, kV, kW, kJ⟩ := k
  refine ⟨hO.tr kO, ?_, ?_, ?_, ?_, ?_, ?_, ?_, ?_, ?_⟩
  · obtain ⟨a0, a1, a2, a3, a4, a5⟩ := hF
    obtain ⟨b0, b1, b2, b3, b4, b5⟩ := kF
    exact ⟨Int.le_trans a0 b0, a1.tr b1 a0, a2.tr b2 a0, a3.tr b3 a0, a4.tr b4 a0, a5.tr b5 a0⟩
  · obtain ⟨a0, a1, a2, a3, a4⟩ := hR
    obtain ⟨b0, b1, b2, b3, b4⟩ := kR
    exact ⟨Int.le_trans a0 b0, a1.tr b1 a0, a2.tr b2 a0, Int.le_trans a3 b3, a4.tr b4 a3⟩
  · obtain ⟨a0, a1, a2, a3, a4⟩ := hE
    obtain ⟨b0, b1, b2, b3, b4⟩ := kE
    exact ⟨Int.le_trans a0 b0, a1.tr b1 a0, a2.tr b2 a0, a3.tr b3 a0, fun e h1 h2 h3 => (b4 e h1 (by omega) (by rw [a2 e h1 h2]; exact h3)).trans (a4 e h1 h2 h3)⟩
  · obtain ⟨a0, a1, a2, a3, a4, a5, a6, a7, a8, a9⟩ := hG
    obtain ⟨b0, b1, b2, b3, b4, b5, b6, b7, b8, b9⟩ := kG
    exact ⟨Int.le_trans a0 b0, a1.tr b1 a0, a2.tr b2 a0, a3.tr b3 a0, a4.tr b4 a0, a5.tr b5 a0, a6.tr b6 a0, a7.tr b7 a0, a8.tr b8 a0, a9.tr b9 a0⟩
  · obtain ⟨a0, a1, a2, a3⟩ := hH
    obtain ⟨b0, b1, b2, b3⟩ := kH
    exact ⟨Int.le_trans a0 b0, a1.tr b1 a0, a2.tr b2 a0, a3.tr b3 a0⟩
  · obtain ⟨a0, a1, a2, a3, a4, a5, a6⟩ := hA
    obtain ⟨b0, b1, b2, b3, b4, b5, b6⟩ := kA
    exact ⟨Int.le_trans a0 b0, a1.tr b1 a0, a2.tr b2 a0, a3.tr b3 a0, a4.tr b4 a0, a5.tr b5 a0, a6.tr b6 a0⟩
  · obtain ⟨a0, a1, a2⟩ := hV
    obtain ⟨b0, b1, b2⟩ := kV
    exact ⟨Int.le_trans a0 b0, a1.tr b1 a0, fun e h1 h2 h3 => (b2 e h1 (by omega) (by rw [a1 e h1 h2]; exact h3)).trans (a2 e h1 h2 h3)⟩
  · obtain ⟨a0, a1, a2, a3, a4, a5, a6, a7, a8, a9, a10⟩ := hW
    obtain ⟨b0, b1, b2, b3, b4, b5, b6, b7, b8, b9, b10⟩ := kW
    exact ⟨Int.le_trans a0 b0, a1.tr b1 a0, a2.tr b2 a0, a3.tr b3 a0, a4.tr b4 a0, a5.tr b5 a0, a6.tr b6 a0, a7.tr b7 a0, a8.tr b8 a0, a9.tr b9 a0, a10.tr b10 a0⟩
  · obtain ⟨a0, a1, a2, a3, a4, a5, a6⟩ := hJ
    obtain ⟨b0, b1, b2, b3, b4, b5, b6⟩ := kJ
    exact ⟨Int.le_trans a0 b0, a1.tr b1 a0, a2.tr b2 a0, a3.tr b3 a0, a4.tr b4 a0, a5.tr b5 a0, a6.tr b6 a0⟩
section EXT
variable {G V D G' V' D' : Mv}
theorem okv.ext {v : Int} (hO : eO G V D G' V' D') (h : okv D v) : okv D' v := by
  have := hO.1
  unfold okv at *
  omega
theorem YN.ext {f r : Int} (hF : eF G V G' V') (h : YN G V f r) : YN G' V' f r := by
  obtain ⟨a0, a1, a2, a3, a4, a5⟩ := hF
  obtain ⟨h1, h2, h3, h4, h5, h6⟩ := h
  exact ⟨h1, by omega, by rw [a1 f h1 (by omega)]; exact h3, by rw [a1 (f + 1) (by omega) h2]; exact h4, by rw [a5 f h1 (by omega)]; exact h5, by rw [a5 (f + 1) (by omega) h2]; exact h6⟩
theorem HF.ext {f k o : Int} (hF : eF G V G' V') (h : HF G V f k o) : HF G' V' f k o := by
  obtain ⟨a0, a1, a2, a3, a4, a5⟩ := hF
  rcases h with h | ⟨h1, h2, h3, h4⟩
  · exact Or.inl h
  · exact Or.inr ⟨h1, by omega, by rw [a1 f h1 h2]; exact h3, by rw [a5 f h1 h2]; exact h4⟩
theorem FOK.ext {f : Int} (hX : Ext G V D G' V' D') (h0 : 0 ≤ f) (hf : f < V 19 0) (h : FOK G V D f) : FOK G' V' D' f := by
  obtain ⟨hO, ⟨f0, f1, f2, f3, f4, f5⟩, ⟨r0, r1, r2, r3, r4⟩, ⟨e0, e1, e2, e3, e4⟩, ⟨g0, g1, g2, g3, g4, g5, g6, g7, g8, g9⟩, ⟨k0, k1, k2, k3⟩, -⟩ := hX
  obtain ⟨q1, q2, q3, q4, q5, q6, q7⟩ := h
  unfold FOK
  rw [f1 f h0 hf, f2 f h0 hf, f3 f h0 hf, f4 f h0 hf, f5 f h0 hf]
  refine ⟨q1, q2, fun z => ?_, fun z => ?_, fun z z2 => ?_, fun z => ?_, fun z => ?_⟩
  · obtain ⟨u1, u2, u3, u4⟩ := q3 z
    exact ⟨u1, by omega, by rw [k1 _ u1 u2]; exact u3, u4⟩
  · obtain ⟨u1, u2, u3, u4⟩ := q4 z
    exact ⟨u1, by omega, by rw [r1 _ u1 u2]; exact u3, by rw [r2 _ u1 u2]; exact u4⟩
  · obtain ⟨u1, u2, u3, u4, u5, u6, u7, u8, u9, u10, u11, u12, u13, u14⟩ := q5 z z2
    rw [e1 _ u1 u2, e2 _ u1 u2, e3 _ u1 u2, g7 _ u4 u5, g6 _ u4 u5, g1 _ u4 u5, g8 _ u4 u5, r4 _ u12 u13]
    exact ⟨u1, by omega, u3, u4, by omega, u6, u7, u8, u9, u10, u11, u12, by omega, u14⟩
  · obtain ⟨u1, u2, u3, u4⟩ := q6 z
    rw [f1 _ u1 u2, f4 _ u1 u2]
    exact ⟨u1, by omega, u3, u4⟩
  · obtain ⟨u1, u2, u3, u4, u5⟩ := q7 z
    rw [e2 _ u1 u2, e4 _ u1 u2 (by omega)]
    exact ⟨u1, by omega, u3, u4, u5.ext hO⟩
theorem COK.ext {r : Int} (hX : Ext G V D G' V' D') (h0 : 0 ≤ r) (hr : r < D 15 0) (h : COK G V D r) : COK G' V' D' r := by
  obtain ⟨⟨o0, o1, -⟩, -, ⟨r0, r1, r2, r3, r4⟩, -⟩ := hX
  obtain ⟨q1, q2, q3, q4, q5, q6⟩ := h
  unfold COK
  rw [r1 r h0 hr, r2 r h0 hr, r4 _ q4 q5, o1 _ q1 q2]
  exact ⟨q1, by omega, q3, q4, by omega, q6⟩
theorem HOK.ext {h : Int} (hX : Ext G V D G' V' D') (h0 : 0 ≤ h) (hh : h < D 33 0) (q : HOK V D h) : HOK V' D' h := by
  obtain ⟨hO, ⟨f0, f1, f2, f3, f4, f5⟩, -, -, -, ⟨k0, k1, k2, k3⟩, -⟩ := hX
  obtain ⟨q1, q2, q3, q4, q5, q6, q7, q8, q9, q10⟩ := q
  unfold HOK
  rw [k1 h h0 hh, k2 h h0 hh, k3 h h0 hh, f1 _ q1 q2, f2 _ q1 q2, f3 _ q1 q2, f4 _ q1 q2]
  refine ⟨q1, by omega, q3, q4, q5, q6, q7, q8, q9.ext hO, fun z => ?_⟩
  obtain ⟨u1, u2, u3⟩ := q10 z
  obtain ⟨o0, o1, -, -, -, -, -, -, -, -, -, -, -, o13⟩ := hO
  have hlt : -2 - D 32 h < D 1 0 := by unfold okv at q9; omega
  rw [o1 _ (by omega) hlt, ((o13 _ (by omega) hlt).1 u2 u3).1]
  exact ⟨u1, u2, u3⟩
theorem TOK.ext {o : Int} (hX : Ext G V D G' V' D') (h0 : 0 ≤ o) (hh : o < D 1 0) (q : TOK V D o) : TOK V' D' o := by
  have hO := hX.1
  obtain ⟨o0, o1, o2, o3, o4, o5, o6, o7, o8, o9, o10, o11, o12, o13⟩ := id hO
  unfold TOK
  rw [o1 o h0 hh, o2 o h0 hh, o3 o h0 hh, o4 o h0 hh, o5 o h0 hh, o6 o h0 hh, o7 o h0 hh, o8 o h0 hh, o9 o h0 hh, o10 o h0 hh, o11 o h0 hh]
  intro z
  obtain ⟨u1, u2, u3, u4, u5, u6, u7, u8, u9⟩ := q z
  exact ⟨u1, u2, u3, u4, u5, u6, u7, u8.ext hO, u9.ext hO⟩
theorem KOK.ext {o : Int} (hX : Ext G V D G' V' D') (h0 : 0 ≤ o) (hh : o < D 1 0) (e6 : D' 6 o = D 6 o) (e5 : V' 5 o = V 5 o) (e13 : V' 13 o = V 13 o) (e14 : V' 14 o = V 14 o) (q : KOK G V D o) : KOK G' V' D' o := by
  obtain ⟨⟨o0, o1, -⟩, hF, -⟩ := hX
  unfold KOK
  rw [o1 o h0 hh, e6, e5, e13, e14]
  refine ⟨fun z => ?_, fun z => ?_⟩
  · rcases q.1 z with u | ⟨u1, u2⟩
    · exact Or.inl u
    · exact Or.inr ⟨u1, u2.ext hF⟩
  · rcases q.2 z with u | ⟨u1, u2, u3⟩
    · exact Or.inl u
    · exact Or.inr ⟨u1, u2.ext hF, u3⟩
theorem BOK.ext {o : Int} (hX : Ext G V D G' V' D') (hk : 0 ≤ D 2 o) (h0 : 0 ≤ o) (hh : o < D 1 0) (q : BOK G V D o) : BOK G' V' D' o := by
  obtain ⟨⟨o0, o1, o2, o3, o4, o5, o6, o7, o8, o9, o10, o11, o12, o13⟩, -, -, -, ⟨g0, g1, g2, g3, g4, g5, g6, g7, g8, g9⟩, -, -, ⟨v0, v1, v2⟩, -⟩ := hX
  obtain ⟨q1, q2, q3⟩ := q
  unfold BOK
  rw [o1 o h0 hh, o2 o h0 hh, o3 o h0 hh, o12 o h0 hh]
  refine ⟨fun z => ?_, fun z => ?_, fun z => ?_⟩
  · obtain ⟨e1, e2⟩ := (o13 o h0 hh).2 (by omega)
    obtain ⟨u1, u2, u3, u4, u5⟩ := q1 z
    rw [e1, o1 _ u1 u2, o2 _ u1 u2, o3 _ u1 u2]
    exact ⟨u1, by omega, u3, u4, u5⟩
  · obtain ⟨e1, e2⟩ := (o13 o h0 hh).2 (by omega)
    obtain ⟨u1, u2, u3, u4, u5, u6, u7, u8⟩ := q2 z
    rw [e1, e2, g1 _ u1 u2, g2 _ u1 u2, g6 _ u1 u2, g7 _ u1 u2, g8 _ u1 u2]
    exact ⟨u1, by omega, u3, u4, u5, u6, u7, u8⟩
  · obtain ⟨e1, e2⟩ := (o13 o h0 hh).2 (by omega)
    obtain ⟨u1, u2, u3, u4, u5, u6, u7⟩ := q3 z
    rw [e1, e2, v1 _ u2 (by omega), v1 _ (by omega : (0 : Int) ≤ V 1 o + 1) (by omega), v2 _ u2 (by omega) u6, v2 _ (by omega : (0 : Int) ≤ V 1 o + 1) (by omega) u7]
    exact ⟨u1, u2, by omega, u4, u5, u6, u7⟩
theorem GOK.ext {g : Int} (hX : Ext G V D G' V' D') (h0 : 0 ≤ g) (hh : g < D 50 0) (q : GOK G V D g) : GOK G' V' D' g := by
  obtain ⟨-, hF, ⟨r0, r1, r2, r3, r4⟩, ⟨e0, e1, e2, e3, e4⟩, ⟨g0, g1, g2, g3, g4, g5, g6, g7, g8, g9⟩, -, -, ⟨v0, v1, v2⟩, -⟩ := hX
  obtain ⟨q1, q2, q3, q4, q5, q6, q7⟩ := q
  unfold GOK
  rw [g1 g h0 hh, g2 g h0 hh, g3 g h0 hh, g6 g h0 hh, g7 g h0 hh, g8 g h0 hh]
  refine ⟨q1, q2, by omega, q4, by omega, fun e z1 z2 => ?_, fun z => ?_⟩
  · rw [e1 e (by omega) (by omega)]
    exact q6 e z1 z2
  · obtain ⟨u1, u2, u3, u4, u5, u6, u7, u8, u9, u10, u11, u12⟩ := q7 z
    have w0 := u9 0 (by omega) (by omega)
    rw [Int.add_zero] at w0
    have w1 := u9 1 (by omega) (by omega)
    have w2 := u9 2 (by omega) (by omega)
    have w3 := u9 3 (by omega) (by omega)
    rw [v2 _ u1 (by omega) w0, v2 _ (by omega : (0 : Int) ≤ G 3 g + 1) (by omega) w1, v2 _ (by omega : (0 : Int) ≤ G 3 g + 2) (by omega) w2, v2 _ (by omega : (0 : Int) ≤ G 3 g + 3) (by omega) w3, r4 _ u3 u4]
    refine ⟨u1, by omega, u3, by omega, u5, u6, u7.ext hF, u8, fun i a b => ?_, u10, u11, fun i a b => ?_⟩
    · rw [v1 _ (by omega) (by omega)]
      exact u9 i a b
    · rw [v1 _ (by omega) (by omega), e2 _ (by omega) (by omega)]
      exact u12 i a b
theorem AOK.ext {a : Int} (hX : Ext G V D G' V' D') (h0 : 0 ≤ a) (hh : a < V 48 0) (hg : GOK G V D (G 5 a)) (hat : 0 ≤ D 49 (G 5 a)) (e42 : V' 42 a = V 42 a) (e49 : D' 49 (G 5 a) = D 49 (G 5 a)) (q : AOK G V D a) : AOK G' V' D' a := by
  obtain ⟨hO, hF, -, ⟨e0, e1, e2, e3, e4⟩, ⟨g0, g1, g2, g3, g4, g5, g6, g7, g8, g9⟩, ⟨k0, k1, k2, k3⟩, ⟨a0, a1, a2, a3, a4, a5, a6⟩, ⟨v0, v1, v2⟩, -⟩ := hX
  obtain ⟨q1, q2, q3, q4, q5, q6, q7, q8, q9, q10, q11, q12, q13⟩ := q
  obtain ⟨w1, w2, w3, -⟩ := hg
  unfold AOK
  rw [a1 a h0 hh, a2 a h0 hh, a3 a h0 hh, a4 a h0 hh, a5 a h0 hh, a6 a h0 hh, e42, e49, g1 _ q1 q2, g2 _ q1 q2, g3 _ q1 q2, g4 _ q1 q2, g5 _ q1 q2, g7 _ q1 q2, g9 _ q1 q2]
  refine ⟨q1, by omega, q3, q4, q5, by omega, q7, fun i z1 z2 => ?_, ?_, q10, q11.ext hO, q12.ext hF, q13⟩
  · obtain ⟨u1, u2, u3, u4⟩ := q8 i z1 z2
    rw [v1 _ (by omega) (by omega), v2 _ (by omega) (by omega) u2, e2 _ (by omega) (by omega), e4 _ (by omega) (by omega) (by omega)]
    exact ⟨u1, u2, u3, u4.ext hO⟩
  · rcases q9 with u | ⟨u1, u2, u3⟩
    · exact Or.inl u
    · rw [k1 _ u1 u2]
      exact Or.inr ⟨u1, by omega, u3⟩
theorem WOK.ext {k : Int} (hX : Ext G V D G' V' D') (h0 : 0 ≤ k) (hh : k < D 22 0) (q : WOK G V D k) : WOK G' V' D' k := by
  obtain ⟨-, hF, -, -, -, -, ⟨a0, a1, -⟩, -, ⟨w0, w1, w2, w3, w4, w5, w6, w7, w8, w9, w10⟩, -⟩ := hX
  unfold WOK
  rw [w1 k h0 hh, w2 k h0 hh, w3 k h0 hh, w4 k h0 hh, w5 k h0 hh, w6 k h0 hh, w7 k h0 hh, w8 k h0 hh, w9 k h0 hh, w10 k h0 hh]
  rcases q with ⟨u1, u2, u3, u4, u5, u6⟩ | ⟨u1, u2, u3, u4, u5, u6, u7, u8⟩
  · exact Or.inl ⟨u1, u2.ext hF, u3, u4, u5.ext hF, u6.ext hF⟩
  · rw [a1 _ u1 u2]
    exact Or.inr ⟨u1, by omega, u3, u4, u5, u6, u7, u8⟩
theorem JOK.ext {j m : Int} (hX : Ext G V D G' V' D') (h0 : 0 ≤ m) (hh : m < D 30 0) (e29 : V' 29 j = V 29 j) (e30 : V' 30 j = V 30 j) (e31 : V' 31 j = V 31 j) (q : JOK V D j m) : JOK V' D' j m := by
  obtain ⟨hO, -, -, -, -, -, -, -, ⟨w0, w1, w2, w3, w4, w5, -⟩, ⟨j0, j1, j2, j3, j4, j5, j6⟩⟩ := hX
  obtain ⟨o0, o1, -⟩ := id hO
  unfold JOK
  rw [e29, e30, e31, j1 m h0 hh, j2 m h0 hh, j3 m h0 hh, j4 m h0 hh, j5 m h0 hh, j6 m h0 hh]
  rcases q with ⟨u1, u2, u3, u4, u5, u6, u7, u8, u9⟩ | ⟨u1, u2, u3, u4, u5, u6, u7⟩
  · rw [o1 _ (by omega) u5, o1 _ u7 u8]
    exact Or.inl ⟨u1, u2, u3, u4, by omega, u6, u7, by omega, u9⟩
  · rw [w1 _ (by omega) (by omega), w2 _ (by omega) (by omega), w3 _ (by omega) (by omega), w4 _ (by omega) (by omega), w5 _ (by omega) (by omega)]
    exact Or.inr ⟨u1, by omega, u3, u4.ext hO, u5, u6, u7⟩
end EXT
