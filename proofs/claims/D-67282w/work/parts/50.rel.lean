set_option maxRecDepth 100000
/-! THE RELATION between the desk's memory V (lengths Z) and the model's memory D.
Ghosts: G (rows: 0 function -> the model's 'of'; 1 record -> cell; 2 cell -> owner 3r | 3e+1 | 3g+2; 3 group -> start of its row of values; 4 group -> 0 async, 1 combination, 2 race; 5 async -> group; 6 desk's value place -> element or -1; 7 model's value place -> 0 element, 1 async, 2 thunk; 8 reaction -> promise it waits for or -1; 9 array object -> group; 10 element -> cell; 11 group -> how many elements are set up; 12 group -> async; 13 promise -> head of its chain),
pl (promise -> its waiting reactions), jq (queued job cells), jf (free job cells) -/
abbrev Gh : Type := Mv × (Int → List Int) × List Int × List Int
def Ens (w : Po → Prop) (P : Int → Mv → Le → Prop) : Prop := ∀ Q : Po, (∀ x V Z, P x V Z → Q x V Z) → w Q
def Rn (w : (Int → Mv → Prop) → Prop) (r : Int) (D : Mv) : Prop := ∀ Q : Int → Mv → Prop, Q r D → w Q
theorem sV_ne {V : Mv} {k a : Nat} {i v : Int} (h : a ≠ k) : sV V k i v a = V a := if_neg h
theorem sV_eq {V : Mv} {k : Nat} {i v : Int} (b : Int) : sV V k i v k b = if b = i then v else V k b := by simp [sV]
theorem gV_ne {V : Mv} {k a : Nat} {n : Int} (h : a ≠ k) : gV V k n a = V a := if_neg h
theorem gV_eq {V : Mv} {k : Nat} {n : Int} (b : Int) : gV V k n k b = if b < n then V k b else 0 := by simp [gV]
/-- sums over a range -/
def sm (f : Int → Int) : Nat → Int
  | 0 => 0
  | n + 1 => sm f n + f n
theorem sm_eq {f g : Int → Int} : ∀ {n : Nat}, (∀ i : Int, 0 ≤ i → i < n → f i = g i) → sm f n = sm g n
  | 0, _ => rfl
  | n + 1, h => by
    have h1 := sm_eq (n := n) (fun i a b => h i a (by omega))
    have h2 := h n (by omega) (by omega)
    simp only [sm, h1, h2]
theorem sm_upd {f g : Int → Int} {j : Int} : ∀ {n : Nat}, 0 ≤ j → j < n → (∀ i : Int, 0 ≤ i → i < n → i ≠ j → g i = f i) → sm g n = sm f n + g j - f j
  | 0, _, h, _ => by omega
  | n + 1, h0, h1, h => by
    by_cases hj : j = n
    · subst hj
      have h2 : sm g n = sm f n := sm_eq (fun i a b => h i a (by omega) (by omega))
      simp only [sm, h2]
      omega
    · have h2 := sm_upd (f := f) (g := g) (n := n) h0 (by omega) (fun i a b c => h i a (by omega) c)
      have h3 := h n (by omega) (by omega) (fun e => hj e.symm)
      simp only [sm, h2, h3]
      omega
theorem sm_nonneg {f : Int → Int} : ∀ {n : Nat}, (∀ i : Int, 0 ≤ i → i < n → 0 ≤ f i) → 0 ≤ sm f n
  | 0, _ => by simp [sm]
  | n + 1, h => by
    have h1 := sm_nonneg (n := n) (fun i a b => h i a (by omega))
    have h2 := h n (by omega) (by omega)
    simp only [sm]
    omega
/-- a valid value -/
def okv (D : Mv) (v : Int) : Prop := -2 - D 1 0 < v
/-- the two functions of a record -/
def YN (G V : Mv) (f r : Int) : Prop := 0 ≤ f ∧ f + 1 < V 19 0 ∧ V 15 f = 1 ∧ V 15 (f + 1) = 2 ∧ G 0 f = r ∧ G 0 (f + 1) = r
/-- a handler of a reaction -/
def HF (G V : Mv) (f k o : Int) : Prop := (f = -1 ∧ k = 0) ∨ (0 ≤ f ∧ f < V 19 0 ∧ k = V 15 f + 1 ∧ o = G 0 f)
def bud (Z : Le) : Int := Z 15 + Z 16 + Z 17 + Z 18 + Z 20 + Z 22 + Z 23 + Z 24 + Z 25 + Z 26 + Z 27 + Z 29 + Z 30 + Z 31 + Z 32 + Z 38 + Z 42 + Z 43 + Z 44 + Z 45 + Z 46 + Z 47 + Z 51 + Z 52
def zr (Z : Le) (k : Nat) : Prop := 64 ≤ Z k ∧ Z k ≤ 65536
/-- lengths -/
def rSZ (n : Int) (Z : Le) (V : Mv) : Prop :=
  (Z 0 = 3000 ∧ Z 1 = 3000 ∧ Z 2 = 3000 ∧ Z 3 = 3000 ∧ Z 4 = 3000 ∧ Z 5 = 3000 ∧ Z 6 = 3000 ∧ Z 8 = 3000 ∧ Z 9 = 3000 ∧ Z 10 = 3000 ∧ Z 11 = 3000 ∧ Z 12 = 3000 ∧ Z 13 = 3000 ∧ Z 14 = 3000 ∧ Z 40 = 200 ∧ Z 49 = 1000) ∧
  (zr Z 15 ∧ Z 16 = Z 15 ∧ Z 17 = Z 15 ∧ Z 18 = Z 15 ∧ 0 ≤ V 19 0 ∧ V 19 0 ≤ Z 15) ∧ (zr Z 20 ∧ 0 ≤ V 21 0 ∧ V 21 0 ≤ Z 20) ∧
  (zr Z 22 ∧ Z 23 = Z 22 ∧ Z 24 = Z 22 ∧ Z 25 = Z 22 ∧ Z 26 = Z 22 ∧ Z 27 = Z 22 ∧ 1 ≤ V 28 0 ∧ V 28 0 ≤ Z 22) ∧
  (zr Z 29 ∧ Z 30 = Z 29 ∧ Z 31 = Z 29 ∧ Z 32 = Z 29 ∧ 1 ≤ V 33 0 ∧ V 33 0 ≤ Z 29) ∧ (zr Z 38 ∧ 0 ≤ V 39 0 ∧ V 39 0 ≤ Z 38) ∧
  (zr Z 42 ∧ Z 43 = Z 42 ∧ Z 44 = Z 42 ∧ Z 45 = Z 42 ∧ Z 46 = Z 42 ∧ Z 47 = Z 42 ∧ 0 ≤ V 48 0 ∧ V 48 0 ≤ Z 42) ∧ (zr Z 51 ∧ Z 52 = Z 51 ∧ 0 ≤ V 53 0 ∧ V 53 0 ≤ Z 51) ∧
  (Z 1001 : Int) ≤ 50000 + 2 * bud Z + 6 * n ∧ 64 * (Z 1000 : Int) ≤ 6400 + bud Z + 64 * n
/-- objects: kinds -/
def rOK (V D : Mv) : Prop := V 7 0 = D 1 0 ∧ 0 ≤ D 1 0 ∧ D 1 0 ≤ 3000 ∧ ∀ o, 0 ≤ o → o < D 1 0 → V 0 o = D 2 o ∧ 0 ≤ D 2 o ∧ D 2 o ≤ 5
/-- promises: state, result, handled -/
def SOK (V D : Mv) (o : Int) : Prop := D 2 o = 0 → V 1 o = D 3 o ∧ 0 ≤ D 3 o ∧ D 3 o ≤ 2 ∧ (D 3 o = 0 → D 4 o = -1) ∧ (D 3 o ≠ 0 → V 2 o = D 4 o) ∧ okv D (D 4 o) ∧ V 6 o = D 7 o ∧ bz (D 7 o)
def rOS (V D : Mv) : Prop := (∀ o, D 1 0 ≤ o → V 1 o = 0 ∧ V 6 o = 0 ∧ D 7 o = 0) ∧ ∀ o, 0 ≤ o → o < D 1 0 → SOK V D o
/-- kept functions of promises and thenables -/
def KOK (G V D : Mv) (o : Int) : Prop := (D 2 o = 0 → (D 6 o = -1 ∧ V 5 o = -1) ∨ (0 ≤ D 6 o ∧ YN G V (V 5 o) (D 6 o))) ∧ (D 2 o = 1 → (D 6 o = -1 ∧ V 13 o = -1) ∨ (0 ≤ D 6 o ∧ YN G V (V 13 o) (D 6 o) ∧ V 14 o = V 13 o + 1))
def rOO (G V D : Mv) : Prop := ∀ o, 0 ≤ o → o < D 1 0 → KOK G V D o
/-- thenables -/
def TOK (V D : Mv) (o : Int) : Prop := D 2 o = 1 → V 8 o = D 8 o ∧ 0 ≤ D 8 o ∧ D 8 o ≤ 2 ∧ V 9 o = D 9 o ∧ V 10 o = D 10 o ∧ V 11 o = D 11 o ∧ V 12 o = D 12 o ∧ okv D (D 10 o) ∧ okv D (D 12 o)
def rOT (V D : Mv) : Prop := ∀ o, 0 ≤ o → o < D 1 0 → TOK V D o
/-- errors of many, arrays, records of values -/
def BOK (G V D : Mv) (o : Int) : Prop :=
  (D 2 o = 3 → 0 ≤ V 1 o ∧ V 1 o < D 1 0 ∧ D 2 (V 1 o) = 4 ∧ D 8 o = D 8 (V 1 o) ∧ D 9 o = D 9 (V 1 o)) ∧
  (D 2 o = 4 → 0 ≤ G 9 o ∧ G 9 o < D 50 0 ∧ G 4 (G 9 o) = 1 ∧ G 11 (G 9 o) = D 44 (G 9 o) ∧ D 8 o = D 43 (G 9 o) ∧ D 9 o = D 44 (G 9 o) ∧ V 1 o = G 3 (G 9 o) + 4 ∧ V 2 o = D 44 (G 9 o)) ∧
  (D 2 o = 5 → V 2 o = 2 ∧ 0 ≤ V 1 o ∧ V 1 o + 2 ≤ V 39 0 ∧ V 38 (V 1 o) = D 8 o ∧ V 38 (V 1 o + 1) = D 9 o ∧ G 6 (V 1 o) = -1 ∧ G 6 (V 1 o + 1) = -1)
def rOA (G V D : Mv) : Prop := ∀ o, 0 ≤ o → o < D 1 0 → BOK G V D o
/-- functions -/
def FOK (G V D : Mv) (f : Int) : Prop := 0 ≤ V 15 f ∧ V 15 f ≤ 10 ∧
  (V 15 f = 0 → 0 ≤ V 18 f ∧ V 18 f < D 33 0 ∧ V 49 (V 18 f) = f ∧ G 0 f = V 18 f) ∧
  (V 15 f = 1 ∨ V 15 f = 2 → 0 ≤ G 0 f ∧ G 0 f < D 15 0 ∧ V 16 f = D 13 (G 0 f) ∧ V 17 f = G 1 (G 0 f)) ∧
  (3 ≤ V 15 f → V 15 f ≤ 6 → 0 ≤ G 0 f ∧ G 0 f < D 42 0 ∧ G 7 (G 0 f) = 0 ∧ 0 ≤ D 40 (G 0 f) ∧ D 40 (G 0 f) < D 50 0 ∧ G 4 (D 40 (G 0 f)) = 1 ∧ V 16 f = G 3 (D 40 (G 0 f)) ∧ V 17 f = G 0 f - D 43 (D 40 (G 0 f)) ∧ 0 ≤ V 17 f ∧ V 17 f < G 11 (D 40 (G 0 f)) ∧ V 18 f = G 10 (G 0 f) ∧ 0 ≤ V 18 f ∧ V 18 f < V 21 0 ∧ G 2 (V 18 f) = 3 * G 0 f + 1) ∧
  (V 15 f = 7 ∨ V 15 f = 8 → 0 ≤ V 16 f ∧ V 16 f < V 19 0 ∧ V 15 (V 16 f) = 0 ∧ G 0 f = V 18 (V 16 f)) ∧
  (9 ≤ V 15 f → 0 ≤ G 0 f ∧ G 0 f < D 42 0 ∧ G 7 (G 0 f) = 2 ∧ D 39 (G 0 f) = V 16 f ∧ okv D (V 16 f))
def rFN (G V D : Mv) : Prop := ∀ f, 0 ≤ f → f < V 19 0 → FOK G V D f
/-- records -/
def COK (G V D : Mv) (r : Int) : Prop := 0 ≤ D 13 r ∧ D 13 r < D 1 0 ∧ D 2 (D 13 r) = 0 ∧ 0 ≤ G 1 r ∧ G 1 r < V 21 0 ∧ G 2 (G 1 r) = 3 * r
def rRC (G V D : Mv) : Prop := 0 ≤ D 15 0 ∧ ∀ r, 0 ≤ r → r < D 15 0 → COK G V D r
def rDN (D : Mv) : Prop := ∀ r, 0 ≤ r → r < D 15 0 → bz (D 14 r)
/-- cells -/
def EOK (G V D : Mv) (c : Int) : Prop := (∀ r, G 2 c = 3 * r → r < D 15 0 ∧ V 20 c = D 14 r) ∧ (∀ e, G 2 c = 3 * e + 1 → e < D 42 0 ∧ V 20 c = D 41 e) ∧ (∀ g, G 2 c = 3 * g + 2 → g < D 50 0 ∧ V 20 c = D 45 g)
def rCE (G V D : Mv) : Prop := ∀ c, 0 ≤ c → c < V 21 0 → EOK G V D c
/-- handlers -/
def HOK (V D : Mv) (h : Int) : Prop := 0 ≤ V 49 h ∧ V 49 h < V 19 0 ∧ V 15 (V 49 h) = 0 ∧ V 18 (V 49 h) = h ∧ V 16 (V 49 h) = D 31 h ∧ V 17 (V 49 h) = D 32 h ∧ 0 ≤ D 31 h ∧ D 31 h ≤ 5 ∧ okv D (D 32 h) ∧ (4 ≤ D 31 h → D 32 h ≤ -2 ∧ D 2 (-2 - D 32 h) = 0 ∧ 0 ≤ D 6 (-2 - D 32 h))
def rHA (V D : Mv) : Prop := V 50 0 = D 33 0 ∧ 0 ≤ D 33 0 ∧ D 33 0 ≤ 1000 ∧ ∀ h, 0 ≤ h → h < D 33 0 → HOK V D h
/-- groups -/
def GOK (G V D : Mv) (g : Int) : Prop := 0 ≤ D 43 g ∧ 0 ≤ D 44 g ∧ D 43 g + D 44 g ≤ D 42 0 ∧ 0 ≤ D 46 g ∧ D 46 g < D 15 0 ∧ (∀ e, D 43 g ≤ e → e < D 43 g + D 44 g → D 40 e = g) ∧
  (G 4 g = 1 → 0 ≤ G 3 g ∧ G 3 g + 4 + D 44 g ≤ V 39 0 ∧ 0 ≤ V 38 (G 3 g) ∧ V 38 (G 3 g) < V 21 0 ∧ G 2 (V 38 (G 3 g)) = 3 * g + 2 ∧ V 38 (G 3 g + 1) = D 44 g ∧ YN G V (V 38 (G 3 g + 2)) (D 46 g) ∧ V 38 (G 3 g + 3) = V 38 (G 3 g + 2) + 1 ∧ (∀ i, 0 ≤ i → i < 4 → G 6 (G 3 g + i) = -1) ∧ 0 ≤ G 11 g ∧ G 11 g ≤ D 44 g ∧ ∀ i, 0 ≤ i → i < D 44 g → G 6 (G 3 g + 4 + i) = D 43 g + i ∧ G 7 (D 43 g + i) = 0)
def rGR (G V D : Mv) : Prop := 0 ≤ D 50 0 ∧ 0 ≤ D 42 0 ∧ ∀ g, 0 ≤ g → g < D 50 0 → GOK G V D g
/-- how far asynchronous groups are -/
def rAT (D : Mv) : Prop := (∀ g, D 50 0 ≤ g → D 49 g = 0) ∧ ∀ g, 0 ≤ g → g < D 50 0 → 0 ≤ D 49 g ∧ D 49 g ≤ D 44 g
/-- values of combinations -/
def rVA (G V D : Mv) : Prop := ∀ g, 0 ≤ g → g < D 50 0 → G 4 g = 1 → ∀ i, 0 ≤ i → i < G 11 g → V 38 (G 3 g + 4 + i) = D 39 (D 43 g + i) ∧ okv D (D 39 (D 43 g + i))
/-- asynchronous functions -/
def AOK (G V D : Mv) (a : Int) : Prop := 0 ≤ G 5 a ∧ G 5 a < D 50 0 ∧ G 4 (G 5 a) = 0 ∧ G 12 (G 5 a) = a ∧ 0 ≤ V 42 a ∧ V 43 a ≤ V 39 0 ∧ V 43 a - V 42 a = D 44 (G 5 a) - D 49 (G 5 a) ∧
  (∀ i, 0 ≤ i → i < D 44 (G 5 a) - D 49 (G 5 a) → V 38 (V 42 a + i) = D 39 (D 43 (G 5 a) + D 49 (G 5 a) + i) ∧ G 6 (V 42 a + i) = -1 ∧ G 7 (D 43 (G 5 a) + D 49 (G 5 a) + i) = 1 ∧ okv D (D 39 (D 43 (G 5 a) + D 49 (G 5 a) + i))) ∧
  ((V 44 a = -1 ∧ D 48 (G 5 a) = -1) ∨ (0 ≤ D 48 (G 5 a) ∧ D 48 (G 5 a) < D 33 0 ∧ V 44 a = V 49 (D 48 (G 5 a)))) ∧ V 45 a = D 47 (G 5 a) ∧ okv D (D 47 (G 5 a)) ∧ YN G V (V 46 a) (D 46 (G 5 a)) ∧ V 47 a = V 46 a + 1
def rAS (G V D : Mv) : Prop := ∀ a, 0 ≤ a → a < V 48 0 → AOK G V D a
/-- what waits -/
def WOK (G V D : Mv) (k : Int) : Prop :=
  (V 26 (k + 1) = -1 ∧ YN G V (V 24 (k + 1)) (D 17 k) ∧ V 25 (k + 1) = V 24 (k + 1) + 1 ∧ 0 ≤ D 17 k ∧ HF G V (V 22 (k + 1)) (D 18 k) (D 19 k) ∧ HF G V (V 23 (k + 1)) (D 20 k) (D 21 k)) ∨
   (0 ≤ V 26 (k + 1) ∧ V 26 (k + 1) < V 48 0 ∧ V 24 (k + 1) = -1 ∧ D 17 k = -1 ∧ D 18 k = 12 ∧ D 19 k = G 5 (V 26 (k + 1)) ∧ D 20 k = 13 ∧ D 21 k = G 5 (V 26 (k + 1)))
def rWA (G V D : Mv) : Prop := V 28 0 = D 22 0 + 1 ∧ 0 ≤ D 22 0 ∧ ∀ k, 0 ≤ k → k < D 22 0 → WOK G V D k
def rWN (V D : Mv) : Prop := ∀ k, 0 ≤ k → k < D 22 0 → V 27 (k + 1) = D 16 k + 1 ∧ -1 ≤ D 16 k ∧ D 16 k < D 22 0
/-- chains of reactions -/
def Lk (D : Mv) : Int → List Int → Prop
  | x, [] => x = -1
  | x, k :: t => x = k ∧ 0 ≤ k ∧ k < D 22 0 ∧ Lk D (D 16 k) t
def rHD (px : Int) (G V D : Mv) : Prop := ∀ o, 0 ≤ o → o < D 1 0 → o ≠ px → V 3 o = D 5 o + 1 ∧ G 13 o = D 5 o
def rCH (G : Mv) (pl : Int → List Int) (V D : Mv) : Prop := ∀ o, 0 ≤ o → o < D 1 0 → Lk D (G 13 o) (pl o) ∧ (∀ k ∈ pl o, G 8 k = o) ∧ (pl o).Nodup ∧ ∀ h : pl o ≠ [], V 4 o = (pl o).getLast h + 1
/-- jobs -/
def Cj (V : Mv) : Int → List Int → Prop
  | x, [] => x = 0
  | x, j :: t => x = j ∧ 1 ≤ j ∧ j < V 33 0 ∧ Cj V (V 32 j) t
def JOK (V D : Mv) (j m : Int) : Prop := (V 29 j < 0 ∧ D 28 m = 1 ∧ D 24 m = -1 - V 29 j ∧ D 25 m = V 30 j ∧ -1 - V 29 j < D 1 0 ∧ D 2 (-1 - V 29 j) ≤ 1 ∧ 0 ≤ V 30 j ∧ V 30 j < D 1 0 ∧ D 2 (V 30 j) = 0) ∨
  (1 ≤ V 29 j ∧ V 29 j ≤ D 22 0 ∧ D 28 m = 0 ∧ okv D (V 31 j) ∧ D 26 m = V 31 j ∧ D 25 m = D 17 (V 29 j - 1) ∧ ((V 30 j = 1 ∧ D 27 m = 0 ∧ D 23 m = D 18 (V 29 j - 1) ∧ D 24 m = D 19 (V 29 j - 1)) ∨ (V 30 j = 2 ∧ D 27 m = 1 ∧ D 23 m = D 20 (V 29 j - 1) ∧ D 24 m = D 21 (V 29 j - 1))))
def JL (V D : Mv) : Int → List Int → Prop
  | m, [] => m = D 30 0
  | m, j :: t => JOK V D j m ∧ JL V D (m + 1) t
def rJO (jq jf : List Int) (V D : Mv) : Prop := Cj V (V 34 0) jq ∧ Cj V (V 37 0) jf ∧ (jq ++ jf).Nodup ∧ V 33 0 = 1 + jq.length + jf.length ∧ V 36 0 = jq.length ∧ (∀ h : jq ≠ [], V 35 0 = jq.getLast h) ∧ 0 ≤ D 29 0 ∧ D 30 0 - D 29 0 = jq.length ∧ JL V D (D 29 0) jq
/-- log and list -/
def rLO (V D : Mv) : Prop := V 53 0 = D 36 0 ∧ 0 ≤ D 36 0 ∧ ∀ i, 0 ≤ i → i < D 36 0 → V 51 i = D 34 i ∧ V 52 i = D 35 i
def rLI (V D : Mv) : Prop := V 41 0 = D 38 0 ∧ 0 ≤ D 38 0 ∧ D 38 0 ≤ 200 ∧ ∀ i, 0 ≤ i → i < D 38 0 → V 40 i = D 37 i ∧ okv D (D 37 i)
/-- counts: B 0 = calls so far -/
def pend (G D : Mv) : Int := sm (fun k => if 0 ≤ G 8 k then 1 else 0) (D 22 0).toNat
def undone (D : Mv) : Int := sm (fun r => 1 - D 14 r) (D 15 0).toNat
def remn (D : Mv) : Int := sm (fun g => D 44 g - D 49 g) (D 50 0).toNat
def rCO (B : Nat → Int) (G V D : Mv) : Prop :=
  D 15 0 ≤ D 1 0 + B 1 ∧ D 22 0 + remn D + D 38 0 ≤ D 1 0 + B 2 ∧ V 19 0 + 2 * D 38 0 ≤ 2 * D 15 0 + D 1 0 + B 3 ∧ V 21 0 + D 38 0 ≤ D 15 0 + B 4 ∧ D 42 0 + D 38 0 ≤ D 1 0 + B 5 ∧ V 39 0 + D 38 0 ≤ 2 * D 1 0 + B 6 ∧ D 50 0 ≤ D 1 0 ∧ V 48 0 ≤ D 50 0 ∧
  D 30 0 + pend G D + undone D + B 8 ≤ D 22 0 + D 15 0 ∧ D 36 0 ≤ 4195
def rB (B : Nat → Int) : Prop := 0 ≤ B 0 ∧ B 0 ≤ 64 ∧ B 1 ≤ 7300 ∧ B 2 ≤ 200 ∧ B 3 ≤ 500 ∧ B 4 ≤ 500 ∧ B 5 ≤ 500 ∧ B 6 ≤ 1000 ∧ 0 ≤ B 8
def RelX (px : Int) (B : Nat → Int) (g : Gh) (V : Mv) (Z : Le) (D : Mv) : Prop :=
  rB B ∧ rSZ (B 0) Z V ∧ rOK V D ∧ rOS V D ∧ rOO g.1 V D ∧ rOT V D ∧ rOA g.1 V D ∧ rFN g.1 V D ∧ rRC g.1 V D ∧ rDN D ∧ rCE g.1 V D ∧ rHA V D ∧ rGR g.1 V D ∧ rAT D ∧ rVA g.1 V D ∧ rAS g.1 V D ∧ rWA g.1 V D ∧ rWN V D ∧ rHD px g.1 V D ∧ rCH g.1 g.2.1 V D ∧ rJO g.2.2.1 g.2.2.2 V D ∧ rLO V D ∧ rLI V D ∧ rCO B g.1 V D
