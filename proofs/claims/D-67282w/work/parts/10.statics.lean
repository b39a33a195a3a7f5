set_option maxRecDepth 100000
/-! static methods: copyOf, need, the small ones; a growing array -/
theorem dJ4_copyOf_0 : decode cJ4_copyOf 0 = .ok (.iload_n 1, 1) := by decide +kernel
theorem dJ4_copyOf_1 : decode cJ4_copyOf 1 = .ok (.aload_n 0, 1) := by decide +kernel
theorem dJ4_copyOf_2 : decode cJ4_copyOf 2 = .ok (.arraylength, 1) := by decide +kernel
theorem dJ4_copyOf_3 : decode cJ4_copyOf 3 = .ok (.if_icmp .ne 11, 3) := by decide +kernel
theorem dJ4_copyOf_14 : decode cJ4_copyOf 14 = .ok (.iload_n 1, 1) := by decide +kernel
theorem dJ4_copyOf_15 : decode cJ4_copyOf 15 = .ok (.newarray .int, 2) := by decide +kernel
theorem dJ4_copyOf_17 : decode cJ4_copyOf 17 = .ok (.astore_n 2, 1) := by decide +kernel
theorem dJ4_copyOf_18 : decode cJ4_copyOf 18 = .ok (.aload_n 0, 1) := by decide +kernel
theorem dJ4_copyOf_19 : decode cJ4_copyOf 19 = .ok (.iconst 0, 1) := by decide +kernel
theorem dJ4_copyOf_20 : decode cJ4_copyOf 20 = .ok (.aload_n 2, 1) := by decide +kernel
theorem dJ4_copyOf_21 : decode cJ4_copyOf 21 = .ok (.iconst 0, 1) := by decide +kernel
theorem dJ4_copyOf_22 : decode cJ4_copyOf 22 = .ok (.aload_n 0, 1) := by decide +kernel
theorem dJ4_copyOf_23 : decode cJ4_copyOf 23 = .ok (.arraylength, 1) := by decide +kernel
theorem dJ4_copyOf_24 : decode cJ4_copyOf 24 = .ok (.iload_n 1, 1) := by decide +kernel
theorem dJ4_copyOf_25 : decode cJ4_copyOf 25 = .ok (.invokestatic 304, 3) := by decide +kernel
theorem dJ4_copyOf_28 : decode cJ4_copyOf 28 = .ok (.invokestatic 150, 3) := by decide +kernel
theorem dJ4_copyOf_31 : decode cJ4_copyOf 31 = .ok (.aload_n 2, 1) := by decide +kernel
theorem dJ4_copyOf_32 : decode cJ4_copyOf 32 = .ok (.areturn, 1) := by decide +kernel
section RREF
variable {p : Program} {l : Launch} {e : Env} {R : Room} {s : State} {m : MethodId} {args : Array Value} {below : List Frame} {meth : Method} {c : Code} {H : Heap} {locs : List Loc} {cells slots : Nat} {cc : ByteArray}
theorem Rx.ref {Qy : Outcome → State → List Loc → Nat → Nat → Prop} {a : Addr} {t0 : FieldType} (hexec : p.tables.exec = Jvm.exec) (hb : c.code = cc) (hr : meth.sig.returnType = some (.array t0)) (hlocks : meth.locks = false)
    {pc : Nat} {ls : Array Slot} (hdg : decode cc pc = .ok (.areturn, 1)) (hq : ∀ t : State, t.heap = H → s.WarmedH t.vm → Qy (.returned (some (.ref a))) t locs cells slots) :
    W p l e R s m args below meth c H locs cells slots (MQx below Qy s) (F0 m pc ls [.ref a]) := by
  intro T hT X
  obtain ⟨fs, hret, hrun, hended, hW, hframe⟩ := X.leave (v := some (.ref a)) (fun h => by rw [hr] at h; cases h)
  have hmeth' : T.vm.method? m = some meth := X.method'
  refine ⟨T.setFrames fs, ?_, .returned (some (.ref a)), hrun, hended, locs, cells, slots, ⟨hW, hframe⟩, hq _ hT hW⟩
  jvm_step X.here [X.here.top, hexec, hb, hdg, hmeth', hr]
  (try refine ⟨rfl, ?_⟩); (try refine ⟨rfl, ?_⟩)
  first | (intro acts; rw [hret _ acts rfl rfl rfl]) | rw [hret _ _ rfl rfl rfl]
  exact Steps.refl _
end RREF
abbrev rmC (n : Nat) : Room := { frames := 2, cells := 1, slots := n, locals := 128 }
def Qcp (aI a n0 n1 : Nat) (f : Nat → Int32) (st : State) (o : Outcome) (t : State) (L : List Loc) (k n : Nat) : Prop :=
  ∃ q : Nat, o = .returned (some (.ref q)) ∧ st.heap.size ≤ q ∧ st.heap.size ≤ t.heap.size ∧ t.heap[q]? = some (vp_cell aI (n1, .inl (grw f n0))) ∧ (∀ q, q < st.heap.size → t.heap[q]? = st.heap[q]?) ∧ (∀ z ∈ L, z.base = a ∨ st.heap.size ≤ z.base) ∧ k = 1 ∧ n = n1
set_option maxHeartbeats 1000000 in
/-- Arrays.copyOf of an int array to a greater length -/
theorem met_copyOf (l : Launch) (E : Ev) (a n0 n1 : Nat) (f : Nat → Int32) (h01 : n0 < n1) (h1 : n1 ≤ 100000000) :
    MX l yJ4_copyOf (ws_ yJ4_copyOf cJ4_copyOf 3 (some (.array .int))) (rmC n1) (va_Pc [.ref a, .int (nI n1)] (fun U => U.heap[a]? = some (vp_cell E.2.1 (n0, .inl f)) ∧ va_K E.1 vwCl (tys E) U)) (fun _ => Qcp E.2.1 a n0 n1 f) := by
  refine MX.ofW (cc := cJ4_copyOf) (maxL := 3) (ret := some (.array .int)) (by decide) rfl ?_
  intro p e s m args below meth c s₁ B hml hex hv
  obtain ⟨rfl, hc, hK⟩ := hv
  have hx := B.exec
  have hb := B.bytes
  have hr := B.returns
  have hts := atoms_spec (ws := ws_ yJ4_copyOf cJ4_copyOf 3 (some (.array .int))) B.pre
  have hts : ∀ w ∈ lw_all, w.before _ s = true := fun w h => hts w (List.mem_cons_of_mem _ h)
  have hown : s.vm.findClass RJ4 = some m.cls := findClass_of_methodNamed B.named
  have hlk := B.notSynchronized
  have halt : a < s.heap.size := (Array.getElem?_eq_some_iff.mp hc).1
  have hP : va_P E.1 vwCl [(a, .inl (E.2.1, n0, .inl f))] s.heap := by
    intro k q hk
    have hz : k < 1 := (List.getElem?_eq_some_iff.mp hk).1
    rw [show k = 0 by omega] at hk
    cases hk
    exact hc
  have hD : va_D (fun q => q = a ∨ s.heap.size ≤ q) [((a, .inl (E.2.1, n0, .inl f)) : Nat × va_E)] := by
    refine ⟨fun i j x y hi hj _ => ?_, fun k q hk => ?_⟩
    · have := (List.getElem?_eq_some_iff.mp hi).1
      have := (List.getElem?_eq_some_iff.mp hj).1
      simp at *
      omega
    · have hz : k < 1 := (List.getElem?_eq_some_iff.mp hk).1
      rw [show k = 0 by omega] at hk
      cases hk
      exact Or.inl rfl
  have hA : ∀ q, s.heap.size ≤ q → (fun q => q = a ∨ s.heap.size ≤ q) q := fun q h => Or.inr h
  have hS : va_S (fun q => q = a ∨ s.heap.size ≤ q) s.heap s.heap [] := va_S.rf
  rw [lg_entry_eq]
  have hl := lv_entry ([.ref a, .int (nI n1)]) (n := 3) (Nat.le_of_ble_eq_true rfl)
  generalize (lg_sl ([.ref a, .int (nI n1)]) ++ List.replicate (3 - (lg_sl ([.ref a, .int (nI n1)])).length) Slot.unset).toArray = ls at hl ⊢
  have hl : lv_has ls 3 [(0, .ref a), (1, .int (nI n1))] := hl
  refine lv_iload_n hx hb dJ4_copyOf_0 rfl (lv_at hl 1 rfl) ?_
  refine lv_aload_n hx hb dJ4_copyOf_1 rfl (lv_at hl 0 rfl) ?_
  refine va_alen (v := nI n0) hx hb hK hP 0 0 rfl rfl rfl dJ4_copyOf_2 ?_
  refine lv_icmp_ne (tgt := 14) hx hb dJ4_copyOf_3 (by decide) (fun _ => ?_) (fun h => absurd ((nI_eq (by omega) (by omega)).mp h) (by omega))
  refine lv_iload_n hx hb dJ4_copyOf_14 rfl (lv_at hl 1 rfl) ?_
  refine va_newa (atype := .int) (ty := .int) (N' := n1) (a0 := (n1, .inl (fun _ => 0))) hx hb (hts _ q248) rfl hK hP hD hS hA (fun cA => rfl) (nI_pos (by omega)) (nI_clamp (by omega)) (by show n1 * 4 ≤ _; omega) (by show 0 + 1 ≤ 1; omega) (by show 0 + n1 ≤ n1; omega) dJ4_copyOf_15 (fun q cA H hK2 hP hD hS => ?_)
  have hcA : cA = E.2.1 := by
    have h1 := va_nm_int (hK.2 0 _ rfl).2
    have h2 := va_nm_int (hK2.2 2 _ rfl).2
    exact Option.some.inj (h2.symm.trans h1)
  subst hcA
  have hP : va_P E.1 vwCl [(a, .inl (E.2.1, n0, .inl f)), (q, .inl (E.2.1, n1, .inl (fun _ => 0)))] H := hP
  have hD : va_D (fun q => q = a ∨ s.heap.size ≤ q) [(a, .inl (E.2.1, n0, .inl f)), (q, .inl (E.2.1, n1, .inl (fun _ => 0)))] := hD
  refine lv_astore_n (lv' := [(2, .ref q), (0, .ref a), (1, .int (nI n1))]) hx hb dJ4_copyOf_17 rfl hl (by decide) rfl (fun ls hl => ?_)
  refine lv_aload_n hx hb dJ4_copyOf_18 rfl (lv_at hl 1 rfl) ?_
  refine lv_iconst (v := 0) hx hb dJ4_copyOf_19 (by decide) ?_
  refine lv_aload_n hx hb dJ4_copyOf_20 rfl (lv_at hl 0 rfl) ?_
  refine lv_iconst (v := 0) hx hb dJ4_copyOf_21 (by decide) ?_
  refine lv_aload_n hx hb dJ4_copyOf_22 rfl (lv_at hl 1 rfl) ?_
  refine va_alen (v := nI n0) hx hb hK hP 0 0 rfl rfl rfl dJ4_copyOf_23 ?_
  refine lv_iload_n hx hb dJ4_copyOf_24 rfl (lv_at hl 2 rfl) ?_
  refine va_mmin hx hb (by rw [hml]; exact hl.1.symm) hown (hts _ q355) (hts _ q356) (hts _ q68) (hts _ q357) (by show 1 ≤ 2; omega) (by show 4 + 13 ≤ 128; omega) (by show 0 + 1 ≤ 1; omega) (by show 0 + n1 ≤ n1; omega) dJ4_copyOf_25 ?_
  rw [if_neg (by rw [nI_ltI (by omega) (by omega)]; omega)]
  have hc0 : (nI n0).toNatClampNeg = n0 := nI_clamp (by omega)
  refine va_copyi hx hb (by rw [hml]; exact hl.1.symm) hown (hts _ q358) (hts _ q360) (hts _ q359) (hts _ q69) hK hP hD hS 0 1 0 0 rfl rfl rfl rfl rfl (by decide) (by decide) (nI_pos (by omega)) (by rw [hc0]; show 0 + n0 ≤ n0; omega) (by rw [hc0]; show 0 + n0 ≤ n1; omega) (fun i _ => rfl) (by show 1 ≤ 2; omega) (by show 0 + (_ + 11) ≤ 128; decide) dJ4_copyOf_28 (fun H locs hP hD hS => ?_)
  rw [hc0] at hP hD
  have hP : va_P E.1 vwCl [(a, .inl (E.2.1, n0, .inl f)), (q, .inl (E.2.1, n1, .inl (va_cpy f (fun _ => 0) 0 0 n0)))] H := hP
  have hD : va_D (fun q => q = a ∨ s.heap.size ≤ q) [(a, .inl (E.2.1, n0, .inl f)), (q, .inl (E.2.1, n1, .inl (va_cpy f (fun _ => 0) 0 0 n0)))] := hD
  refine lv_aload_n hx hb dJ4_copyOf_31 rfl (lv_at hl 0 rfl) ?_
  have hqa : q ≠ a := fun z => absurd (hD.1 1 0 _ _ rfl rfl z) (by decide)
  have hqs : s.heap.size ≤ q := by
    rcases hD.2 1 _ rfl with h | h
    · exact absurd h hqa
    · exact h
  have hcp : va_cpy f (fun _ => 0) 0 0 n0 = grw f n0 := by
    funext j
    simp [va_cpy, grw]
  rw [hcp] at hP
  refine Rx.ref hx hb hr hlk dJ4_copyOf_32 fun t ht hW => ?_
  refine ⟨q, rfl, hqs, by rw [ht]; exact hS.1, by rw [ht]; exact hP 1 _ rfl, fun z hz => ?_, hS.2.2, rfl, by omega⟩
  rw [ht]
  by_cases hza : z = a
  · subst hza
    have h3 : H[z]? = some (vp_cell E.2.1 (n0, .inl f)) := hP 0 _ rfl
    rw [h3, hc]
  · exact hS.2.1 z hz (fun h => by
      rcases h with h | h
      · exact hza h
      · omega)
