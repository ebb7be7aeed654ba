/-! ===== THE START: what the Statement gives of the first state is what holds all through the run ===== -/
theorem x_OFof {args : Array Value} {s : State} {t : Term} {o n d : String} {v : Int32} {a : Nat} {A : Nat → Prop} (ht : t.eval args s none [] s = some (.ref a)) (h : (Cond.eq (.field t o n d) (.int v)).before args s = true) (hA : ∀ a : Nat, a < s.heap.size → ¬ A a) : va_OF o n d (.int v) a A s s.heap := by
  have hv := va_eqv h (v := .int v) rfl
  cases hfo : s.fieldFound? o n d with
  | none =>
    rw [va_fe ht] at hv
    simp [State.fieldOf?, State.fieldNamed?, hfo] at hv
  | some x =>
    obtain ⟨cf, k, fi, f⟩ := x
    obtain ⟨g1, cell, g2, g3, -, -, g6⟩ := Term.field_spec hfo ht hv
    exact ⟨cf, k, fi, f, cell, hfo, g1, g2, g3, g6, hA _ (Array.getElem?_eq_some_iff.mp g2).1⟩
theorem x_exE {args : Array Value} {s : State} {t : Term} {cls : String} (h : (Cond.exactly t cls).before args s = true) : ∃ a : Nat, t.eval args s none [] s = some (.ref a) := by
  obtain ⟨a, c, cA, kA, q1, -⟩ := Cond.exactly_spec (args := args) (first := s) (o := none) (s := s) (idx := []) (t := t) (cls := cls) h
  exact ⟨a, q1⟩
theorem x_arrT {args : Array Value} {s : State} {ty : FieldType} (h : (Cond.arrayClass ty).before args s = true) (hr : ∀ cA, s.vm.findClass ("[" ++ ty.toString) = some cA → va_RA s cA ty) : ∃ cA : ClassId, ArrOfT s cA ty ∧ va_RA s cA ty := by
  obtain ⟨c, k, comp, h1, h2, h3⟩ := Cond.arrayClass_spec (args := args) (first := s) (o := none) (s := s) (idx := []) h
  exact ⟨c, fun n z => ⟨fun k h => (by cases h), k, h2, comp, h3⟩, hr c h1⟩
theorem x_arrO {args : Array Value} {s : State} {n : String} (h : (Cond.arrayOver (.object n)).before args s = true) : ∃ cA : ClassId, ArrOfT s cA (.object n) ∧ va_RA s cA (.object n) := by
  obtain ⟨comp, c, k, h1, -, h2, h3, h4⟩ := Cond.arrayOver_spec (args := args) (first := s) (o := none) (s := s) (idx := []) h
  exact ⟨c, fun n z => ⟨fun k h => (by cases h), k, h2, comp, h3⟩, k, comp, h2, h3, h1, h4⟩
theorem x_size {args : Array Value} {s : State} {t : Term} {N : Nat} (hN : N < 2147483647) {a : Nat} {cell : Cell} (hc : t.closed = true) (ht : t.eval args s none [] s = some (.ref a)) (hat : s.arrayAt? a = some cell) (hall : (Cond.all t (.le (.index 0) (.int (Int32.ofNat N)))).before args s = true) : cell.slots.size ≤ N + 1 := by
  have hall' := Cond.all_elim ht hat (by simpa [Cond.before, Cond.holds] using hall)
  apply Nat.not_lt.mp
  intro hlt
  have h := hall' (N + 1) hlt
  simp only [Cond.value, Term.eval] at h
  have e1 : (Int32.ofNat (N + 1)).toInt = ((N + 1 : Nat) : Int) := Int32.toInt_ofNat_of_lt (by omega)
  have e2 : (Int32.ofNat N).toInt = (N : Int) := Int32.toInt_ofNat_of_lt (by omega)
  simp [Int32.le_iff_toInt_le] at h
  first
    | omega
    | (have h9 : (Int32.ofNat (N + 1)).toInt ≤ (Int32.ofNat N).toInt := by simpa using h
       omega)
set_option maxHeartbeats 4000000 in
theorem xS_start {s : State} {b : Nat} (l : Launch) (hts : ∀ w ∈ lw_tbl, w.before #[Value.ref b] s = true) (hg : (Cond.and given_1 narrow_1).before #[Value.ref b] s = true) : ∃ (D : va_G) (gh : Nat → Nat), xS (l, D, gh, s.heap.size) s s.heap := by
  have hn := flat_of_before _ hg
  have hta : ∀ w ∈ lw_all, w.before #[Value.ref b] s = true := fun w h => hts w (lw_all_tbl h)
  have hA : ∀ a : Nat, a < s.heap.size → ¬ (fun q : Nat => s.heap.size ≤ q) a := fun a h q => absurd h (Nat.not_lt.mpr q)
  obtain ⟨cC0, iS0, hK0⟩ := u_known (n := 7) hta in_X1 (hts _ (lw_all_tbl q57))
  obtain ⟨cC1, iS1, hK1⟩ := u_known (n := 3) hta in_J2 (hts _ (lw_all_tbl q65))
  obtain ⟨cC2, iS2, hK2⟩ := u_known (n := 5) hta in_X3 (hts _ (lw_all_tbl q464))
  obtain ⟨cC3, iS3, hK3⟩ := u_known (n := 15) hta in_X4 (hts _ (lw_all_tbl q496))
  obtain ⟨cC4, iS4, hK4⟩ := u_known (n := 30) hta in_X2 (hts _ (lw_all_tbl q968))
  obtain ⟨cC5, iS5, hK5⟩ := u_known (n := 4) hta in_J20 (hts _ (lw_all_tbl q137))
  obtain ⟨cC6, iS6, hK6⟩ := u_known (n := 6) hta in_J16 (hts _ (lw_all_tbl q661))
  obtain ⟨cC7, iS7, hK7⟩ := u_known (n := 6) hta in_X7 (hts _ (lw_all_tbl q832))
  obtain ⟨ca0, hT0, hR0⟩ := x_arrT (ty := .int) (hts _ (lw_all_tbl q560)) (fun cA h => h)
  obtain ⟨ca1, hT1, hR1⟩ := x_arrT (ty := .boolean) (hts _ (lw_all_tbl q847)) (fun cA h => h)
  obtain ⟨ca2, hT2, hR2⟩ := x_arrT (ty := .long) (hts _ (lw_all_tbl q1264)) (fun cA h => h)
  obtain ⟨ca3, hT3, hR3⟩ := x_arrT (ty := .double) (hts _ (lw_all_tbl q1265)) (fun cA h => h)
  obtain ⟨ca4, hT4, hR4⟩ := x_arrO (n := "java/lang/Object") (hts _ q364)
  obtain ⟨ca5, hT5, hR5⟩ := x_arrO (n := "SelectoRoute$Coin") (hts _ q654)
  obtain ⟨t301, he301, hT301⟩ := va_Tof (args := #[Value.ref b]) (s := s) (tm := .static "java/util/ArrayList" "DEFAULTCAPACITY_EMPTY_ELEMENTDATA" "[Ljava/lang/Object;") (ty := .object "java/lang/Object") (N := 0) (f := fun _ => .null) (A := fun q : Nat => s.heap.size ≤ q) (by decide) (hn _ (by decide +kernel)) (va_eqv (hn (.eq (.length (.static "java/util/ArrayList" "DEFAULTCAPACITY_EMPTY_ELEMENTDATA" "[Ljava/lang/Object;")) (.int 0)) (by decide +kernel)) rfl) (fun j hj => absurd hj (Nat.not_lt_zero j)) hA
  have hZ301 := va_Zof (A := fun q : Nat => s.heap.size ≤ q) (hts _ q77) (hts _ (lw_all_tbl q27)) he301 hA
  have hlen := va_eqv (hn (.eq (.length (.static "java/lang/Integer$IntegerCache" "cache" "[Ljava/lang/Integer;")) (.int 256)) (by decide +kernel)) (v := .int (Int32.ofNat 256)) rfl
  obtain ⟨cI, hC, hel⟩ := vb_Cof (A := fun q : Nat => s.heap.size ≤ q) (st := .static "java/lang/Integer$IntegerCache" "cache" "[Ljava/lang/Integer;") rfl hlen (hn _ (by decide +kernel)) hA
  obtain ⟨t300, he300, hT300⟩ := va_Tof (args := #[Value.ref b]) (s := s) (tm := .static "java/lang/Integer$IntegerCache" "cache" "[Ljava/lang/Integer;") (ty := .object "java/lang/Integer") (N := 256) (f := fun k => .ref (cI k)) (A := fun q : Nat => s.heap.size ≤ q) (by decide) (hn _ (by decide +kernel)) hlen hel hA
  have hZ300 := va_Zof (A := fun q : Nat => s.heap.size ≤ q) (hts _ q297) (hts _ (lw_all_tbl q51)) he300 hA
  have hZhi := va_Zof (A := fun q : Nat => s.heap.size ≤ q) (v := .int 127) (hts _ q295) (hts _ (lw_all_tbl q51)) (va_eqv (hn (.eq (.static "java/lang/Integer$IntegerCache" "high" "I") (.int 127)) (by decide +kernel)) rfl) hA
  obtain ⟨k0, hk0⟩ := x_exE (hn (.exactly (.static "SelectoRoute$Coin" "NICKEL" "LSelectoRoute$Coin;") "SelectoRoute$Coin") (by decide +kernel))
  have hO0 := va_Oof (A := fun q : Nat => s.heap.size ≤ q) (hn (.exactly (.static "SelectoRoute$Coin" "NICKEL" "LSelectoRoute$Coin;") "SelectoRoute$Coin") (by decide +kernel)) hk0 hA
  have hl0 := x_OFof (A := fun q : Nat => s.heap.size ≤ q) hk0 (hn (.eq (.field (.static "SelectoRoute$Coin" "NICKEL" "LSelectoRoute$Coin;") "SelectoRoute$Coin" "letter" "C") (.int 110)) (by decide +kernel)) hA
  have hc0 := x_OFof (A := fun q : Nat => s.heap.size ≤ q) hk0 (hn (.eq (.field (.static "SelectoRoute$Coin" "NICKEL" "LSelectoRoute$Coin;") "SelectoRoute$Coin" "cents" "I") (.int 5)) (by decide +kernel)) hA
  have hv0 := va_eqv (hn (.eq (.elem (.static "SelectoRoute$Coin" "$VALUES" "[LSelectoRoute$Coin;") (.int 0)) (.static "SelectoRoute$Coin" "NICKEL" "LSelectoRoute$Coin;")) (by decide +kernel)) hk0
  obtain ⟨k1, hk1⟩ := x_exE (hn (.exactly (.static "SelectoRoute$Coin" "DIME" "LSelectoRoute$Coin;") "SelectoRoute$Coin") (by decide +kernel))
  have hO1 := va_Oof (A := fun q : Nat => s.heap.size ≤ q) (hn (.exactly (.static "SelectoRoute$Coin" "DIME" "LSelectoRoute$Coin;") "SelectoRoute$Coin") (by decide +kernel)) hk1 hA
  have hl1 := x_OFof (A := fun q : Nat => s.heap.size ≤ q) hk1 (hn (.eq (.field (.static "SelectoRoute$Coin" "DIME" "LSelectoRoute$Coin;") "SelectoRoute$Coin" "letter" "C") (.int 100)) (by decide +kernel)) hA
  have hc1 := x_OFof (A := fun q : Nat => s.heap.size ≤ q) hk1 (hn (.eq (.field (.static "SelectoRoute$Coin" "DIME" "LSelectoRoute$Coin;") "SelectoRoute$Coin" "cents" "I") (.int 10)) (by decide +kernel)) hA
  have hv1 := va_eqv (hn (.eq (.elem (.static "SelectoRoute$Coin" "$VALUES" "[LSelectoRoute$Coin;") (.int 1)) (.static "SelectoRoute$Coin" "DIME" "LSelectoRoute$Coin;")) (by decide +kernel)) hk1
  obtain ⟨k2, hk2⟩ := x_exE (hn (.exactly (.static "SelectoRoute$Coin" "QUARTER" "LSelectoRoute$Coin;") "SelectoRoute$Coin$1") (by decide +kernel))
  have hO2 := va_Oof (A := fun q : Nat => s.heap.size ≤ q) (hn (.exactly (.static "SelectoRoute$Coin" "QUARTER" "LSelectoRoute$Coin;") "SelectoRoute$Coin$1") (by decide +kernel)) hk2 hA
  have hl2 := x_OFof (A := fun q : Nat => s.heap.size ≤ q) hk2 (hn (.eq (.field (.static "SelectoRoute$Coin" "QUARTER" "LSelectoRoute$Coin;") "SelectoRoute$Coin" "letter" "C") (.int 113)) (by decide +kernel)) hA
  have hc2 := x_OFof (A := fun q : Nat => s.heap.size ≤ q) hk2 (hn (.eq (.field (.static "SelectoRoute$Coin" "QUARTER" "LSelectoRoute$Coin;") "SelectoRoute$Coin" "cents" "I") (.int 25)) (by decide +kernel)) hA
  have hv2 := va_eqv (hn (.eq (.elem (.static "SelectoRoute$Coin" "$VALUES" "[LSelectoRoute$Coin;") (.int 2)) (.static "SelectoRoute$Coin" "QUARTER" "LSelectoRoute$Coin;")) (by decide +kernel)) hk2
  obtain ⟨k3, hk3⟩ := x_exE (hn (.exactly (.static "SelectoRoute$Coin" "SLUG" "LSelectoRoute$Coin;") "SelectoRoute$Coin$2") (by decide +kernel))
  have hO3 := va_Oof (A := fun q : Nat => s.heap.size ≤ q) (hn (.exactly (.static "SelectoRoute$Coin" "SLUG" "LSelectoRoute$Coin;") "SelectoRoute$Coin$2") (by decide +kernel)) hk3 hA
  have hl3 := x_OFof (A := fun q : Nat => s.heap.size ≤ q) hk3 (hn (.eq (.field (.static "SelectoRoute$Coin" "SLUG" "LSelectoRoute$Coin;") "SelectoRoute$Coin" "letter" "C") (.int 115)) (by decide +kernel)) hA
  have hc3 := x_OFof (A := fun q : Nat => s.heap.size ≤ q) hk3 (hn (.eq (.field (.static "SelectoRoute$Coin" "SLUG" "LSelectoRoute$Coin;") "SelectoRoute$Coin" "cents" "I") (.int 0)) (by decide +kernel)) hA
  have hv3 := va_eqv (hn (.eq (.elem (.static "SelectoRoute$Coin" "$VALUES" "[LSelectoRoute$Coin;") (.int 3)) (.static "SelectoRoute$Coin" "SLUG" "LSelectoRoute$Coin;")) (by decide +kernel)) hk3
  have hZq := va_Zof (A := fun q : Nat => s.heap.size ≤ q) (hts _ q690) (hts _ (lw_all_tbl q46)) hk2 hA
  obtain ⟨t320, c320, cell, kv, he320, hf320, hcell, hkv, hst, hcl, -⟩ := Cond.exactly_spec (args := #[Value.ref b]) (first := s) (o := none) (s := s) (idx := []) (hn (.exactly (.static "SelectoRoute$Coin" "$VALUES" "[LSelectoRoute$Coin;") "[LSelectoRoute$Coin;") (by decide +kernel))
  have hZv := va_Zof (A := fun q : Nat => s.heap.size ≤ q) (hts _ q647) (hts _ (lw_all_tbl q46)) he320 hA
  obtain ⟨t9, he9, hT9⟩ := va_Tof (args := #[Value.ref b]) (s := s) (tm := .static "SelectoRoute$Coin" "$VALUES" "[LSelectoRoute$Coin;") (ty := .object "SelectoRoute$Coin") (N := 4) (f := fun k => .ref ([k0, k1, k2, k3].getD k 0)) (A := fun q : Nat => s.heap.size ≤ q) (by decide) (hn _ (by decide +kernel)) (va_eqv (hn (.eq (.length (.static "SelectoRoute$Coin" "$VALUES" "[LSelectoRoute$Coin;")) (.int 4)) (by decide +kernel)) rfl) (fun j hj => by
    match j, hj with
    | 0, _ => exact hv0
    | 1, _ => exact hv1
    | 2, _ => exact hv2
    | 3, _ => exact hv3) hA
  cases he320.symm.trans he9
  obtain ⟨cell9, z1, z2, z3, z4, z5, z6, z7⟩ := hT9
  cases hcell.symm.trans z1
  obtain ⟨tA, cA, ht1, hat1, -⟩ := Term.length_spec (va_eqv (hn (.eq (.length (.static "SelectoRoute$Coin" "$VALUES" "[LSelectoRoute$Coin;")) (.int 4)) (by decide +kernel)) (v := .int 4) rfl)
  cases he320.symm.trans ht1
  obtain ⟨hcA, -⟩ := State.arrayAt?_spec hat1
  cases hcell.symm.trans hcA
  have hsz := x_size (N := 3) (by decide) rfl he320 hat1 (hn _ (by decide +kernel))
  obtain ⟨mi, hmi⟩ := va_Mi.of (hn (.isRef (.mirror "[Ljava/lang/Object;")) (by decide +kernel))
  obtain ⟨s1, hs1⟩ := x_exE (hn (.exactly (.string "SelectoRoute" 204) "java/lang/String") (by decide +kernel))
  obtain ⟨s2, hs2⟩ := x_exE (hn (.exactly (.string "SelectoRoute" 209) "java/lang/String") (by decide +kernel))
  obtain ⟨gh, hgh⟩ : ∃ gh : Nat → Nat, gh = fun k => if k < 256 then cI k else if k = 300 then t300 else if k = 301 then t301 else if k = 310 then k0 else if k = 311 then k1 else if k = 312 then k2 else if k = 313 then k3 else if k = 320 then t320 else if k = 1000 then ca0 else if k = 1001 then ca1 else if k = 1002 then ca2 else if k = 1003 then ca3 else if k = 1004 then ca4 else if k = 1005 then ca5 else if k = 1010 then mi else if k = 1011 then s1 else s2 := ⟨_, rfl⟩
  have hlow : ∀ k, k < 256 → gh k = cI k := fun k hk => by rw [hgh]; exact if_pos hk
  have g300 : gh 300 = t300 := by rw [hgh]; rfl
  have g301 : gh 301 = t301 := by rw [hgh]; rfl
  have g310 : gh 310 = k0 := by rw [hgh]; rfl
  have g311 : gh 311 = k1 := by rw [hgh]; rfl
  have g312 : gh 312 = k2 := by rw [hgh]; rfl
  have g313 : gh 313 = k3 := by rw [hgh]; rfl
  have g320 : gh 320 = t320 := by rw [hgh]; rfl
  have g1000 : gh 1000 = ca0 := by rw [hgh]; rfl
  have g1001 : gh 1001 = ca1 := by rw [hgh]; rfl
  have g1002 : gh 1002 = ca2 := by rw [hgh]; rfl
  have g1003 : gh 1003 = ca3 := by rw [hgh]; rfl
  have g1004 : gh 1004 = ca4 := by rw [hgh]; rfl
  have g1005 : gh 1005 = ca5 := by rw [hgh]; rfl
  have g1010 : gh 1010 = mi := by rw [hgh]; rfl
  have g1011 : gh 1011 = s1 := by rw [hgh]; rfl
  have g1012 : gh 1012 = s2 := by rw [hgh]; rfl
  refine ⟨(fun i => [cC0, cC1, cC2, cC3, cC4, cC5, cC6, cC7].getD i 0, fun i => match i with | 0 => iS0 | 1 => iS1 | 2 => iS2 | 3 => iS3 | 4 => iS4 | 5 => iS5 | 6 => iS6 | _ => iS7), gh, ⟨⟨?_, ?_⟩, va_AO.of (hts _ q364), va_Dc.of (hts _ q1294), ?_, ?_, va_Nw.of rfl (hts _ q656), ?_, ?_, ?_, ?_, ?_, ?_⟩, ?_, ?_, ?_, ?_, ?_, ?_, ?_, ?_, ?_, ?_, ?_, ?_⟩
  · intro c r hc
    match c, hc with
    | 0, hc => cases hc; exact hK0
    | 1, hc => cases hc; exact hK1
    | 2, hc => cases hc; exact hK2
    | 3, hc => cases hc; exact hK3
    | 4, hc => cases hc; exact hK4
    | 5, hc => cases hc; exact hK5
    | 6, hc => cases hc; exact hK6
    | 7, hc => cases hc; exact hK7
  · intro k r hk
    match k, hk with
    | 0, hk => cases hk; show ArrOfT s (gh 1000) _ ∧ va_RA s (gh 1000) _; rw [g1000]; exact ⟨hT0, hR0⟩
    | 1, hk => cases hk; show ArrOfT s (gh 1001) _ ∧ va_RA s (gh 1001) _; rw [g1001]; exact ⟨hT1, hR1⟩
    | 2, hk => cases hk; show ArrOfT s (gh 1002) _ ∧ va_RA s (gh 1002) _; rw [g1002]; exact ⟨hT2, hR2⟩
    | 3, hk => cases hk; show ArrOfT s (gh 1003) _ ∧ va_RA s (gh 1003) _; rw [g1003]; exact ⟨hT3, hR3⟩
    | 4, hk => cases hk; show ArrOfT s (gh 1004) _ ∧ va_RA s (gh 1004) _; rw [g1004]; exact ⟨hT4, hR4⟩
    | 5, hk => cases hk; show ArrOfT s (gh 1005) _ ∧ va_RA s (gh 1005) _; rw [g1005]; exact ⟨hT5, hR5⟩
  · show va_Mi _ (gh 1010) s; rw [g1010]; exact hmi
  · exact (List.forall_mem_cons.mpr ⟨va_Nw.of rfl (hts _ q80), (List.forall_mem_cons.mpr ⟨va_Nw.of rfl (hts _ q470), (List.forall_mem_cons.mpr ⟨va_Nw.of rfl (hts _ q474), (List.forall_mem_cons.mpr ⟨va_Nw.of rfl (hts _ q475), (List.forall_mem_cons.mpr ⟨va_Nw.of rfl (hts _ q477), (List.forall_mem_cons.mpr ⟨va_Nw.of rfl (hts _ q507), (List.forall_mem_cons.mpr ⟨va_Nw.of rfl (hts _ q509), (List.forall_mem_cons.mpr ⟨va_Nw.of rfl (hts _ q511), (List.forall_mem_cons.mpr ⟨va_Nw.of rfl (hts _ q513), (List.forall_mem_cons.mpr ⟨va_Nw.of rfl (hts _ q515), (List.forall_mem_cons.mpr ⟨va_Nw.of rfl (hts _ q517), (List.forall_mem_cons.mpr ⟨va_Nw.of rfl (hts _ q518), (List.forall_mem_cons.mpr ⟨va_Nw.of rfl (hts _ q519), (List.forall_mem_cons.mpr ⟨va_Nw.of rfl (hts _ q521), (List.forall_mem_cons.mpr ⟨va_Nw.of rfl (hts _ q522), (List.forall_mem_cons.mpr ⟨va_Nw.of rfl (hts _ q524), (List.forall_mem_cons.mpr ⟨va_Nw.of rfl (hts _ q525), (List.forall_mem_cons.mpr ⟨va_Nw.of rfl (hts _ q526), (List.forall_mem_cons.mpr ⟨va_Nw.of rfl (hts _ q527), (List.forall_mem_cons.mpr ⟨va_Nw.of rfl (hts _ q528), (List.forall_mem_cons.mpr ⟨va_Nw.of rfl (hts _ q1304), (fun _ h => nomatch h)⟩)⟩)⟩)⟩)⟩)⟩)⟩)⟩)⟩)⟩)⟩)⟩)⟩)⟩)⟩)⟩)⟩)⟩)⟩)⟩)⟩)
  · exact (List.forall_mem_cons.mpr ⟨va_Nw.of rfl (hts _ q159), (List.forall_mem_cons.mpr ⟨va_Nw.of rfl (hts _ q180), (List.forall_mem_cons.mpr ⟨va_Nw.of rfl (hts _ q385), (List.forall_mem_cons.mpr ⟨va_Nw.of rfl (hts _ q433), (List.forall_mem_cons.mpr ⟨va_Nw.of rfl (hts _ q451), (List.forall_mem_cons.mpr ⟨va_Nw.of rfl (hts _ q588), (List.forall_mem_cons.mpr ⟨va_Nw.of rfl (hts _ q611), (List.forall_mem_cons.mpr ⟨va_Nw.of rfl (hts _ q653), (List.forall_mem_cons.mpr ⟨va_Nw.of rfl (hts _ q662), (List.forall_mem_cons.mpr ⟨va_Nw.of rfl (hts _ q833), (List.forall_mem_cons.mpr ⟨va_Nw.of rfl (hts _ q946), (List.forall_mem_cons.mpr ⟨va_Nw.of rfl (hts _ q1269), (List.forall_mem_cons.mpr ⟨va_Nw.of rfl (hts _ q1270), (List.forall_mem_cons.mpr ⟨va_Nw.of rfl (hts _ q1271), (List.forall_mem_cons.mpr ⟨va_Nw.of rfl (hts _ q1272), (List.forall_mem_cons.mpr ⟨va_Nw.of rfl (hts _ q1273), (List.forall_mem_cons.mpr ⟨va_Nw.of rfl (hts _ q1274), (List.forall_mem_cons.mpr ⟨va_Nw.of rfl (hts _ q1275), (List.forall_mem_cons.mpr ⟨va_Nw.of rfl (hts _ q1276), (List.forall_mem_cons.mpr ⟨va_Nw.of rfl (hts _ q1277), (List.forall_mem_cons.mpr ⟨va_Nw.of rfl (hts _ q1278), (List.forall_mem_cons.mpr ⟨va_Nw.of rfl (hts _ q1279), (List.forall_mem_cons.mpr ⟨va_Nw.of rfl (hts _ q1280), (List.forall_mem_cons.mpr ⟨va_Nw.of rfl (hts _ q1281), (List.forall_mem_cons.mpr ⟨va_Nw.of rfl (hts _ q1282), (List.forall_mem_cons.mpr ⟨va_Nw.of rfl (hts _ q1283), (List.forall_mem_cons.mpr ⟨va_Nw.of rfl (hts _ q1284), (List.forall_mem_cons.mpr ⟨va_Nw.of rfl (hts _ q1285), (List.forall_mem_cons.mpr ⟨va_Nw.of rfl (hts _ q1286), (List.forall_mem_cons.mpr ⟨va_Nw.of rfl (hts _ q1287), (List.forall_mem_cons.mpr ⟨va_Nw.of rfl (hts _ q1288), (List.forall_mem_cons.mpr ⟨va_Nw.of rfl (hts _ q1289), (List.forall_mem_cons.mpr ⟨va_Nw.of rfl (hts _ q1290), (List.forall_mem_cons.mpr ⟨va_Nw.of rfl (hts _ q1291), (List.forall_mem_cons.mpr ⟨va_Nw.of rfl (hts _ q1295), (List.forall_mem_cons.mpr ⟨va_Nw.of rfl (hts _ q1296), (List.forall_mem_cons.mpr ⟨va_Nw.of rfl (hts _ q1297), (List.forall_mem_cons.mpr ⟨va_Nw.of rfl (hts _ q1298), (List.forall_mem_cons.mpr ⟨va_Nw.of rfl (hts _ q1299), (List.forall_mem_cons.mpr ⟨va_Nw.of rfl (hts _ q1300), (List.forall_mem_cons.mpr ⟨va_Nw.of rfl (hts _ q1301), (fun _ h => nomatch h)⟩)⟩)⟩)⟩)⟩)⟩)⟩)⟩)⟩)⟩)⟩)⟩)⟩)⟩)⟩)⟩)⟩)⟩)⟩)⟩)⟩)⟩)⟩)⟩)⟩)⟩)⟩)⟩)⟩)⟩)⟩)⟩)⟩)⟩)⟩)⟩)⟩)⟩)⟩)⟩)⟩)
  · exact (List.forall_mem_cons.mpr ⟨va_Nw.of rfl (hts _ q181), (List.forall_mem_cons.mpr ⟨va_Nw.of rfl (hts _ q182), (List.forall_mem_cons.mpr ⟨va_Nw.of rfl (hts _ q183), (List.forall_mem_cons.mpr ⟨va_Nw.of rfl (hts _ q184), (List.forall_mem_cons.mpr ⟨va_Nw.of rfl (hts _ q185), (List.forall_mem_cons.mpr ⟨va_Nw.of rfl (hts _ q186), (List.forall_mem_cons.mpr ⟨va_Nw.of rfl (hts _ q589), (List.forall_mem_cons.mpr ⟨va_Nw.of rfl (hts _ q590), (fun _ h => nomatch h)⟩)⟩)⟩)⟩)⟩)⟩)⟩)⟩)
  · exact (List.forall_mem_cons.mpr ⟨va_Fw.of (hts _ q158) (hts _ q157) (hts _ q163) (hts _ q161) (hts _ q159), (List.forall_mem_cons.mpr ⟨va_Fw.of (hts _ q168) (hts _ q167) (hts _ q172) (hts _ q170) (hts _ q159), (List.forall_mem_cons.mpr ⟨va_Fw.of (hts _ q384) (hts _ q383) (hts _ q388) (hts _ q387) (hts _ q385), (List.forall_mem_cons.mpr ⟨va_Fw.of (hts _ q392) (hts _ q391) (hts _ q395) (hts _ q394) (hts _ q385), (List.forall_mem_cons.mpr ⟨va_Fw.of (hts _ q404) (hts _ q403) (hts _ q408) (hts _ q406) (hts _ q385), (fun _ h => nomatch h)⟩)⟩)⟩)⟩)⟩)
  · exact fun q hq => va_Nc.of (hn _ ((by decide +kernel : ∀ q ∈ xnc, Cond.not (.castable q.1 q.2) ∈ flatC (Cond.and given_1 narrow_1)) q hq))
  · show vk_R _ _ _ (gh 1011) s; rw [g1011]; exact vk_R.of (hts _ q840) hs1
  · show vk_R _ _ _ (gh 1012) s; rw [g1012]; exact vk_R.of (hts _ q848) hs2
  · exact vx_Zqof (hts _ q205) (hts _ (lw_all_tbl q29)) (hn _ (by decide +kernel)) hA
  · exact vx_Zqof (hts _ q207) (hts _ (lw_all_tbl q29)) (hn _ (by decide +kernel)) hA
  · exact ⟨fun k hk => by show va_O _ (gh k) _ _ _; rw [hlow k hk]; exact hC.1 k hk, fun k hk => by show va_OF _ _ _ _ (gh k) _ _ _; rw [hlow k hk]; exact hC.2 k hk⟩
  · exact hZhi
  · show va_Z _ _ _ (.ref (gh 300)) _ _ _; rw [g300]; exact hZ300
  · show va_T _ (gh 300) _ _ _ _ _; rw [g300]; obtain ⟨c7, y1, y2, y3, y4, y5, y6, y7⟩ := hT300; exact ⟨c7, y1, y2, y3, y4, y5, fun j hj => by show c7.slots[j]? = some (Value.ref (gh j)); rw [hlow j hj]; exact y6 j hj, y7⟩
  · show va_Z _ _ _ (.ref (gh 301)) _ _ _; rw [g301]; exact hZ301
  · show va_T _ (gh 301) _ _ _ _ _; rw [g301]; exact hT301
  · intro i hi
    match i, hi with
    | 0, _ => show va_O _ (gh 310) _ _ _ ∧ va_OF _ _ _ _ (gh 310) _ _ _ ∧ va_OF _ _ _ _ (gh 310) _ _ _; rw [g310]; exact ⟨hO0, hl0, hc0⟩
    | 1, _ => show va_O _ (gh 311) _ _ _ ∧ va_OF _ _ _ _ (gh 311) _ _ _ ∧ va_OF _ _ _ _ (gh 311) _ _ _; rw [g311]; exact ⟨hO1, hl1, hc1⟩
    | 2, _ => show va_O _ (gh 312) _ _ _ ∧ va_OF _ _ _ _ (gh 312) _ _ _ ∧ va_OF _ _ _ _ (gh 312) _ _ _; rw [g312]; exact ⟨hO2, hl2, hc2⟩
    | 3, _ => show va_O _ (gh 313) _ _ _ ∧ va_OF _ _ _ _ (gh 313) _ _ _ ∧ va_OF _ _ _ _ (gh 313) _ _ _; rw [g313]; exact ⟨hO3, hl3, hc3⟩
  · show va_Z _ _ _ (.ref (gh 312)) _ _ _; rw [g312]; exact hZq
  · show va_Z _ _ _ (.ref (gh 320)) _ _ _; rw [g320]; exact hZv
  · refine ⟨cell, by show s.heap[gh 320]? = _; rw [g320]; exact hcell, z2, z3, hst, by rw [hcl]; exact hf320, ?_, by show ¬ _ ≤ gh 320; rw [g320]; exact z7⟩
    refine Array.ext_getElem? (fun j => ?_)
    by_cases hj : j < 4
    · rw [z6 j hj]
      match j, hj with
      | 0, _ => show _ = some (Value.ref (gh 310)); rw [g310]; rfl
      | 1, _ => show _ = some (Value.ref (gh 311)); rw [g311]; rfl
      | 2, _ => show _ = some (Value.ref (gh 312)); rw [g312]; rfl
      | 3, _ => show _ = some (Value.ref (gh 313)); rw [g313]; rfl
    · rw [Array.getElem?_eq_none (by omega)]
      exact (Array.getElem?_eq_none (by simp [arrV]; omega)).symm
