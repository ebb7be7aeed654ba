/-! ===== ITERATION: a list walked by its iterator (scratch role of kind 58) ===== -/
theorem cfI_186 : GoodIn lw_all (va_wsF "SelectoRoute" 186 "java/util/ArrayList$Itr" ⟨"java/util/Iterator", "hasNext", "()Z"⟩ yJ20_hasNext (ws_ yJ20_hasNext cJ20_hasNext 1 (some Jvm.ClassFile.FieldType.boolean))) := by
  unfold va_wsF
  exact goodIn_app (goodIn_sub (show ∀ w ∈ ([.methodLink "SelectoRoute" 186 ⟨"java/util/Iterator", "hasNext", "()Z"⟩, .selects "java/util/ArrayList$Itr" ⟨"java/util/Iterator", "hasNext", "()Z"⟩ yJ20_hasNext, .instanceMethod yJ20_hasNext, .initialized yJ20_hasNext.cls] : List Cond), w ∈ lw_all from (List.forall_mem_cons.mpr ⟨q156, (List.forall_mem_cons.mpr ⟨q160, (List.forall_mem_cons.mpr ⟨q162, (List.forall_mem_cons.mpr ⟨q53, (fun _ h => nomatch h)⟩)⟩)⟩)⟩)) rfl) (lw_meth q164)
theorem cfI_191 : GoodIn lw_all (va_wsF "SelectoRoute" 191 "java/util/ArrayList$Itr" ⟨"java/util/Iterator", "next", "()Ljava/lang/Object;"⟩ yJ20_next (ws_ yJ20_next cJ20_next 3 (some (Jvm.ClassFile.FieldType.object "java/lang/Object")))) := by
  unfold va_wsF
  exact goodIn_app (goodIn_sub (show ∀ w ∈ ([.methodLink "SelectoRoute" 191 ⟨"java/util/Iterator", "next", "()Ljava/lang/Object;"⟩, .selects "java/util/ArrayList$Itr" ⟨"java/util/Iterator", "next", "()Ljava/lang/Object;"⟩ yJ20_next, .instanceMethod yJ20_next, .initialized yJ20_next.cls] : List Cond), w ∈ lw_all from (List.forall_mem_cons.mpr ⟨q166, (List.forall_mem_cons.mpr ⟨q169, (List.forall_mem_cons.mpr ⟨q171, (List.forall_mem_cons.mpr ⟨q53, (fun _ h => nomatch h)⟩)⟩)⟩)⟩)) rfl) (lw_meth q173)
theorem cfI_245 : GoodIn lw_all (va_wsF "SelectoRoute" 245 "java/util/ArrayList" ⟨"java/util/List", "size", "()I"⟩ yJ2_size (ws_ yJ2_size cJ2_size 1 (some Jvm.ClassFile.FieldType.int))) := by
  unfold va_wsF
  exact goodIn_app (goodIn_sub (show ∀ w ∈ ([.methodLink "SelectoRoute" 245 ⟨"java/util/List", "size", "()I"⟩, .selects "java/util/ArrayList" ⟨"java/util/List", "size", "()I"⟩ yJ2_size, .instanceMethod yJ2_size, .initialized yJ2_size.cls] : List Cond), w ∈ lw_all from (List.forall_mem_cons.mpr ⟨q382, (List.forall_mem_cons.mpr ⟨q386, (List.forall_mem_cons.mpr ⟨q255, (List.forall_mem_cons.mpr ⟨q27, (fun _ h => nomatch h)⟩)⟩)⟩)⟩)) rfl) (lw_meth q257)
theorem cfI_248 : GoodIn lw_all (va_wsF "SelectoRoute" 248 "java/util/ArrayList" ⟨"java/util/List", "get", "(I)Ljava/lang/Object;"⟩ yJ2_get (ws_ yJ2_get cJ2_get 2 (some (Jvm.ClassFile.FieldType.object "java/lang/Object")))) := by
  unfold va_wsF
  exact goodIn_app (goodIn_sub (show ∀ w ∈ ([.methodLink "SelectoRoute" 248 ⟨"java/util/List", "get", "(I)Ljava/lang/Object;"⟩, .selects "java/util/ArrayList" ⟨"java/util/List", "get", "(I)Ljava/lang/Object;"⟩ yJ2_get, .instanceMethod yJ2_get, .initialized yJ2_get.cls] : List Cond), w ∈ lw_all from (List.forall_mem_cons.mpr ⟨q390, (List.forall_mem_cons.mpr ⟨q393, (List.forall_mem_cons.mpr ⟨q259, (List.forall_mem_cons.mpr ⟨q27, (fun _ h => nomatch h)⟩)⟩)⟩)⟩)) rfl) (lw_meth q261)
theorem cfI_249 : GoodIn lw_all (va_wsF "SelectoRoute" 249 "java/util/ArrayList" ⟨"java/util/List", "remove", "(I)Ljava/lang/Object;"⟩ yJ2_remove (ws_ yJ2_remove cJ2_remove 4 (some (Jvm.ClassFile.FieldType.object "java/lang/Object")))) := by
  unfold va_wsF
  exact goodIn_app (goodIn_sub (show ∀ w ∈ ([.methodLink "SelectoRoute" 249 ⟨"java/util/List", "remove", "(I)Ljava/lang/Object;"⟩, .selects "java/util/ArrayList" ⟨"java/util/List", "remove", "(I)Ljava/lang/Object;"⟩ yJ2_remove, .instanceMethod yJ2_remove, .initialized yJ2_remove.cls] : List Cond), w ∈ lw_all from (List.forall_mem_cons.mpr ⟨q402, (List.forall_mem_cons.mpr ⟨q405, (List.forall_mem_cons.mpr ⟨q407, (List.forall_mem_cons.mpr ⟨q27, (fun _ h => nomatch h)⟩)⟩)⟩)⟩)) rfl) (lw_meth q409)
theorem xk_ad {g ad ad' : Nat → Nat} {κ : xKp} {σ : xSg} (had : ∀ k i, k < 16 → ad' (ro k i) = ad (ro k i)) : xkC g ad' κ σ = xkC g ad κ σ := by
  funext k i
  rcases (show k = 0 ∨ k = 1 ∨ k = 2 ∨ k = 3 ∨ k = 4 ∨ k = 5 ∨ k = 6 ∨ k = 7 ∨ k = 8 ∨ k = 9 ∨ k = 10 ∨ k = 11 ∨ 12 ≤ k by omega) with rfl | rfl | rfl | rfl | rfl | rfl | rfl | rfl | rfl | rfl | rfl | rfl | hk12
  · exact xkE0 (had 1 0 (by decide)) (had 3 0 (by decide)) (fun f h1 h2 => rfl)
  · exact xkE1 (had 2 0 (by decide)) rfl rfl rfl
  · exact xkE2 rfl rfl (fun k => had 11 k (by decide))
  · exact xkE3 (had 4 0 (by decide)) rfl rfl rfl
  · exact xkE4 rfl rfl (fun k => had 5 k (by decide))
  · exact xkE5 rfl (fun f h1 h2 => had f i (by omega)) (fun f h1 h2 => rfl)
  · exact xkE6 rfl (fun s => rfl)
  · exact xkE7 rfl (fun s => rfl)
  · exact xkE8 rfl (fun s => rfl)
  · exact xkE9 rfl (fun hi1 => ⟨had 10 i (by decide), rfl, rfl, rfl⟩)
  · rfl
  · rfl
  · rw [xkE12 hk12, xkE12 hk12]
abbrev xIt (c : Nat) (l md : Int32) (aL : Nat) : va_E := .inr (5, [.int (nI c), .int l, .int md, .ref aL])
theorem had16 {ad ad' : Nat → Nat} {z : Nat} (hz : 16 ≤ z) (hz' : z < 64) (had : ∀ x, x ≠ ro z 0 → ad' x = ad x) : ∀ k i, k < 16 → ad' (ro k i) = ad (ro k i) := fun k i hk => had _ (ro_ne (by omega) hz' (by omega))
theorem cu_s {c : xK} {k i : Nat} {e : va_E} : cu c k i e k i = some e := if_pos ⟨rfl, rfl⟩
theorem cu_cu {c : xK} {k i : Nat} {e e' : va_E} : cu (cu c k i e) k i e' = cu c k i e' := by
  funext a b
  unfold cu
  by_cases h : a = k ∧ b = i
  · rw [if_pos h, if_pos h]
  · rw [if_neg h, if_neg h, if_neg h]
section XITER
variable {F : xFr} {cc : ByteArray} {nL : Nat} {ret : Option FieldType} {rm : Room} {nm : String} {tb : List ExceptionTableEntry} {Q : State → Prop} {ad : Nat → Nat} {κ : xKp} {σ : xSg} {c m t : xK} {cells slots pc : Nat} {lv : List (Nat × Value)} {rest : List Value}
theorem x_iter (C : xC F cc nL "SelectoRoute" ret rm nm tb) {kL n aA : Nat} {md : Int32} (hkL : kL < 16) (hL : xkC F.1.2.2.1 ad κ σ kL 0 = some (xAl md aA n)) (ht : t 58 0 = none) (hR : 5 ≤ rm.frames ∧ 100 ≤ rm.locals) (hw : (rest.map fun v => v.category).sum ≤ 8) (hf : cells + 1 ≤ rm.cells ∧ slots + 4 ≤ rm.slots) (hdg : decode cc pc = .ok (.invokevirtual 182, 3))
    (kk : ∀ ad2, (∀ x, x ≠ ro 58 0 → ad2 x = ad x) → xX F Q ad2 (xj (xkC F.1.2.2.1 ad2 κ σ) m (cu t 58 0 (xIt 0 (-1) md (ad2 (ro kL 0))))) (cells + 1) (slots + 4) (pc + 3) lv (.ref (ad2 (ro 58 0)) :: rest)) : xX F Q ad (xj (xkC F.1.2.2.1 ad κ σ) m t) cells slots pc lv (.ref (ad (ro kL 0)) :: rest) := by
  refine x_callV (rest := rest) C (k_iterator (rL := ro kL 0) (rI := ro 58 0) (md := md) (n := n) (aA := aA) (xj_c hkL hL) (xj_t (by decide) (by decide) ht)) cf_X1_182 ⟨rfl, hd_J2_iterator⟩ ⟨show 4 + 1 ≤ _ by have := hR.1; omega, show 8 + (1 + 11) + 80 ≤ _ by have := hR.2; omega⟩ (xR_o xci1 rfl (xj_c hkL hL)) rfl hw hf hdg (fun v ad2 ct2 q => ?_) xN_e
  obtain ⟨a, rfl, e2, rfl⟩ := q
  have had : ∀ x, x ≠ ro 58 0 → ad2 x = ad x := fun x hx => by rw [e2]; exact xa_n hx
  have ha : a = ad2 (ro 58 0) := by rw [e2, xa_s]
  have h := kk ad2 had
  rw [xk_ad (had16 (by decide) (by decide) had), had (ro kL 0) (ro_ne (by omega) (by decide) (by omega))] at h
  rw [xj_ut (by decide) (by decide), ha]
  exact h
theorem x_hasNext (C : xC F cc nL "SelectoRoute" ret rm nm tb) {kL n aA cI : Nat} {l md : Int32} (hkL : kL < 16) (hL : c kL 0 = some (xAl md aA n)) (hc : cI ≤ n) (hn : n < 2147483648) (hR : 2 ≤ rm.frames ∧ 20 ≤ rm.locals) (hw : (rest.map fun v => v.category).sum ≤ 8) (hf : cells ≤ rm.cells ∧ slots ≤ rm.slots) (hdg : decode cc pc = .ok (.invokeinterface 186 1, 5))
    (kk : xX F Q ad (xj c m (cu t 58 0 (xIt cI l md (ad (ro kL 0))))) cells slots (pc + 5) lv (.int (if cI < n then 1 else 0) :: rest)) : xX F Q ad (xj c m (cu t 58 0 (xIt cI l md (ad (ro kL 0))))) cells slots pc lv (.ref (ad (ro 58 0)) :: rest) :=
  x_callF (rest := rest) (x := ⟨"java/util/Iterator", "hasNext", "()Z"⟩) C (k_hasNext (rL := ro kL 0) (rI := ro 58 0) (xj_c hkL hL) (xj_t (by decide) (by decide) cu_s) rfl hc hn) cfI_186 (by decide) ⟨by decide +kernel, by decide +kernel, by decide +kernel⟩ ⟨show 1 + 1 ≤ _ by have := hR.1; omega, show 8 + (1 + 11) + 0 ≤ _ by have := hR.2; omega⟩ xci5 (xR_o xci5 rfl (xj_t (by decide) (by decide) cu_s)) rfl hw hf hdg (xPv_i kk) xN_e
theorem x_next (C : xC F cc nL "SelectoRoute" ret rm nm tb) {kL kA n cI cap b : Nat} {l md : Int32} {f : Nat → Option Nat} (hkL : kL < 16) (hkA : kA < 16) (hL : c kL 0 = some (xAl md (ad (ro kA 0)) n)) (hA : c kA 0 = some (xOa F.1 cap f)) (hc : cI < n) (hn : n ≤ cap) (hcap : cap ≤ 60) (hb : f cI = some b) (hR : 4 ≤ rm.frames ∧ 70 ≤ rm.locals) (hw : (rest.map fun v => v.category).sum ≤ 8) (hf : cells ≤ rm.cells ∧ slots ≤ rm.slots) (hdg : decode cc pc = .ok (.invokeinterface 191 1, 5))
    (kk : xX F Q ad (xj c m (cu t 58 0 (xIt (cI + 1) (nI cI) md (ad (ro kL 0))))) cells slots (pc + 5) lv (.ref b :: rest)) : xX F Q ad (xj c m (cu t 58 0 (xIt cI l md (ad (ro kL 0))))) cells slots pc lv (.ref (ad (ro 58 0)) :: rest) := by
  refine x_callF (rest := rest) (x := ⟨"java/util/Iterator", "next", "()Ljava/lang/Object;"⟩) C (k_next (rL := ro kL 0) (rI := ro 58 0) (xj_c hkL hL) (xj_t (by decide) (by decide) cu_s) rfl (rA := ro kA 0) (xj_c hkA hA) rfl hc hn hcap hb) cfI_191 (by decide) ⟨by decide +kernel, by decide +kernel, by decide +kernel⟩ ⟨show 3 + 1 ≤ _ by have := hR.1; omega, show 8 + (3 + 11) + 40 ≤ _ by have := hR.2; omega⟩ xci5 (xR_o xci5 rfl (xj_t (by decide) (by decide) cu_s)) rfl hw hf hdg (xPv_i ?_) xN_e
  rw [xj_ut (by decide) (by decide), cu_cu]
  exact kk
/-- the iterator is forgotten -/
theorem x_backAd {ad0 : Nat → Nat} {e0 : va_E} {st : List Value} (had : ∀ x, x ≠ ro 58 0 → ad x = ad0 x) (ht : t 58 0 = none) (kk : xX F Q ad0 (xj (xkC F.1.2.2.1 ad0 κ σ) m t) cells slots pc lv st) : xX F Q ad (xj (xkC F.1.2.2.1 ad κ σ) m (cu t 58 0 e0)) cells slots pc lv st := by
  rw [xk_ad (had16 (by decide) (by decide) had), ← xj_ut (by decide) (by decide)]
  refine x_sub (fun r e he => ?_) kk
  have hne : r ≠ ro 58 0 := fun e9 => by
    subst e9
    rw [xj_t (by decide) (by decide) ht] at he
    cases he
  exact ⟨xu_n hne he, (had r hne).symm⟩
end XITER
