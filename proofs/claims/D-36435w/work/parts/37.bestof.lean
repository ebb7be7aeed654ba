/-! ===== lists of small numbers among the rest; bestOf ===== -/
/-- the lengths that an ArrayList's array takes -/
def xCp (n : Nat) : Prop := n = 0 ∨ n = 10 ∨ n = 15 ∨ n = 22 ∨ n = 33
theorem xgrow_cp {n cap : Nat} (h : xCp cap) (hn : n ≤ cap) (h33 : n < 33) : xCp (xgrow n cap) := by
  unfold xgrow
  split
  · exact h
  · have e : n = cap := by omega
    subst e
    rcases h with rfl | rfl | rfl | rfl | rfl
    · exact Or.inr (Or.inl rfl)
    · exact Or.inr (Or.inr (Or.inl rfl))
    · exact Or.inr (Or.inr (Or.inr (Or.inl rfl)))
    · exact Or.inr (Or.inr (Or.inr (Or.inr rfl)))
    · omega
theorem xgrow_ge {n cap : Nat} (hn : n ≤ cap) : n + 1 ≤ xgrow n cap := by
  unfold xgrow
  split
  · omega
  · split <;> omega
/-- a list of small numbers at kO, its array at kA -/
def xLs (g ad : Nat → Nat) (t : xK) (kO kA cap n : Nat) (md : Int32) (p : Nat → Nat) : Prop := t kO 0 = some (xL g (ad (ro kA 0)) cap n md) ∧ t kA 0 = xLa g cap n (fun k => g (128 + p k)) ∧ n ≤ cap ∧ xCp cap ∧ ∀ k, k < n → p k < 128
theorem xLs_to {g ad ad' : Nat → Nat} {t t' : xK} {kO kA cap n : Nat} {md : Int32} {p : Nat → Nat} (h : xLs g ad t kO kA cap n md p) (h1 : ad' (ro kA 0) = ad (ro kA 0)) (h2 : t' kO 0 = t kO 0) (h3 : t' kA 0 = t kA 0) : xLs g ad' t' kO kA cap n md p := by
  obtain ⟨a, b, c⟩ := h
  exact ⟨by rw [h2, h1]; exact a, h3.trans b, c⟩
section XLI
variable {F : xFr} {cc : ByteArray} {nL : Nat} {ret : Option FieldType} {rm : Room} {nm : String} {tb : List ExceptionTableEntry} {Q : State → Prop} {ad : Nat → Nat} {κ : xKp} {σ : xSg} {m t : xK} {cells slots pc : Nat} {lv : List (Nat × Value)} {rest : List Value}
theorem x_liN (C : xC F cc nL "SelectoRoute" ret rm nm tb) {kO : Nat} (h1 : 40 ≤ kO ∧ kO < 64) (ht : t kO 0 = none) (hw : (rest.map fun v => v.category).sum ≤ 6) (hR : 7 ≤ rm.frames ∧ 130 ≤ rm.locals) (hf : cells + 1 ≤ rm.cells ∧ slots + 3 ≤ rm.slots) (d0 : decode cc pc = .ok (.new 25, 3)) (d1 : decode cc (pc + 3) = .ok (.dup, 1)) (d2 : decode cc (pc + 4) = .ok (.invokespecial 27, 3))
    (kk : ∀ ad2, (∀ x, x ≠ ro kO 0 → ad2 x = ad x) → xX F Q ad2 (xj (xkC F.1.2.2.1 ad2 κ σ) m (cu t kO 0 (xAl 0 (F.1.2.2.1 301) 0))) (cells + 1) (slots + 3) (pc + 7) lv (.ref (ad2 (ro kO 0)) :: rest)) : xX F Q ad (xj (xkC F.1.2.2.1 ad κ σ) m t) cells slots pc lv rest := by
  refine x_new C (r := ro kO 0) (fs := [.int 0, .null, .int 0]) xci1 q64 q65 q27 (xj_t h1.1 h1.2 ht) (by decide) hf d0 (fun ad2 had => ?_)
  refine x_dup C d1 rfl ?_
  refine x_callI (rest := .ref (ad2 (ro kO 0)) :: rest) C (k_AL_init xu_s) q68 q27 q66 q67 rfl hd_J2_init ⟨show 6 + 1 ≤ _ by have := hR.1; omega, show 8 + (1 + 11) + 90 ≤ _ by have := hR.2; omega⟩ rfl (by rw [List.map_cons, List.sum_cons]; have e : (Value.ref (ad2 (ro kO 0))).category = 1 := rfl; omega) ⟨by have := hf.1; omega, by have := hf.2; omega⟩ d2 (xPv_i ?_) xN_e
  rw [xu_xu, xj_ut h1.1 h1.2, ← xk_ad (g := F.1.2.2.1) (κ := κ) (σ := σ) (had16 (by omega) h1.2 had)]
  exact kk ad2 had
theorem x_liA (C : xC F cc nL "SelectoRoute" ret rm nm tb) {kO kA cap n v : Nat} {md : Int32} {p : Nat → Nat} (h1 : 40 ≤ kO ∧ kO < 64) (h2 : 40 ≤ kA ∧ kA < 64) (h3 : kO ≠ kA) (hS : t 54 0 = none) (hkA : kA ≠ 54) (hL : xLs F.1.2.2.1 ad t kO kA cap n md p) (hn : n < 33) (hv : v < 128) (hR : 14 ≤ rm.frames ∧ 380 ≤ rm.locals) (hw : (rest.map fun v => v.category).sum ≤ 8) (hf : cells + 1 ≤ rm.cells ∧ slots + 60 ≤ rm.slots) (hdg : decode cc pc = .ok (.invokevirtual 65, 3))
    (kk : ∀ ad2 t2, (∀ x, x ≠ ro kA 0 → ad2 x = ad x) → xLs F.1.2.2.1 ad2 t2 kO kA (xgrow n cap) (n + 1) (md + 1) (fun k => if k = n then v else p k) → (∀ k i, ¬ (k = kO ∧ i = 0) → ¬ (k = kA ∧ i = 0) → t2 k i = t k i) → xX F Q ad2 (xj (xkC F.1.2.2.1 ad2 κ σ) m t2) (cells + 1) (slots + 60) (pc + 3) lv (.int 1 :: rest)) : xX F Q ad (xj (xkC F.1.2.2.1 ad κ σ) m t) cells slots pc lv (.ref (F.1.2.2.1 (128 + v)) :: .ref (ad (ro kO 0)) :: rest) := by
  obtain ⟨l1, l2, l3, l4, l5⟩ := hL
  by_cases hcap : cap ≤ 40
  · refine x_callV (rest := rest) C (k_add (rL := ro kO 0) (rA := ro kA 0) (rS := ro 54 0) (Cn := "java/lang/Integer") (el := fun k => F.1.2.2.1 (128 + p k)) (v := F.1.2.2.1 (128 + v)) (xj_t h1.1 h1.2 l1) (xj_t h2.1 h2.2 l2) (xj_t (by decide) (by decide) hS) (ro_ne h2.2 (by decide) (by omega)) (ro_ne h1.2 h2.2 (by omega)) l3 hcap (fun k hk => xR_i (by have := l5 k hk; omega)) (xR_i (by omega)) (by decide)) cf_X1_65 ⟨rfl, hd_J2_add⟩ ⟨show 13 + 1 ≤ _ by have := hR.1; omega, show 8 + (2 + 11) + 340 ≤ _ by have := hR.2; omega⟩ (xR_o xci1 rfl (xj_t h1.1 h1.2 l1)) rfl hw hf hdg (fun r ad2 ct2 q => ?_) xN_e
    obtain ⟨a, rfl, rfl, rfl⟩ := q
    have had : ∀ x, x ≠ ro kA 0 → xa ad (ro kA 0) a x = ad x := fun x hx => xa_n hx
    rw [xj_ut h2.1 h2.2, xj_ut h1.1 h1.2]
    have h := kk (xa ad (ro kA 0) a) (cu (cu t kA 0 (xOa F.1 (xgrow n cap) (xcont (fun k => if k = n then F.1.2.2.1 (128 + v) else F.1.2.2.1 (128 + p k)) (n + 1)))) kO 0 (xL F.1.2.2.1 a (xgrow n cap) (n + 1) (md + 1))) had ⟨by rw [xa_s]; exact cu_s, ?_, xgrow_ge l3, xgrow_cp l4 l3 hn, fun k hk => ?_⟩ (fun k i e1 e2 => (cu_n e1 rfl).trans (cu_n e2 rfl))
    · rw [xk_ad (had16 (by omega) h2.2 had)] at h
      exact h
    · refine (cu_n (by omega) cu_s).trans ?_
      unfold xLa
      rw [if_neg xgrow_ne]
      refine congrArg (fun z => some (Sum.inl (F.1.2.2.1 1004, xgrow n cap, Sum.inr (Sum.inr (Sum.inr (Sum.inr z)))))) ?_
      funext k
      unfold xcont
      by_cases c1 : k < n + 1
      · rw [if_pos c1, if_pos c1]
        show some (if k = n then _ else _) = some (F.1.2.2.1 (128 + (if k = n then v else p k)))
        by_cases c2 : k = n
        · rw [if_pos c2, if_pos c2]
        · rw [if_neg c2, if_neg c2]
      · rw [if_neg c1, if_neg c1]
    · show (if k = n then v else p k) < 128
      split
      · exact hv
      · exact l5 k (by omega)
  · unfold xCp at l4; omega
theorem x_liG {c : xK} (C : xC F cc nL "SelectoRoute" ret rm nm tb) {kO kA cap n : Nat} {md : Int32} {p : Nat → Nat} (h1 : 40 ≤ kO ∧ kO < 64) (h2 : 40 ≤ kA ∧ kA < 64) (h3 : kO ≠ kA) (hL : xLs F.1.2.2.1 ad t kO kA cap n md p) (h0 : 0 < n) (hR : 9 ≤ rm.frames ∧ 280 ≤ rm.locals) (hw : (rest.map fun v => v.category).sum ≤ 8) (hf : cells ≤ rm.cells ∧ slots ≤ rm.slots) (hdg : decode cc pc = .ok (.invokestatic 250, 3))
    (kk : ∀ t2, xLs F.1.2.2.1 ad t2 kO kA cap (n - 1) (md + 1) (sRm p (sOg p n)) → (∀ k i, ¬ (k = kO ∧ i = 0) → ¬ (k = kA ∧ i = 0) → t2 k i = t k i) → xX F Q ad (xj c m t2) cells slots (pc + 3) lv (.int (nI (p (sOg p n))) :: rest)) : xX F Q ad (xj c m t) cells slots pc lv (.int 1 :: .ref (ad (ro kO 0)) :: rest) := by
  obtain ⟨l1, l2, l3, l4, l5⟩ := hL
  have hne : cap ≠ 0 := by omega
  have hcap : cap ≤ 60 := by unfold xCp at l4; omega
  refine x_callS (rest := rest) C (k1_outG (rL := ro kO 0) (rA := ro kA 0) (p := p) (n := n) (cap := cap) (md := md) (xj_t h1.1 h1.2 (l1.trans (congrArg some (xL_ne hne)))) (xj_t h2.1 h2.2 (l2.trans (if_neg hne))) h0 l3 hcap l5) cf_X1_250 hd_X1_out ⟨show 8 + 1 ≤ _ by have := hR.1; omega, show 8 + (5 + 11) + 250 ≤ _ by have := hR.2; omega⟩ rfl hw hf hdg (xPv_i ?_) xN_e
  rw [xj_ut h2.1 h2.2, xj_ut h1.1 h1.2]
  refine kk _ ⟨cu_s.trans (congrArg some (xL_ne hne).symm), (cu_n (by omega) cu_s).trans (if_neg hne).symm, by omega, l4, fun k hk => ?_⟩ (fun k i e1 e2 => (cu_n e1 rfl).trans (cu_n e2 rfl))
  unfold sRm
  split
  · exact l5 k (by omega)
  · exact l5 (k + 1) (by omega)
theorem x_liL {c : xK} (C : xC F cc nL "SelectoRoute" ret rm nm tb) {kO kA cap n : Nat} {md : Int32} {p : Nat → Nat} (h1 : 40 ≤ kO ∧ kO < 64) (h2 : 40 ≤ kA ∧ kA < 64) (h3 : kO ≠ kA) (hL : xLs F.1.2.2.1 ad t kO kA cap n md p) (h0 : 0 < n) (hR : 9 ≤ rm.frames ∧ 280 ≤ rm.locals) (hw : (rest.map fun v => v.category).sum ≤ 8) (hf : cells ≤ rm.cells ∧ slots ≤ rm.slots) (hdg : decode cc pc = .ok (.invokestatic 250, 3))
    (kk : ∀ t2, xLs F.1.2.2.1 ad t2 kO kA cap (n - 1) (md + 1) (sRm p (sOl p n)) → (∀ k i, ¬ (k = kO ∧ i = 0) → ¬ (k = kA ∧ i = 0) → t2 k i = t k i) → xX F Q ad (xj c m t2) cells slots (pc + 3) lv (.int (nI (p (sOl p n))) :: rest)) : xX F Q ad (xj c m t) cells slots pc lv (.int 0 :: .ref (ad (ro kO 0)) :: rest) := by
  obtain ⟨l1, l2, l3, l4, l5⟩ := hL
  have hne : cap ≠ 0 := by omega
  have hcap : cap ≤ 60 := by unfold xCp at l4; omega
  refine x_callS (rest := rest) C (k1_outL (rL := ro kO 0) (rA := ro kA 0) (p := p) (n := n) (cap := cap) (md := md) (xj_t h1.1 h1.2 (l1.trans (congrArg some (xL_ne hne)))) (xj_t h2.1 h2.2 (l2.trans (if_neg hne))) h0 l3 hcap l5) cf_X1_250 hd_X1_out ⟨show 8 + 1 ≤ _ by have := hR.1; omega, show 8 + (5 + 11) + 250 ≤ _ by have := hR.2; omega⟩ rfl hw hf hdg (xPv_i ?_) xN_e
  rw [xj_ut h2.1 h2.2, xj_ut h1.1 h1.2]
  refine kk _ ⟨cu_s.trans (congrArg some (xL_ne hne).symm), (cu_n (by omega) cu_s).trans (if_neg hne).symm, by omega, l4, fun k hk => ?_⟩ (fun k i e1 e2 => (cu_n e1 rfl).trans (cu_n e2 rfl))
  unfold sRm
  split
  · exact l5 k (by omega)
  · exact l5 (k + 1) (by omega)
/-- the iterator is dropped -/
theorem x_dropIt {c : xK} {e0 : va_E} {st : List Value} (ht : t 58 0 = none) (kk : xX F Q ad (xj c m t) cells slots pc lv st) : xX F Q ad (xj c m (cu t 58 0 e0)) cells slots pc lv st := by
  rw [← xj_ut (by decide) (by decide)]
  refine x_sub (fun r e he => ⟨xu_n (fun e9 => ?_) he, rfl⟩) kk
  subst e9
  rw [xj_t (by decide) (by decide) ht] at he
  cases he
end XLI
/-- while bestOf works: here (50, 51), there (52, 53), all else as at first -/
def xBW (g ad0 : Nat → Nat) (t0 : xK) (ad : Nat → Nat) (t : xK) (nh : Nat) (ph : Nat → Nat) (nt : Nat) (pt : Nat → Nat) : Prop :=
  (∃ c md, xLs g ad t 50 51 c nh md ph) ∧ (∃ c md, xLs g ad t 52 53 c nt md pt) ∧ (∀ k i, ¬ (50 ≤ k ∧ k ≤ 53 ∧ i = 0) → t k i = t0 k i) ∧ ∀ k i, k < 64 → ¬ (50 ≤ k ∧ k ≤ 53 ∧ i = 0) → ¬ (k = 58 ∧ i = 0) → ad (ro k i) = ad0 (ro k i)
theorem xBW_back {F : xFr} {Q : State → Prop} {ad0 ad : Nat → Nat} {κ : xKp} {σ : xSg} {m t0 t : xK} {cells slots pc : Nat} {lv : List (Nat × Value)} {st : List Value} {nh nt : Nat} {ph pt : Nat → Nat} (h : xBW F.1.2.2.1 ad0 t0 ad t nh ph nt pt) (ht : ∀ k, 50 ≤ k → k ≤ 58 → t0 k 0 = none) (kk : xX F Q ad0 (xj (xkC F.1.2.2.1 ad0 κ σ) m t0) cells slots pc lv st) : xX F Q ad (xj (xkC F.1.2.2.1 ad κ σ) m t) cells slots pc lv st := by
  obtain ⟨-, -, h3, h4⟩ := h
  rw [xk_ad (fun k i hk => h4 k i (by omega) (by omega) (by omega))]
  refine x_sub (fun r e he => ?_) kk
  have hr : r = ro (r % 64) (r / 64) := (ro_self r).symm
  have hb : ¬ (50 ≤ r % 64 ∧ r % 64 ≤ 58 ∧ r / 64 = 0) := fun ⟨h1, h2, h3⟩ => by
    rw [hr, h3, xj_t (by omega) (by omega) (ht _ h1 h2)] at he
    cases he
  refine ⟨?_, ?_⟩
  · unfold xj at he ⊢
    by_cases a1 : r % 64 < 16
    · rw [if_pos a1] at he ⊢; exact he
    · rw [if_neg a1] at he ⊢
      by_cases a2 : r % 64 < 40
      · rw [if_pos a2] at he ⊢; exact he
      · rw [if_neg a2] at he ⊢
        rw [h3 _ _ (by omega)]; exact he
  · rw [hr]; exact (h4 _ _ (by omega) (by omega) (by omega)).symm
/-- the pulls of the discs in the van, among the first c -/
def sTh (σ : xSg) (ta : Int32) : Nat → Nat × (Nat → Nat)
  | 0 => (0, fun _ => 0)
  | c + 1 => if σ 4 c 0 = -1 then ((sTh σ ta c).1 + 1, fun k => if k = (sTh σ ta c).1 then (sDp σ c ta).toNatClampNeg else (sTh σ ta c).2 k) else sTh σ ta c
theorem sTh_le {σ : xSg} {ta : Int32} : ∀ c, (sTh σ ta c).1 ≤ c
  | 0 => Nat.le_refl _
  | c + 1 => by
    have := sTh_le (σ := σ) (ta := ta) c
    show (if σ 4 c 0 = -1 then _ else _ : Nat × (Nat → Nat)).1 ≤ c + 1
    split
    · show (sTh σ ta c).1 + 1 ≤ c + 1; omega
    · omega
def sPh (σ : xSg) (j : Nat) : Nat → Nat := fun k => (sPo σ j k).toNatClampNeg
/-- the best sum of n changes -/
def sBest : Nat → Nat → (Nat → Nat) → Nat → (Nat → Nat) → Int32 → Int32
  | 0, _, _, _, _, s => s
  | n + 1, nt, pt, nh, ph, s => if nt = 0 then s else sBest n (nt - 1) (sRm pt (sOg pt nt)) (nh - 1) (sRm ph (sOl ph nh)) (s + (if 0 < nI (pt (sOg pt nt)) - nI (ph (sOl ph nh)) then nI (pt (sOg pt nt)) - nI (ph (sOl ph nh)) else 0))
def sBo (κ : xKp) (σ : xSg) (j M : Nat) : Int32 := sBest M (sTh σ (σ 6 j 0) (κ 0)).1 (sTh σ (σ 6 j 0) (κ 0)).2 10 (sPh σ j) 0
/-- pulls are small -/
def xPb (κ : xKp) (σ : xSg) : Prop := ∀ d, d < κ 0 → ∀ ta, ∃ p, p < 128 ∧ sDp σ d ta = nI p
theorem sPo_b {κ : xKp} {σ : xSg} (hB : xPb κ σ) (hS : xIs κ σ) (h30 : κ 0 ≤ 30) {j s : Nat} (hj : j < κ 1) (hs : s < 10) : ∃ p, p < 128 ∧ sPo σ j s = nI p ∧ sPh σ j s = p := by
  have h : ∃ p, p < 128 ∧ sPo σ j s = nI p := by
    unfold sPo
    rcases hS j hj s hs with e | ⟨d, hd, e⟩
    · rw [if_pos e]; exact ⟨0, by decide, rfl⟩
    · rw [if_neg (by rw [e]; exact nI_ne1 (by omega)), e, nI_clamp (by omega)]; exact hB d hd _
  obtain ⟨p, hp, e⟩ := h
  exact ⟨p, hp, e, by unfold sPh; rw [e, nI_clamp (by omega)]⟩
set_option maxHeartbeats 4000000 in
theorem k1_bestOf {G : xG} {ad0 : Nat → Nat} {κ : xKp} {σ : xSg} {m t : xK} (hI : xIk κ) (hS : xIs κ σ) (hB : xPb κ σ) (ht : ∀ k, 50 ≤ k → k ≤ 58 → t k 0 = none) {j M : Nat} (hj : j < κ 1) (hM : M ≤ 9) : xM G yX1_bestOf (ws_ yX1_bestOf cX1_bestOf 7 (some Jvm.ClassFile.FieldType.int)) 16 420 50 2500 [.ref (ad0 (ro 0 0)), .ref (ad0 (ro 5 j)), .int (nI M)] ad0 (xj (xkC G.2.2.1 ad0 κ σ) m t) (fun v ad' ct' => ad' = ad0 ∧ ct' = xj (xkC G.2.2.1 ad0 κ σ) m t ∧ v = some (.int (sBo κ σ j M))) xN := by
  refine xM_of (cc := cX1_bestOf) (by decide) rfl (fun F hF C => ?_)
  subst hF
  show xX F _ _ _ 0 0 0 [(0, .ref (ad0 (ro 0 0))), (1, .ref (ad0 (ro 5 j))), (2, .int (nI M))] []
  have h30 := hI.2.2.2.2.1
  have h14 := hI.2.2.2.2.2
  refine x_liN C (kO := 50) (by decide) (ht 50 (by decide) (by decide)) (Nat.le_of_ble_eq_true rfl) ⟨Nat.le_of_ble_eq_true rfl, Nat.le_of_ble_eq_true rfl⟩ ⟨Nat.le_of_ble_eq_true rfl, Nat.le_of_ble_eq_true rfl⟩ dX1_bestOf_0 dX1_bestOf_3 dX1_bestOf_4 (fun ad1 had1 => ?_)
  rw [← had1 (ro 0 0) (ro_ne (by decide) (by decide) (by omega)), ← had1 (ro 5 j) (ro_ne (by decide) (by decide) (by omega))]
  refine x_astore_n (lv' := [(3, .ref (ad1 (ro 50 0))), (0, .ref (ad1 (ro 0 0))), (1, .ref (ad1 (ro 5 j))), (2, .int (nI M))]) C dX1_bestOf_7 rfl (by decide) rfl ?_
  refine x_liN C (kO := 52) (by decide) ((cu_n (by decide) rfl).trans (ht 52 (by decide) (by decide))) (Nat.le_of_ble_eq_true rfl) ⟨Nat.le_of_ble_eq_true rfl, Nat.le_of_ble_eq_true rfl⟩ ⟨Nat.le_of_ble_eq_true rfl, Nat.le_of_ble_eq_true rfl⟩ dX1_bestOf_8 dX1_bestOf_11 dX1_bestOf_12 (fun ad2 had2 => ?_)
  rw [← had2 (ro 0 0) (ro_ne (by decide) (by decide) (by omega)), ← had2 (ro 5 j) (ro_ne (by decide) (by decide) (by omega)), ← had2 (ro 50 0) (ro_ne (by decide) (by decide) (by omega))]
  refine x_astore (lv' := [(4, .ref (ad2 (ro 52 0))), (3, .ref (ad2 (ro 50 0))), (0, .ref (ad2 (ro 0 0))), (1, .ref (ad2 (ro 5 j))), (2, .int (nI M))]) C dX1_bestOf_15 (by decide) rfl ?_
  refine x_iconst (v := 0) C dX1_bestOf_17 (by decide) ?_
  refine x_istore (lv' := [(5, .int 0), (4, .ref (ad2 (ro 52 0))), (3, .ref (ad2 (ro 50 0))), (0, .ref (ad2 (ro 0 0))), (1, .ref (ad2 (ro 5 j))), (2, .int (nI M))]) C dX1_bestOf_18 (by decide) rfl ?_
  have b0 : xBW F.1.2.2.1 ad0 t ad2 (cu (cu t 50 0 (xAl 0 (F.1.2.2.1 301) 0)) 52 0 (xAl 0 (F.1.2.2.1 301) 0)) 0 (sPh σ j) 0 (fun _ => 0) := by
    refine ⟨⟨0, 0, (cu_n (by decide) cu_s).trans rfl, ((cu_n (by decide) rfl).trans (cu_n (by decide) rfl)).trans (ht 51 (by decide) (by decide)), Nat.le_refl _, Or.inl rfl, fun k hk => absurd hk (Nat.not_lt_zero _)⟩, ⟨0, 0, cu_s.trans rfl, ((cu_n (by decide) rfl).trans (cu_n (by decide) rfl)).trans (ht 53 (by decide) (by decide)), Nat.le_refl _, Or.inl rfl, fun k hk => absurd hk (Nat.not_lt_zero _)⟩, fun k i h => (cu_n (by omega) rfl).trans (cu_n (by omega) rfl), fun k i h1 h2 _ => (had2 _ (ro_ne h1 (by decide) (by omega))).trans (had1 _ (ro_ne h1 (by decide) (by omega)))⟩
  have p3 : ∀ (n k nt : Nat) (pt : Nat → Nat) (nh : Nat) (ph : Nat → Nat) (sm : Int32) (ad : Nat → Nat) (t2 : xK), k + n = M → n ≤ nh → xBW F.1.2.2.1 ad0 t ad t2 nh ph nt pt → sBest n nt pt nh ph sm = sBo κ σ j M → xX F (xQ F (fun v ad' ct' => ad' = ad0 ∧ ct' = xj (xkC F.1.2.2.1 ad0 κ σ) m t ∧ v = some (.int (sBo κ σ j M))) xN 50 2500) ad (xj (xkC F.1.2.2.1 ad κ σ) m t2) 50 2500 119 [(6, .int (nI k)), (5, .int (sm)), (4, .ref (ad (ro 52 0))), (3, .ref (ad (ro 50 0))), (2, .int (nI M))] [] := by
    intro n
    induction n with
    | zero =>
      intro k nt pt nh ph sm ad t2 hk hn hb hv
      refine x_iload C dX1_bestOf_119 0 rfl ?_
      refine x_iload_n C dX1_bestOf_121 rfl 4 rfl ?_
      refine x_icmp_ge (tgt := 160) C dX1_bestOf_122 (by decide) (fun _ => ?_) (fun h => absurd ((nI_le_iff (by omega) (by omega)).mpr (by omega)) h)
      refine xBW_back hb ht ?_
      refine x_iload C dX1_bestOf_160 1 rfl ?_
      exact x_iret C dX1_bestOf_162 (Nat.le_of_ble_eq_true rfl) (Nat.le_of_ble_eq_true rfl) ⟨rfl, rfl, by rw [← hv]; rfl⟩
    | succ n ih =>
      intro k nt pt nh ph sm ad t2 hk hn hb hv
      obtain ⟨⟨ch, mh, hh⟩, ⟨c9, m9, hh2⟩, hb3, hb4⟩ := hb
      refine x_iload C dX1_bestOf_119 0 rfl ?_
      refine x_iload_n C dX1_bestOf_121 rfl 4 rfl ?_
      refine x_icmp_ge (tgt := 160) C dX1_bestOf_122 (by decide) (fun h => absurd ((nI_le_iff (by omega) (by omega)).mp h) (by omega)) (fun _ => ?_)
      have hnt : nt ≤ 33 := by have h1 := hh2.2.2.1; have h2 := hh2.2.2.2.1; unfold xCp at h2; omega
      refine x_aload C dX1_bestOf_125 2 rfl ?_
      refine x_callV (rest := []) C (k_isEmpty (rL := ro 52 0) (aA := if c9 = 0 then F.1.2.2.1 301 else ad (ro 53 0)) (n := nt) (md := m9) (xj_t (by decide) (by decide) hh2.1) (by omega)) cf_X1_130 ⟨rfl, hd_J2_isEmpty⟩ ⟨Nat.le_of_ble_eq_true rfl, Nat.le_of_ble_eq_true rfl⟩ (xR_o xci1 rfl (xj_t (by decide) (by decide) hh2.1)) rfl (Nat.le_of_ble_eq_true rfl) ⟨Nat.le_of_ble_eq_true rfl, Nat.le_of_ble_eq_true rfl⟩ dX1_bestOf_127 (xPv_i ?_) xN_e
      refine x_if_ne (tgt := 160) C dX1_bestOf_130 (by decide) (fun c1 => ?_) (fun c1 => ?_)
      · have e0 : nt = 0 := i01 c1
        refine xBW_back ⟨⟨ch, mh, hh⟩, ⟨c9, m9, hh2⟩, hb3, hb4⟩ ht ?_
        refine x_iload C dX1_bestOf_160 1 rfl ?_
        exact x_iret C dX1_bestOf_162 (Nat.le_of_ble_eq_true rfl) (Nat.le_of_ble_eq_true rfl) ⟨rfl, rfl, by rw [← hv]; show some (Value.int sm) = some (Value.int (if nt = 0 then sm else _)); rw [if_pos e0]⟩
      · have e0 : ¬ nt = 0 := i00 c1
        refine x_iload C dX1_bestOf_133 1 rfl ?_
        refine x_iconst (v := 0) C dX1_bestOf_135 (by decide) ?_
        refine x_aload C dX1_bestOf_136 2 rfl ?_
        refine x_iconst (v := 1) C dX1_bestOf_138 (by decide) ?_
        refine x_liG (rest := [.int 0, .int sm]) C (kO := 52) (kA := 53) (by decide) (by decide) (by decide) hh2 (by omega) ⟨Nat.le_of_ble_eq_true rfl, Nat.le_of_ble_eq_true rfl⟩ (Nat.le_of_ble_eq_true rfl) ⟨Nat.le_of_ble_eq_true rfl, Nat.le_of_ble_eq_true rfl⟩ dX1_bestOf_139 (fun t3 hh3 ho3 => ?_)
        refine x_aload_n C dX1_bestOf_142 rfl 3 rfl ?_
        refine x_iconst (v := 0) C dX1_bestOf_143 (by decide) ?_
        have hh5 : xLs F.1.2.2.1 ad t3 50 51 ch nh mh ph := xLs_to hh rfl (ho3 50 0 (by decide) (by decide)) (ho3 51 0 (by decide) (by decide))
        refine x_liL (rest := [.int (nI (pt (sOg pt nt))), .int 0, .int sm]) C (kO := 50) (kA := 51) (by decide) (by decide) (by decide) hh5 (by omega) ⟨Nat.le_of_ble_eq_true rfl, Nat.le_of_ble_eq_true rfl⟩ (Nat.le_of_ble_eq_true rfl) ⟨Nat.le_of_ble_eq_true rfl, Nat.le_of_ble_eq_true rfl⟩ dX1_bestOf_144 (fun t4 hh4 ho4 => ?_)
        refine x_isub C dX1_bestOf_147 ?_
        refine x_mmax C q415 q289 q36 cfM_max ⟨⟨Nat.le_of_ble_eq_true rfl, Nat.le_of_ble_eq_true rfl⟩, Nat.le_of_ble_eq_true rfl, Nat.le_of_ble_eq_true rfl⟩ dX1_bestOf_148 ?_
        refine x_iadd C dX1_bestOf_151 ?_
        refine x_istore (lv' := [(5, .int (sm + (if 0 < (nI (pt (sOg pt nt))) - (nI (ph (sOl ph nh))) then (nI (pt (sOg pt nt))) - (nI (ph (sOl ph nh))) else 0))), (6, .int (nI k)), (4, .ref (ad (ro 52 0))), (3, .ref (ad (ro 50 0))), (2, .int (nI M))]) C dX1_bestOf_152 (by decide) rfl ?_
        refine x_iinc (k := 1) (v := nI (k + 1)) (lv' := [(6, .int (nI (k + 1))), (5, .int (sm + (if 0 < (nI (pt (sOg pt nt))) - (nI (ph (sOl ph nh))) then (nI (pt (sOg pt nt))) - (nI (ph (sOl ph nh))) else 0))), (4, .ref (ad (ro 52 0))), (3, .ref (ad (ro 50 0))), (2, .int (nI M))]) C dX1_bestOf_154 rfl (nI_1 k) (by decide) rfl ?_
        refine x_goto (tgt := 119) C dX1_bestOf_157 (by decide) ?_
        refine x_lv (lv' := [(6, .int (nI (k + 1))), (5, .int (sm + (if 0 < (nI (pt (sOg pt nt))) - (nI (ph (sOl ph nh))) then (nI (pt (sOg pt nt))) - (nI (ph (sOl ph nh))) else 0))), (4, .ref (ad (ro 52 0))), (3, .ref (ad (ro 50 0))), (2, .int (nI M))]) [0, 1, 2, 3, 4] rfl ?_
        refine ih (k + 1) (nt - 1) _ (nh - 1) _ _ ad t4 (by omega) (by omega) ⟨⟨ch, mh + 1, hh4⟩, ⟨c9, m9 + 1, xLs_to hh3 rfl (ho4 52 0 (by decide) (by decide)) (ho4 53 0 (by decide) (by decide))⟩, fun k i h => ((ho4 k i (by omega) (by omega)).trans (ho3 k i (by omega) (by omega))).trans (hb3 k i h), hb4⟩ ?_
        rw [← hv]; show _ = (if nt = 0 then sm else _); rw [if_neg e0]
  have p2 : ∀ (n c : Nat) (l : Int32) (ad : Nat → Nat) (t2 : xK), c + n = κ 0 → xBW F.1.2.2.1 ad0 t ad t2 10 (sPh σ j) (sTh σ (σ 6 j 0) c).1 (sTh σ (σ 6 j 0) c).2 → xX F (xQ F (fun v ad' ct' => ad' = ad0 ∧ ct' = xj (xkC F.1.2.2.1 ad0 κ σ) m t ∧ v = some (.int (sBo κ σ j M))) xN 50 2500) ad (xj (xkC F.1.2.2.1 ad κ σ) m (cu t2 58 0 (xIt c l (σ 26 0 0) (ad (ro 1 0))))) (13 + c) (610 + 60 * c) 57 [(5, .ref (ad (ro 58 0))), (4, .ref (ad (ro 52 0))), (3, .ref (ad (ro 50 0))), (0, .ref (ad (ro 0 0))), (1, .ref (ad (ro 5 j))), (2, .int (nI M))] [] := by
    intro n
    induction n with
    | zero =>
      intro c l ad t2 hk hb
      have hL9 : xkC F.1.2.2.1 ad κ σ 1 0 = some (xAl (σ 26 0 0) (if κ 2 = 0 then F.1.2.2.1 301 else ad (ro 2 0)) (κ 0)) := rfl
      refine x_aload C dX1_bestOf_57 0 rfl ?_
      refine x_hasNext C (kL := 1) (by decide) hL9 (by omega) (by omega) ⟨Nat.le_of_ble_eq_true rfl, Nat.le_of_ble_eq_true rfl⟩ (Nat.le_of_ble_eq_true rfl) ⟨show _ ≤ 50 by omega, show _ ≤ 2500 by omega⟩ dX1_bestOf_59 ?_
      refine x_top (y := 0) (if_neg (by omega)) ?_
      refine x_if_eq (tgt := 113) C dX1_bestOf_64 (by decide) (fun _ => ?_) (fun h => absurd rfl h)
      obtain rfl : c = κ 0 := by omega
      refine x_dropIt ((hb.2.2.1 58 0 (by omega)).trans (ht 58 (by decide) (by decide))) ?_
      refine x_iconst (v := 0) C dX1_bestOf_113 (by decide) ?_
      refine x_istore (lv' := [(5, .int 0), (4, .ref (ad (ro 52 0))), (3, .ref (ad (ro 50 0))), (0, .ref (ad (ro 0 0))), (1, .ref (ad (ro 5 j))), (2, .int (nI M))]) C dX1_bestOf_114 (by decide) rfl ?_
      refine x_iconst (v := 0) C dX1_bestOf_116 (by decide) ?_
      refine x_istore (lv' := [(6, .int 0), (5, .int 0), (4, .ref (ad (ro 52 0))), (3, .ref (ad (ro 50 0))), (0, .ref (ad (ro 0 0))), (1, .ref (ad (ro 5 j))), (2, .int (nI M))]) C dX1_bestOf_117 (by decide) rfl ?_
      refine x_lv (lv' := [(6, .int 0), (5, .int 0), (4, .ref (ad (ro 52 0))), (3, .ref (ad (ro 50 0))), (2, .int (nI M))]) [0, 1, 2, 3, 6] rfl ?_
      refine x_wid (c' := 50) (s' := 2500) (by omega) (by omega) ?_
      exact p3 M 0 _ _ 10 _ 0 ad t2 (by omega) (by omega) hb rfl
    | succ n ih =>
      intro c l ad t2 hk hb
      have hL9 : xkC F.1.2.2.1 ad κ σ 1 0 = some (xAl (σ 26 0 0) (if κ 2 = 0 then F.1.2.2.1 301 else ad (ro 2 0)) (κ 0)) := rfl
      refine x_aload C dX1_bestOf_57 0 rfl ?_
      refine x_hasNext C (kL := 1) (by decide) hL9 (by omega) (by omega) ⟨Nat.le_of_ble_eq_true rfl, Nat.le_of_ble_eq_true rfl⟩ (Nat.le_of_ble_eq_true rfl) ⟨show _ ≤ 50 by omega, show _ ≤ 2500 by omega⟩ dX1_bestOf_59 ?_
      refine x_top (y := 1) (if_pos (by omega)) ?_
      refine x_if_eq (tgt := 113) C dX1_bestOf_64 (by decide) (fun h => absurd h (by decide)) (fun _ => ?_)
      have hc1 : c < κ 0 := by omega
      have h13 := hI.1
      have h33 := hI.2.1
      have hne : κ 2 ≠ 0 := by omega
      refine x_aload C dX1_bestOf_67 0 rfl ?_
      refine x_next C (kL := 1) (kA := 2) (by decide) (by decide) (hL9.trans (by rw [if_neg hne])) (xkC_da hne) hc1 h13 (by omega) (if_pos hc1) ⟨Nat.le_of_ble_eq_true rfl, Nat.le_of_ble_eq_true rfl⟩ (Nat.le_of_ble_eq_true rfl) ⟨show _ ≤ 50 by omega, show _ ≤ 2500 by omega⟩ dX1_bestOf_69 ?_
      refine x_cast C (xR_o xci2 rfl (xj_c (by decide) (xkC_disc hc1))) q247 dX1_bestOf_74 ?_
      refine x_astore (lv' := [(6, .ref (ad (ro 11 c))), (5, .ref (ad (ro 58 0))), (4, .ref (ad (ro 52 0))), (3, .ref (ad (ro 50 0))), (0, .ref (ad (ro 0 0))), (1, .ref (ad (ro 5 j))), (2, .int (nI M))]) C dX1_bestOf_77 (by decide) rfl ?_
      refine x_aload C dX1_bestOf_79 0 rfl ?_
      refine x_get C fl_X1_169 (r := ro 11 c) rfl (xj_c (by decide) (xkC_disc hc1)) (v := .int (σ 4 c 0)) rfl dX1_bestOf_81 ?_
      refine x_iconst (v := -1) C dX1_bestOf_84 (by decide) ?_
      refine x_icmp_ne (tgt := 110) C dX1_bestOf_85 (by decide) (fun c1 => ?_) (fun c1 => ?_)
      · refine x_goto (tgt := 57) C dX1_bestOf_110 (by decide) ?_
        refine x_lv (lv' := [(5, .ref (ad (ro 58 0))), (4, .ref (ad (ro 52 0))), (3, .ref (ad (ro 50 0))), (0, .ref (ad (ro 0 0))), (1, .ref (ad (ro 5 j))), (2, .int (nI M))]) [1, 2, 3, 4, 5, 6] rfl ?_
        have e9 : sTh σ (σ 6 j 0) (c + 1) = sTh σ (σ 6 j 0) c := if_neg c1
        refine x_wid (c' := 13 + (c + 1)) (s' := 610 + 60 * (c + 1)) (by omega) (by omega) ?_
        exact ih (c + 1) (nI c) ad t2 (by omega) (by rw [e9]; exact hb)
      · refine x_aload C dX1_bestOf_88 2 rfl ?_
        refine x_aload C dX1_bestOf_90 0 rfl ?_
        refine x_aload_n C dX1_bestOf_92 rfl 4 rfl ?_
        refine x_get C fl_X1_172 (r := ro 0 0) rfl (xj_c (by decide) xkC_sr) (v := .int (σ 21 0 0)) rfl dX1_bestOf_93 ?_
        refine x_aload_n C dX1_bestOf_96 rfl 5 rfl ?_
        refine x_getR C fl_X1_175 (r := ro 5 j) rfl (xj_c (by decide) (xkC_box hj)) (v := .int (σ 6 j 0)) rfl dX1_bestOf_97 ?_
        refine x_callV (rest := [.ref (ad (ro 52 0))]) C (k_dpull (xj_c (by decide) (xkC_disc hc1)) (σ 21 0 0) (σ 6 j 0)) cf_X1_178 ⟨rfl, hd_X3_pull⟩ ⟨Nat.le_of_ble_eq_true rfl, Nat.le_of_ble_eq_true rfl⟩ (xR_o xci2 rfl (xj_c (by decide) (xkC_disc hc1))) rfl (Nat.le_of_ble_eq_true rfl) ⟨(show _ ≤ 50 by omega), (show _ ≤ 2500 by omega)⟩ dX1_bestOf_100 (xPv_i ?_) xN_e
        obtain ⟨pv, hpv, epv⟩ := hB c hc1 (σ 6 j 0)
        refine x_top (y := nI pv) (epv) ?_
        refine x_callS (rest := [.ref (ad (ro 52 0))]) C (k_valueOf (k := pv) hpv) cf_X1_124 hd_J18_valueOf ⟨Nat.le_of_ble_eq_true rfl, Nat.le_of_ble_eq_true rfl⟩ rfl (Nat.le_of_ble_eq_true rfl) ⟨show _ ≤ 50 by omega, show _ ≤ 2500 by omega⟩ dX1_bestOf_103 (xPv_i ?_) xN_e
        obtain ⟨hb1, ⟨c9, m9, hh2⟩, hb3, hb4⟩ := hb
        have ht2 : t2 58 0 = none := (hb3 58 0 (by omega)).trans (ht 58 (by decide) (by decide))
        have hle := sTh_le (σ := σ) (ta := σ 6 j 0) c
        refine x_liA (rest := []) C (kO := 52) (kA := 53) (by decide) (by decide) (by decide) ((cu_n (by decide) rfl).trans ((hb3 54 0 (by omega)).trans (ht 54 (by decide) (by decide)))) (by decide) (xLs_to hh2 rfl (cu_n (by decide) rfl) (cu_n (by decide) rfl)) (by omega) hpv ⟨Nat.le_of_ble_eq_true rfl, Nat.le_of_ble_eq_true rfl⟩ (Nat.le_of_ble_eq_true rfl) ⟨show _ ≤ 50 by omega, show _ ≤ 2500 by omega⟩ dX1_bestOf_106 (fun ad2 t3 had2 hh3 ho3 => ?_)
        have it3 : t3 58 0 = some (xIt (c + 1) (nI c) (σ 26 0 0) (ad (ro 1 0))) := (ho3 58 0 (by decide) (by decide)).trans cu_s
        have e3 : t3 = cu (cd t3 58 0) 58 0 (xIt (c + 1) (nI c) (σ 26 0 0) (ad2 (ro 1 0))) := by
          funext k i
          unfold cu cd
          by_cases h : k = 58 ∧ i = 0
          · rw [if_pos h, h.1, h.2, it3, had2 (ro 1 0) (ro_ne (by decide) (by decide) (by omega))]
          · rw [if_neg h, if_neg h]
        rw [← had2 (ro 0 0) (ro_ne (by decide) (by decide) (by omega))]
        rw [← had2 (ro 5 j) (ro_ne (by decide) (by decide) (by omega))]
        rw [← had2 (ro 50 0) (ro_ne (by decide) (by decide) (by omega))]
        rw [← had2 (ro 52 0) (ro_ne (by decide) (by decide) (by omega))]
        rw [← had2 (ro 58 0) (ro_ne (by decide) (by decide) (by omega))]
        rw [e3]
        refine x_pop C dX1_bestOf_109 rfl ?_
        refine x_goto (tgt := 57) C dX1_bestOf_110 (by decide) ?_
        refine x_lv (lv' := [(5, .ref (ad2 (ro 58 0))), (4, .ref (ad2 (ro 52 0))), (3, .ref (ad2 (ro 50 0))), (0, .ref (ad2 (ro 0 0))), (1, .ref (ad2 (ro 5 j))), (2, .int (nI M))]) [1, 2, 3, 4, 5, 6] rfl ?_
        have e9 : sTh σ (σ 6 j 0) (c + 1) = ((sTh σ (σ 6 j 0) c).1 + 1, fun k => if k = (sTh σ (σ 6 j 0) c).1 then pv else (sTh σ (σ 6 j 0) c).2 k) := (if_pos c1).trans (by rw [epv, nI_clamp (by omega)])
        refine ih (c + 1) (nI c) ad2 (cd t3 58 0) (by omega) ?_
        rw [e9]
        obtain ⟨ch, mh, hh⟩ := hb1
        have o3 : ∀ k i, ¬ (k = 52 ∧ i = 0) → ¬ (k = 53 ∧ i = 0) → ¬ (k = 58 ∧ i = 0) → cd t3 58 0 k i = t2 k i := fun k i h1 h2 h3 => (if_neg h3).trans ((ho3 k i h1 h2).trans (cu_n h3 rfl))
        refine ⟨⟨ch, mh, xLs_to hh (had2 _ (ro_ne (by decide) (by decide) (by decide))) (o3 50 0 (by decide) (by decide) (by decide)) (o3 51 0 (by decide) (by decide) (by decide))⟩, ⟨_, _, xLs_to hh3 rfl (if_neg (by decide)) (if_neg (by decide))⟩, fun k i h => ?_, fun k i h1 h2 h3 => (had2 _ (ro_ne h1 (by decide) (by omega))).trans (hb4 k i h1 h2 h3)⟩
        by_cases h58 : k = 58 ∧ i = 0
        · obtain ⟨rfl, rfl⟩ := h58; exact (if_pos ⟨rfl, rfl⟩).trans (ht 58 (by decide) (by decide)).symm
        · exact (o3 k i (by omega) (by omega) h58).trans (hb3 k i h)
  have p1 : ∀ (n k : Nat) (ad : Nat → Nat) (t2 : xK), k + n = 10 → xBW F.1.2.2.1 ad0 t ad t2 k (sPh σ j) 0 (fun _ => 0) → xX F (xQ F (fun v ad' ct' => ad' = ad0 ∧ ct' = xj (xkC F.1.2.2.1 ad0 κ σ) m t ∧ v = some (.int (sBo κ σ j M))) xN 50 2500) ad (xj (xkC F.1.2.2.1 ad κ σ) m t2) (2 + k) (6 + 60 * k) 20 [(5, .int (nI k)), (4, .ref (ad (ro 52 0))), (3, .ref (ad (ro 50 0))), (0, .ref (ad (ro 0 0))), (1, .ref (ad (ro 5 j))), (2, .int (nI M))] [] := by
    intro n
    induction n with
    | zero =>
      intro k ad t2 hk hb
      obtain rfl : k = 10 := by omega
      refine x_iload C dX1_bestOf_20 0 rfl ?_
      refine x_bipush (v := 10) C dX1_bestOf_22 (by decide) ?_
      refine x_icmp_ge (tgt := 48) C dX1_bestOf_24 (by decide) (fun _ => ?_) (fun h => absurd (by decide) h)
      refine x_aload_n C dX1_bestOf_48 rfl 3 rfl ?_
      refine x_get C fl_X1_28 (r := ro 0 0) rfl (xj_c (by decide) xkC_sr) (v := .ref (ad (ro 1 0))) rfl dX1_bestOf_49 ?_
      refine x_iter C (kL := 1) (by decide) xkC_L1 ((hb.2.2.1 58 0 (by omega)).trans (ht 58 (by decide) (by decide))) ⟨Nat.le_of_ble_eq_true rfl, Nat.le_of_ble_eq_true rfl⟩ (Nat.le_of_ble_eq_true rfl) ⟨Nat.le_of_ble_eq_true rfl, Nat.le_of_ble_eq_true rfl⟩ dX1_bestOf_52 (fun ad2 had2 => ?_)
      rw [← had2 (ro 0 0) (ro_ne (by decide) (by decide) (by omega))]
      rw [← had2 (ro 5 j) (ro_ne (by decide) (by decide) (by omega))]
      rw [← had2 (ro 50 0) (ro_ne (by decide) (by decide) (by omega))]
      rw [← had2 (ro 52 0) (ro_ne (by decide) (by decide) (by omega))]
      refine x_astore (lv' := [(5, .ref (ad2 (ro 58 0))), (4, .ref (ad2 (ro 52 0))), (3, .ref (ad2 (ro 50 0))), (0, .ref (ad2 (ro 0 0))), (1, .ref (ad2 (ro 5 j))), (2, .int (nI M))]) C dX1_bestOf_55 (by decide) rfl ?_
      refine x_lv (lv' := [(5, .ref (ad2 (ro 58 0))), (4, .ref (ad2 (ro 52 0))), (3, .ref (ad2 (ro 50 0))), (0, .ref (ad2 (ro 0 0))), (1, .ref (ad2 (ro 5 j))), (2, .int (nI M))]) [0, 1, 2, 3, 4, 5] rfl ?_
      obtain ⟨⟨ch, mh, hh⟩, ⟨c9, m9, hh2⟩, hb3, hb4⟩ := hb
      exact p2 (κ 0) 0 (-1) ad2 t2 (by omega) ⟨⟨ch, mh, xLs_to hh (had2 _ (ro_ne (by decide) (by decide) (by decide))) rfl rfl⟩, ⟨c9, m9, xLs_to hh2 (had2 _ (ro_ne (by decide) (by decide) (by decide))) rfl rfl⟩, hb3, fun k i h1 h2 h3 => (had2 _ (ro_ne h1 (by decide) h3)).trans (hb4 k i h1 h2 h3)⟩
    | succ n ih =>
      intro k ad t2 hk hb
      have hk9 : k < 10 := by omega
      refine x_iload C dX1_bestOf_20 0 rfl ?_
      refine x_bipush (v := 10) C dX1_bestOf_22 (by decide) ?_
      refine x_icmp_ge (tgt := 48) C dX1_bestOf_24 (by decide) (fun h => absurd ((nI_le_iff (a := 10) (by omega) (by omega)).mp h) (by omega)) (fun _ => ?_)
      refine x_aload_n C dX1_bestOf_27 rfl 2 rfl ?_
      refine x_aload_n C dX1_bestOf_28 rfl 3 rfl ?_
      refine x_aload_n C dX1_bestOf_29 rfl 4 rfl ?_
      refine x_iload C dX1_bestOf_30 0 rfl ?_
      refine x_callV (rest := [.ref (ad (ro 50 0))]) C (k1_pullOf hI hS hj hk9) cf_X1_241 ⟨rfl, hd_X1_pullOf⟩ ⟨Nat.le_of_ble_eq_true rfl, Nat.le_of_ble_eq_true rfl⟩ (xR_o xci0 rfl (xj_c (by decide) xkC_sr)) rfl (Nat.le_of_ble_eq_true rfl) ⟨show _ ≤ 50 by omega, show _ ≤ 2500 by omega⟩ dX1_bestOf_32 (xPv_i ?_) xN_e
      obtain ⟨pv, hpv, epv, ephv⟩ := sPo_b hB hS h30 hj hk9
      refine x_top (y := nI pv) (epv) ?_
      refine x_callS (rest := [.ref (ad (ro 50 0))]) C (k_valueOf (k := pv) hpv) cf_X1_124 hd_J18_valueOf ⟨Nat.le_of_ble_eq_true rfl, Nat.le_of_ble_eq_true rfl⟩ rfl (Nat.le_of_ble_eq_true rfl) ⟨show _ ≤ 50 by omega, show _ ≤ 2500 by omega⟩ dX1_bestOf_35 (xPv_i ?_) xN_e
      obtain ⟨⟨ch, mh, hh⟩, ⟨c9, m9, hh2⟩, hb3, hb4⟩ := hb
      refine x_liA (rest := []) C (kO := 50) (kA := 51) (by decide) (by decide) (by decide) ((hb3 54 0 (by omega)).trans (ht 54 (by decide) (by decide))) (by decide) hh (by omega) hpv ⟨Nat.le_of_ble_eq_true rfl, Nat.le_of_ble_eq_true rfl⟩ (Nat.le_of_ble_eq_true rfl) ⟨show _ ≤ 50 by omega, show _ ≤ 2500 by omega⟩ dX1_bestOf_38 (fun ad2 t3 had2 hh3 ho3 => ?_)
      rw [← had2 (ro 0 0) (ro_ne (by decide) (by decide) (by omega))]
      rw [← had2 (ro 5 j) (ro_ne (by decide) (by decide) (by omega))]
      rw [← had2 (ro 50 0) (ro_ne (by decide) (by decide) (by omega))]
      rw [← had2 (ro 52 0) (ro_ne (by decide) (by decide) (by omega))]
      refine x_pop C dX1_bestOf_41 rfl ?_
      refine x_iinc (k := 0) (v := nI (k + 1)) (lv' := [(5, .int (nI (k + 1))), (4, .ref (ad2 (ro 52 0))), (3, .ref (ad2 (ro 50 0))), (0, .ref (ad2 (ro 0 0))), (1, .ref (ad2 (ro 5 j))), (2, .int (nI M))]) C dX1_bestOf_42 rfl (nI_1 k) (by decide) rfl ?_
      refine x_goto (tgt := 20) C dX1_bestOf_45 (by decide) ?_
      refine x_lv (lv' := [(5, .int (nI (k + 1))), (4, .ref (ad2 (ro 52 0))), (3, .ref (ad2 (ro 50 0))), (0, .ref (ad2 (ro 0 0))), (1, .ref (ad2 (ro 5 j))), (2, .int (nI M))]) [0, 1, 2, 3, 4, 5] rfl ?_
      refine x_wid (c' := 2 + (k + 1)) (s' := 6 + 60 * (k + 1)) (by omega) (by omega) ?_
      have ep : (fun q => if q = k then pv else sPh σ j q) = sPh σ j := funext (fun q => by by_cases h : q = k <;> simp [h, ephv])
      rw [ep] at hh3
      exact ih (k + 1) ad2 t3 (by omega) ⟨⟨_, _, hh3⟩, ⟨c9, m9, xLs_to hh2 (had2 _ (ro_ne (by decide) (by decide) (by decide))) (ho3 52 0 (by decide) (by decide)) (ho3 53 0 (by decide) (by decide))⟩, fun k i h => (ho3 k i (by omega) (by omega)).trans (hb3 k i h), fun k i h1 h2 h3 => (had2 _ (ro_ne h1 (by decide) (by omega))).trans (hb4 k i h1 h2 h3)⟩
  refine x_lv (lv' := [(5, .int 0), (4, .ref (ad2 (ro 52 0))), (3, .ref (ad2 (ro 50 0))), (0, .ref (ad2 (ro 0 0))), (1, .ref (ad2 (ro 5 j))), (2, .int (nI M))]) [0, 1, 2, 3, 4, 5] rfl ?_
  exact p1 10 0 ad2 _ (by omega) b0
