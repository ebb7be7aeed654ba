/-! ===== addDisc, addBox ===== -/
theorem xk_adN {g ad ad' : Nat → Nat} {κ : xKp} {σ : xSg} (had : ∀ k i, k < 16 → (k = 11 → i < κ 0) → (5 ≤ k → k ≤ 10 → i < κ 1) → ad' (ro k i) = ad (ro k i)) : xkC g ad' κ σ = xkC g ad κ σ := by
  funext k i
  have h : ∀ k i, k < 5 → ad' (ro k i) = ad (ro k i) := fun k i hk => had k i (by omega) (by omega) (by omega)
  have hd : ∀ i, i < κ 0 → ad' (ro 11 i) = ad (ro 11 i) := fun i hi => had 11 i (by omega) (fun _ => hi) (by omega)
  have hb : ∀ k i, 5 ≤ k → k ≤ 10 → i < κ 1 → ad' (ro k i) = ad (ro k i) := fun k i h1 h2 h3 => had k i (by omega) (by omega) (fun _ _ => h3)
  have hdx : (fun k => if k < κ 0 then some (ad' (ro 11 k)) else none) = (fun k => if k < κ 0 then some (ad (ro 11 k)) else none) := by
    funext k; by_cases c : k < κ 0
    · rw [if_pos c, if_pos c, hd k c]
    · rw [if_neg c, if_neg c]
  have hbx : (fun k => if k < κ 1 then some (ad' (ro 5 k)) else none) = (fun k => if k < κ 1 then some (ad (ro 5 k)) else none) := by
    funext k; by_cases c : k < κ 1
    · rw [if_pos c, if_pos c, hb 5 k (by decide) (by decide) c]
    · rw [if_neg c, if_neg c]
  rcases (show k = 0 ∨ k = 1 ∨ k = 2 ∨ k = 3 ∨ k = 4 ∨ k = 5 ∨ k = 6 ∨ k = 7 ∨ k = 8 ∨ k = 9 ∨ k = 10 ∨ k = 11 ∨ 12 ≤ k by omega) with rfl | rfl | rfl | rfl | rfl | rfl | rfl | rfl | rfl | rfl | rfl | rfl | hk12
  · exact xkE0 (h 1 0 (by decide)) (h 3 0 (by decide)) (fun _ _ _ => rfl)
  · exact xkE1 (h 2 0 (by decide)) rfl rfl rfl
  · simp only [xkC, xLa, hdx]
  · exact xkE3 (h 4 0 (by decide)) rfl rfl rfl
  · simp only [xkC, xLa, hbx]
  · by_cases c : i < κ 1
    · exact xkE5 rfl (fun f h1 h2 => hb f i (by omega) (by omega) c) (fun _ _ _ => rfl)
    · simp only [xkC, if_neg c]
  · exact xkE6 rfl (fun _ => rfl)
  · exact xkE7 rfl (fun _ => rfl)
  · exact xkE8 rfl (fun _ => rfl)
  · exact xkE9 rfl (fun c => ⟨hb 10 i (by omega) (by omega) c, rfl, rfl, rfl⟩)
  · exact xkE10 rfl (fun c => ⟨rfl, rfl, fun _ => rfl⟩)
  · exact xkE11 rfl (fun _ _ => rfl)
  · rw [xkE12 hk12, xkE12 hk12]
/-- one disc more -/
abbrev kD (κ : xKp) : xKp := kup (kup κ 0 (κ 0 + 1)) 2 (xgrow (κ 0) (κ 2))
def sD (κ : xKp) (σ : xSg) (so st we : Int32) : xSg := fun f i k => if f ≤ 4 ∧ i = κ 0 then (if f = 0 then so else if f = 1 then st else if f = 2 then we else if f = 3 then 0 else -1) else if f = 26 ∧ i = 0 ∧ k = 0 then σ 26 0 0 + 1 else σ f i k
theorem sD_n {κ : xKp} {σ : xSg} {so st we : Int32} {f i k : Nat} (h1 : ¬ (f ≤ 4 ∧ i = κ 0)) (h2 : f ≠ 26) : sD κ σ so st we f i k = σ f i k := by unfold sD; rw [if_neg h1, if_neg (by omega)]
theorem sD_26 {κ : xKp} {σ : xSg} {so st we : Int32} : sD κ σ so st we 26 0 0 = σ 26 0 0 + 1 := by unfold sD; rw [if_neg (by omega), if_pos ⟨rfl, rfl, rfl⟩]
set_option maxHeartbeats 1000000 in
theorem pc_dadd {g ad ad0 : Nat → Nat} {κ : xKp} {σ : xSg} {m t : xK} {a : Nat} {so st we : Int32} {e0 : va_E} (had : ∀ x, x ≠ ro 11 (κ 0) → ad x = ad0 x) :
    xu (xu (xu (xu (xj (xkC g ad0 κ σ) m t) (ro 11 (κ 0)) e0) (ro 11 (κ 0)) (.inr (2, [.int so, .int st, .int we, .int 0, .int (-1)]))) (ro 2 0) (.inl (g 1004, xgrow (κ 0) (κ 2), .inr (.inr (.inr (.inr (xcont (fun k => if k = κ 0 then ad (ro 11 (κ 0)) else ad (ro 11 k)) (κ 0 + 1)))))))) (ro 1 0) (xL g a (xgrow (κ 0) (κ 2)) (κ 0 + 1) (σ 26 0 0 + 1))
      = xj (xkC g (xa ad (ro 2 0) a) (kD κ) (sD κ σ so st we)) m t := by
  rw [xu_xu, xj_uc (by decide), xj_uc (by decide), xj_uc (by decide)]
  rw [show xkC g ad0 κ σ = xkC g ad κ σ from (xk_adN (fun k i h1 h2 h3 => had _ (fun e => by have := ro_inj (by omega) (by decide) e; omega))).symm]
  refine xj_eq (fun k i hk => ?_) (fun _ _ _ _ => rfl) (fun _ _ _ _ => rfl)
  have had : ∀ k' i', k' < 16 → ¬ (k' = 2 ∧ i' = 0) → xa ad (ro 2 0) a (ro k' i') = ad (ro k' i') := fun k' i' h1 h2 => xa_n (ro_ne (by omega) (by decide) h2)
  have hk0 : kD κ 0 = κ 0 + 1 := (kup_n (by omega)).trans kup_s
  have hk2 : kD κ 2 = xgrow (κ 0) (κ 2) := kup_s
  have hkn : ∀ f, f ≠ 0 → f ≠ 2 → kD κ f = κ f := fun f h1 h2 => (kup_n h2).trans (kup_n h1)
  have hs0 : ∀ f i' j', 4 < f → f ≠ 26 → sD κ σ so st we f i' j' = σ f i' j' := fun f i' j' h1 h2 => sD_n (by omega) h2
  have hs1 : ∀ f i' j', f ≤ 4 → i' ≠ κ 0 → sD κ σ so st we f i' j' = σ f i' j' := fun f i' j' h1 h2 => sD_n (by omega) (by omega)
  unfold cu
  by_cases h1 : k = 1 ∧ i = 0
  · obtain ⟨rfl, rfl⟩ := h1
    rw [if_pos ⟨rfl, rfl⟩, xkC_L1, hk0, hk2, xa_s, sD_26]
  · rw [if_neg h1]
    by_cases h2 : k = 2 ∧ i = 0
    · obtain ⟨rfl, rfl⟩ := h2
      rw [if_pos ⟨rfl, rfl⟩, xkC_da (by rw [hk2]; exact xgrow_ne), hk0, hk2]
      refine congrArg (fun z => some (Sum.inl (g 1004, xgrow (κ 0) (κ 2), Sum.inr (Sum.inr (Sum.inr (Sum.inr z)))))) ?_
      funext k
      unfold xcont
      by_cases hk9 : k < κ 0 + 1
      · rw [if_pos hk9, if_pos hk9, had 11 k (by decide) (by omega)]
        show some (if k = κ 0 then ad (ro 11 (κ 0)) else ad (ro 11 k)) = _
        by_cases hk8 : k = κ 0
        · rw [if_pos hk8, hk8]
        · rw [if_neg hk8]
      · rw [if_neg hk9, if_neg hk9]
    · rw [if_neg h2]
      by_cases h3 : k = 11 ∧ i = κ 0
      · obtain ⟨rfl, rfl⟩ := h3
        rw [if_pos ⟨rfl, rfl⟩, xkC_disc (by rw [hk0]; omega)]
        simp [xDisc, sD]
      · rw [if_neg h3]
        rcases (show k = 0 ∨ k = 1 ∨ k = 2 ∨ k = 3 ∨ k = 4 ∨ k = 5 ∨ k = 6 ∨ k = 7 ∨ k = 8 ∨ k = 9 ∨ k = 10 ∨ k = 11 ∨ 12 ≤ k by omega) with rfl | rfl | rfl | rfl | rfl | rfl | rfl | rfl | rfl | rfl | rfl | rfl | hk12
        · exact (xkE0 (had 1 0 (by decide) (by omega)) (had 3 0 (by decide) (by omega)) (fun f h1 h2 => hs0 f _ _ (by omega) (by omega))).symm
        · have : ¬ i = 0 := fun e => h1 ⟨rfl, e⟩
          simp only [xkC, if_neg this]
        · have : ¬ i = 0 := fun e => h2 ⟨rfl, e⟩
          simp only [xkC, if_neg this]
        · exact (xkE3 (had 4 0 (by decide) (by omega)) (hkn 3 (by decide) (by decide)) (hkn 1 (by decide) (by decide)) (hs0 27 _ _ (by decide) (by decide))).symm
        · exact (xkE4 (hkn 3 (by decide) (by decide)) (hkn 1 (by decide) (by decide)) (fun k => had 5 k (by decide) (by omega))).symm
        · exact (xkE5 (hkn 1 (by decide) (by decide)) (fun f h1 h2 => had f i (by omega) (by omega)) (fun f h1 h2 => hs0 f _ _ (by omega) (by omega))).symm
        · exact (xkE6 (hkn 1 (by decide) (by decide)) (fun s => hs0 17 _ _ (by decide) (by decide))).symm
        · exact (xkE7 (hkn 1 (by decide) (by decide)) (fun s => hs0 18 _ _ (by decide) (by decide))).symm
        · exact (xkE8 (hkn 1 (by decide) (by decide)) (fun s => hs0 19 _ _ (by decide) (by decide))).symm
        · exact (xkE9 (hkn 1 (by decide) (by decide)) (fun hi1 => ⟨had 10 i (by decide) (by omega), hkn _ (by omega) (by omega), hkn _ (by omega) (by omega), hs0 28 _ _ (by decide) (by decide)⟩)).symm
        · exact (xkE10 (hkn 1 (by decide) (by decide)) (fun hi1 => ⟨hkn _ (by omega) (by omega), hkn _ (by omega) (by omega), fun k => hs0 20 _ _ (by decide) (by decide)⟩)).symm
        · have hne : ¬ i = κ 0 := fun e => h3 ⟨rfl, e⟩
          by_cases c : i < κ 0
          · simp only [xkC, hk0, if_pos c, if_pos (show i < κ 0 + 1 by omega), xDisc, hs1 0 i 0 (by decide) hne, hs1 1 i 0 (by decide) hne, hs1 2 i 0 (by decide) hne, hs1 3 i 0 (by decide) hne, hs1 4 i 0 (by decide) hne]
          · simp only [xkC, hk0, if_neg c, if_neg (show ¬ i < κ 0 + 1 by omega)]
        · rw [xkE12 hk12, xkE12 hk12]
/-- one box more -/
abbrev kB (κ : xKp) : xKp := kup (kup (kup (kup κ 1 (κ 1 + 1)) 3 (xgrow (κ 1) (κ 3))) (10 + κ 1) 0) (20 + κ 1) 0
abbrev xBf (f : Nat) : Prop := (5 ≤ f ∧ f ≤ 15) ∨ (17 ≤ f ∧ f ≤ 20) ∨ f = 28
def sB (κ : xKp) (σ : xSg) (sh ta : Int32) : xSg := fun f i k => if xBf f ∧ i = κ 1 then (if f = 5 then sh else if f = 6 then ta else if f = 17 ∧ k < 10 then -1 else 0) else if f = 27 ∧ i = 0 ∧ k = 0 then σ 27 0 0 + 1 else σ f i k
theorem sB_n {κ : xKp} {σ : xSg} {sh ta : Int32} {f i k : Nat} (h1 : ¬ (xBf f ∧ i = κ 1)) (h2 : f ≠ 27) : sB κ σ sh ta f i k = σ f i k := by unfold sB; rw [if_neg h1, if_neg (by omega)]
theorem sB_27 {κ : xKp} {σ : xSg} {sh ta : Int32} : sB κ σ sh ta 27 0 0 = σ 27 0 0 + 1 := by unfold sB; rw [if_neg (by unfold xBf; omega), if_pos ⟨rfl, rfl, rfl⟩]
theorem sB_at {κ : xKp} {σ : xSg} {sh ta : Int32} {f k : Nat} (h : xBf f) : sB κ σ sh ta f (κ 1) k = if f = 5 then sh else if f = 6 then ta else if f = 17 ∧ k < 10 then -1 else 0 := if_pos ⟨h, rfl⟩
set_option maxHeartbeats 2000000 in
theorem pc_badd {g ad ad0 : Nat → Nat} {κ : xKp} {σ : xSg} {m t : xK} (hI : xIk κ) {a : Nat} {sh ta : Int32} {e0 : va_E} (had : ∀ k i, k < 16 → ¬ (5 ≤ k ∧ k ≤ 9 ∧ i = κ 1) → ad (ro k i) = ad0 (ro k i)) :
    xu (xu (xu (xu (xu (xu (xu (xu (xj (xkC g ad0 κ σ) m t) (ro 5 (κ 1)) e0) (ro 6 (κ 1)) (.inl (g 1000, 10, .inl (fun s => if s < 10 then -1 else 0)))) (ro 7 (κ 1)) (.inl (g 1000, 10, .inl (fun _ => 0)))) (ro 8 (κ 1)) (.inl (g 1000, 100, .inl (fun _ => 0)))) (ro 9 (κ 1)) (xAl 0 (g 301) 0)) (ro 5 (κ 1)) (xBn (.ref (ad (ro 6 (κ 1)))) (.ref (ad (ro 7 (κ 1)))) (.ref (ad (ro 8 (κ 1)))) (.ref (ad (ro 9 (κ 1)))) sh ta))
      (ro 4 0) (.inl (g 1004, xgrow (κ 1) (κ 3), .inr (.inr (.inr (.inr (xcont (fun k => if k = κ 1 then ad (ro 5 (κ 1)) else ad (ro 5 k)) (κ 1 + 1)))))))) (ro 3 0) (xL g a (xgrow (κ 1) (κ 3)) (κ 1 + 1) (σ 27 0 0 + 1))
      = xj (xkC g (xa ad (ro 4 0) a) (kB κ) (sB κ σ sh ta)) m t := by
  rw [xj_uc (by decide), xj_uc (by decide), xj_uc (by decide), xj_uc (by decide), xj_uc (by decide), xj_uc (by decide), xj_uc (by decide), xj_uc (by decide)]
  rw [show xkC g ad0 κ σ = xkC g ad κ σ from (xk_adN (fun k i h1 h2 h3 => had k i h1 (by omega))).symm]
  have h4 : κ 1 ≤ 4 := hI.2.2.2.2.2
  refine xj_eq (fun k i hk => ?_) (fun _ _ _ _ => rfl) (fun _ _ _ _ => rfl)
  have had : ∀ k' i', k' < 16 → ¬ (k' = 4 ∧ i' = 0) → xa ad (ro 4 0) a (ro k' i') = ad (ro k' i') := fun k' i' h1 h2 => xa_n (ro_ne (by omega) (by decide) h2)
  have hk1 : kB κ 1 = κ 1 + 1 := (kup_n (by omega)).trans ((kup_n (by omega)).trans ((kup_n (by omega)).trans kup_s))
  have hk3 : kB κ 3 = xgrow (κ 1) (κ 3) := (kup_n (by omega)).trans ((kup_n (by omega)).trans kup_s)
  have hkq : kB κ (10 + κ 1) = 0 := (kup_n (by omega)).trans kup_s
  have hka : kB κ (20 + κ 1) = 0 := kup_s
  have hkn : ∀ f, f ≠ 1 → f ≠ 3 → f ≠ 10 + κ 1 → f ≠ 20 + κ 1 → kB κ f = κ f := fun f h1 h2 h3 h4 => (kup_n h4).trans ((kup_n h3).trans ((kup_n h2).trans (kup_n h1)))
  have hs0 : ∀ f i' j', ¬ xBf f → f ≠ 27 → sB κ σ sh ta f i' j' = σ f i' j' := fun f i' j' h1 h2 => sB_n (fun e => h1 e.1) h2
  have hs1 : ∀ f i' j', xBf f → i' ≠ κ 1 → sB κ σ sh ta f i' j' = σ f i' j' := fun f i' j' h1 h2 => sB_n (fun e => h2 e.2) (by unfold xBf at h1; omega)
  unfold cu
  rcases (show k = 0 ∨ k = 1 ∨ k = 2 ∨ k = 3 ∨ k = 4 ∨ k = 5 ∨ k = 6 ∨ k = 7 ∨ k = 8 ∨ k = 9 ∨ k = 10 ∨ k = 11 ∨ 12 ≤ k by omega) with rfl | rfl | rfl | rfl | rfl | rfl | rfl | rfl | rfl | rfl | rfl | rfl | hk12
  · simp only [Nat.reduceEqDiff, false_and, if_false]
    exact (xkE0 (had 1 0 (by decide) (by omega)) (had 3 0 (by decide) (by omega)) (fun f h1 h2 => hs0 f _ _ (by unfold xBf; omega) (by omega))).symm
  · simp only [Nat.reduceEqDiff, false_and, if_false]
    exact (xkE1 (had 2 0 (by decide) (by omega)) (hkn 2 (by omega) (by omega) (by omega) (by omega)) (hkn 0 (by omega) (by omega) (by omega) (by omega)) (hs0 26 _ _ (by unfold xBf; omega) (by omega))).symm
  · simp only [Nat.reduceEqDiff, false_and, if_false]
    exact (xkE2 (hkn 2 (by omega) (by omega) (by omega) (by omega)) (hkn 0 (by omega) (by omega) (by omega) (by omega)) (fun k => had 11 k (by decide) (by omega))).symm
  · simp only [Nat.reduceEqDiff, false_and, if_false, true_and]
    by_cases c : i = 0
    · subst c
      rw [if_pos rfl, xkC_L3, hk1, hk3, xa_s, sB_27]
    · rw [if_neg c]; simp only [xkC, if_neg c]
  · simp only [Nat.reduceEqDiff, false_and, if_false, true_and]
    by_cases c : i = 0
    · subst c
      rw [if_pos rfl, xkC_ba (by rw [hk3]; exact xgrow_ne), hk1, hk3]
      refine congrArg (fun z => some (Sum.inl (g 1004, xgrow (κ 1) (κ 3), Sum.inr (Sum.inr (Sum.inr (Sum.inr z)))))) ?_
      funext k
      unfold xcont
      by_cases hk9 : k < κ 1 + 1
      · rw [if_pos hk9, if_pos hk9, had 5 k (by decide) (by omega)]
        show some (if k = κ 1 then ad (ro 5 (κ 1)) else ad (ro 5 k)) = _
        by_cases hk8 : k = κ 1
        · rw [if_pos hk8, hk8]
        · rw [if_neg hk8]
      · rw [if_neg hk9, if_neg hk9]
    · rw [if_neg c]; simp only [xkC, if_neg c]
  · simp only [Nat.reduceEqDiff, false_and, if_false, true_and]
    by_cases c : i = κ 1
    · subst c
      rw [if_pos rfl]
      simp only [xkC, hk1, if_pos (Nat.lt_succ_self (κ 1)), xBox, had 6 (κ 1) (by decide) (by omega), had 7 (κ 1) (by decide) (by omega), had 8 (κ 1) (by decide) (by omega), had 9 (κ 1) (by decide) (by omega), sB_at (show xBf 5 by unfold xBf; omega), sB_at (show xBf 6 by unfold xBf; omega), sB_at (show xBf 7 by unfold xBf; omega), sB_at (show xBf 8 by unfold xBf; omega), sB_at (show xBf 9 by unfold xBf; omega), sB_at (show xBf 10 by unfold xBf; omega), sB_at (show xBf 11 by unfold xBf; omega), sB_at (show xBf 12 by unfold xBf; omega), sB_at (show xBf 13 by unfold xBf; omega), sB_at (show xBf 14 by unfold xBf; omega), sB_at (show xBf 15 by unfold xBf; omega)]
      rfl
    · rw [if_neg c, if_neg c]
      by_cases d : i < κ 1
      · simp only [xkC, hk1, if_pos d, if_pos (show i < κ 1 + 1 by omega), xBox, had 6 i (by decide) (by omega), had 7 i (by decide) (by omega), had 8 i (by decide) (by omega), had 9 i (by decide) (by omega), hs1 5 i 0 (by unfold xBf; omega) c, hs1 6 i 0 (by unfold xBf; omega) c, hs1 7 i 0 (by unfold xBf; omega) c, hs1 8 i 0 (by unfold xBf; omega) c, hs1 9 i 0 (by unfold xBf; omega) c, hs1 10 i 0 (by unfold xBf; omega) c, hs1 11 i 0 (by unfold xBf; omega) c, hs1 12 i 0 (by unfold xBf; omega) c, hs1 13 i 0 (by unfold xBf; omega) c, hs1 14 i 0 (by unfold xBf; omega) c, hs1 15 i 0 (by unfold xBf; omega) c]
      · simp only [xkC, hk1, if_neg d, if_neg (show ¬ i < κ 1 + 1 by omega)]
  · simp only [Nat.reduceEqDiff, false_and, if_false, true_and]
    by_cases c : i = κ 1
    · subst c
      rw [if_pos rfl]
      simp only [xkC, hk1, if_pos (Nat.lt_succ_self (κ 1)), sB_at (show xBf 17 by unfold xBf; omega)]
      simp
    · rw [if_neg c]
      by_cases d : i < κ 1
      · simp only [xkC, hk1, if_pos d, if_pos (show i < κ 1 + 1 by omega), hs1 17 i _ (by unfold xBf; omega) c]
      · simp only [xkC, hk1, if_neg d, if_neg (show ¬ i < κ 1 + 1 by omega)]
  · simp only [Nat.reduceEqDiff, false_and, if_false, true_and]
    by_cases c : i = κ 1
    · subst c
      rw [if_pos rfl]
      simp only [xkC, hk1, if_pos (Nat.lt_succ_self (κ 1)), sB_at (show xBf 18 by unfold xBf; omega)]
      simp
    · rw [if_neg c]
      by_cases d : i < κ 1
      · simp only [xkC, hk1, if_pos d, if_pos (show i < κ 1 + 1 by omega), hs1 18 i _ (by unfold xBf; omega) c]
      · simp only [xkC, hk1, if_neg d, if_neg (show ¬ i < κ 1 + 1 by omega)]
  · simp only [Nat.reduceEqDiff, false_and, if_false, true_and]
    by_cases c : i = κ 1
    · subst c
      rw [if_pos rfl]
      simp only [xkC, hk1, if_pos (Nat.lt_succ_self (κ 1)), sB_at (show xBf 19 by unfold xBf; omega)]
      simp
    · rw [if_neg c]
      by_cases d : i < κ 1
      · simp only [xkC, hk1, if_pos d, if_pos (show i < κ 1 + 1 by omega), hs1 19 i _ (by unfold xBf; omega) c]
      · simp only [xkC, hk1, if_neg d, if_neg (show ¬ i < κ 1 + 1 by omega)]
  · simp only [Nat.reduceEqDiff, false_and, if_false, true_and]
    by_cases c : i = κ 1
    · subst c
      rw [if_pos rfl]
      simp only [xkC, hk1, if_pos (Nat.lt_succ_self (κ 1)), hkq, hka, sB_at (show xBf 28 by unfold xBf; omega), xL]
      rfl
    · rw [if_neg c]
      by_cases d : i < κ 1
      · simp only [xkC, hk1, if_pos d, if_pos (show i < κ 1 + 1 by omega), had 10 i (by decide) (by omega), hkn (20 + i) (by omega) (by omega) (by omega) (by omega), hkn (10 + i) (by omega) (by omega) (by omega) (by omega), hs1 28 i 0 (by unfold xBf; omega) c]
      · simp only [xkC, hk1, if_neg d, if_neg (show ¬ i < κ 1 + 1 by omega)]
  · simp only [Nat.reduceEqDiff, false_and, if_false, true_and]
    by_cases d : i < κ 1
    · simp only [xkC, hk1, if_pos d, if_pos (show i < κ 1 + 1 by omega), hkn (20 + i) (by omega) (by omega) (by omega) (by omega), hkn (10 + i) (by omega) (by omega) (by omega) (by omega), hs1 20 i _ (by unfold xBf; omega) (show i ≠ κ 1 by omega)]
    · by_cases c : i = κ 1
      · subst c
        simp only [xkC, hk1, if_neg d, if_pos (Nat.lt_succ_self (κ 1)), hka, xLa]
        rfl
      · simp only [xkC, hk1, if_neg d, if_neg (show ¬ i < κ 1 + 1 by omega)]
  · simp only [Nat.reduceEqDiff, false_and, if_false]
    exact (xkE11 (hkn 0 (by omega) (by omega) (by omega) (by omega)) (fun f h1 => hs0 f _ _ (by unfold xBf; omega) (by omega))).symm
  · rw [xkE12 hk12, if_neg (by omega), if_neg (by omega), if_neg (by omega), if_neg (by omega), if_neg (by omega), if_neg (by omega), if_neg (by omega), if_neg (by omega), xkE12 hk12]
theorem k1_da {g ad ad1 : Nat → Nat} {κ : xKp} {σ : xSg} (had1 : ∀ x, x ≠ ro 11 (κ 0) → ad1 x = ad x) : xkC g ad κ σ 2 0 = xLa g (κ 2) (κ 0) (fun k => ad1 (ro 11 k)) := by
  rw [show xkC g ad κ σ = xkC g ad1 κ σ from (xk_adN (fun k i h1 h2 h3 => had1 _ (fun e => by have := ro_inj (by omega) (by decide) e; omega))).symm]
  rfl
theorem nI_sub1 {n : Nat} : nI (n + 1) - 1 = nI n := by
  rw [← nI_add]
  exact Int32.add_sub_cancel _ _
theorem k1_ba {g ad ad1 : Nat → Nat} {κ : xKp} {σ : xSg} (had1 : ∀ k i, k < 16 → ¬ (5 ≤ k ∧ k ≤ 9 ∧ i = κ 1) → ad1 (ro k i) = ad (ro k i)) : xkC g ad κ σ 4 0 = xLa g (κ 3) (κ 1) (fun k => ad1 (ro 5 k)) := by
  rw [show xkC g ad κ σ = xkC g ad1 κ σ from (xk_adN (fun k i h1 h2 h3 => had1 k i h1 (by omega))).symm]
  rfl
theorem xBx_eq {G : xG} {ad : Nat → Nat} {ct : xCt} {rB r6 r7 r8 r9 : Nat} {sh ta : Int32} (hd : (r6 ≠ r7 ∧ r6 ≠ r8 ∧ r6 ≠ r9) ∧ (r7 ≠ r8 ∧ r7 ≠ r9) ∧ r8 ≠ r9) (hb : rB ≠ r6 ∧ rB ≠ r7 ∧ rB ≠ r8 ∧ rB ≠ r9) : xBx G ad ct rB r6 r7 r8 r9 sh ta = xu (xu (xu (xu (xu ct r6 (.inl (G.2.2.1 1000, 10, .inl (fun s => if s < 10 then -1 else 0)))) r7 (.inl (G.2.2.1 1000, 10, .inl (fun _ => 0)))) r8 (.inl (G.2.2.1 1000, 100, .inl (fun _ => 0)))) r9 (xAl 0 (G.2.2.1 301) 0)) rB (xBn (.ref (ad r6)) (.ref (ad r7)) (.ref (ad r8)) (.ref (ad r9)) sh ta) := by
  obtain ⟨⟨d67, d68, d69⟩, ⟨d78, d79⟩, d89⟩ := hd
  obtain ⟨b6, b7, b8, b9⟩ := hb
  funext x
  unfold xBx
  by_cases e0 : x = rB
  · simp [xu, e0]
  · by_cases e6 : x = r6
    · subst e6; simp [xu, e0, d67, d68, d69]
    · by_cases e7 : x = r7
      · subst e7; simp [xu, e0, e6, d78, d79]
      · by_cases e8 : x = r8
        · subst e8; simp [xu, e0, e6, e7, d89]
        · by_cases e9 : x = r9
          · subst e9; simp [xu, e0, e6, e7, e8]
          · simp [xu, e0, e6, e7, e8, e9]
theorem xBx_n {G : xG} {ad : Nat → Nat} {ct : xCt} {rB r6 r7 r8 r9 x : Nat} {sh ta : Int32} {o : Option va_E} (h0 : x ≠ rB) (h6 : x ≠ r6) (h7 : x ≠ r7) (h8 : x ≠ r8) (h9 : x ≠ r9) (h : ct x = o) : xBx G ad ct rB r6 r7 r8 r9 sh ta x = o := by
  unfold xBx
  rw [if_neg h0, if_neg h6, if_neg h7, if_neg h8, if_neg h9, h]
set_option maxHeartbeats 4000000 in
theorem k1_addDisc {G : xG} {ad : Nat → Nat} {κ : xKp} {σ : xSg} {m t : xK} (hI : xIk κ) (ht : t 56 0 = none) (so st we : Int32) : xM G yX1_addDisc (ws_ yX1_addDisc cX1_addDisc 4 (some Jvm.ClassFile.FieldType.int)) 20 600 10 160 [.ref (ad (ro 0 0)), .int so, .int st, .int we] ad (xj (xkC G.2.2.1 ad κ σ) m t) (fun v ad' ct' => (∀ x, x ≠ ro 2 0 → x ≠ ro 11 (κ 0) → ad' x = ad x) ∧ (((0 ≤ so ∧ so ≤ 99) ∧ (1 ≤ st ∧ st ≤ 50)) ∧ (0 ≤ we ∧ we ≤ 99)) ∧ κ 0 < 30 ∧ v = some (.int (nI (κ 0))) ∧ ct' = xj (xkC G.2.2.1 ad' (kD κ) (sD κ σ so st we)) m t) (fun E ad' ct' => ad' = ad ∧ ct' = xj (xkC G.2.2.1 ad κ σ) m t ∧ (E = xIAE ∧ ¬ (((0 ≤ so ∧ so ≤ 99) ∧ (1 ≤ st ∧ st ≤ 50)) ∧ (0 ≤ we ∧ we ≤ 99)) ∨ E = xISE ∧ (((0 ≤ so ∧ so ≤ 99) ∧ (1 ≤ st ∧ st ≤ 50)) ∧ (0 ≤ we ∧ we ≤ 99)) ∧ ¬ κ 0 < 30)) := by
  refine xM_of (cc := cX1_addDisc) (by decide) rfl (fun F hF C => ?_)
  subst hF
  show xX F _ _ _ 0 0 0 [(0, .ref (ad (ro 0 0))), (1, .int so), (2, .int st), (3, .int we)] []
  refine x_iload_n C dX1_addDisc_0 rfl 1 rfl ?_
  refine x_iconst (v := 0) C dX1_addDisc_1 (by decide) ?_
  refine x_bipush (v := 99) C dX1_addDisc_2 (by decide) ?_
  refine x_callS (rest := []) C (k_isBetween so 0 99) cf_X1_45 hd_X1_isBetween ⟨Nat.le_of_ble_eq_true rfl, Nat.le_of_ble_eq_true rfl⟩ rfl (Nat.le_of_ble_eq_true rfl) ⟨Nat.le_of_ble_eq_true rfl, Nat.le_of_ble_eq_true rfl⟩ dX1_addDisc_4 (xPv_i ?_) xN_e
  refine x_if_eq (tgt := 34) C dX1_addDisc_7 (by decide) (fun c1 => ?_) (fun c1 => ?_)
  · refine x_iconst (v := 0) C dX1_addDisc_34 (by decide) ?_
    refine x_callS (rest := []) C (k_require 0) cf_X1_49 hd_X1_require ⟨Nat.le_of_ble_eq_true rfl, Nat.le_of_ble_eq_true rfl⟩ rfl (Nat.le_of_ble_eq_true rfl) ⟨Nat.le_of_ble_eq_true rfl, Nat.le_of_ble_eq_true rfl⟩ dX1_addDisc_35 (fun v ad' ct' q => absurd rfl q.1) (fun E ad' ct' q => ?_)
    obtain ⟨-, rfl, e9, rfl⟩ := q; obtain rfl := e9.symm
    exact x_out C (fun _ h => nomatch h) (Nat.le_of_ble_eq_true rfl) (Nat.le_of_ble_eq_true rfl) ⟨rfl, rfl, Or.inl ⟨rfl, fun z => i00 c1 z.1.1⟩⟩
  · refine x_iload_n C dX1_addDisc_10 rfl 2 rfl ?_
    refine x_iconst (v := 1) C dX1_addDisc_11 (by decide) ?_
    refine x_bipush (v := 50) C dX1_addDisc_12 (by decide) ?_
    refine x_callS (rest := []) C (k_isBetween st 1 50) cf_X1_45 hd_X1_isBetween ⟨Nat.le_of_ble_eq_true rfl, Nat.le_of_ble_eq_true rfl⟩ rfl (Nat.le_of_ble_eq_true rfl) ⟨Nat.le_of_ble_eq_true rfl, Nat.le_of_ble_eq_true rfl⟩ dX1_addDisc_14 (xPv_i ?_) xN_e
    refine x_if_eq (tgt := 34) C dX1_addDisc_17 (by decide) (fun c2 => ?_) (fun c2 => ?_)
    · refine x_iconst (v := 0) C dX1_addDisc_34 (by decide) ?_
      refine x_callS (rest := []) C (k_require 0) cf_X1_49 hd_X1_require ⟨Nat.le_of_ble_eq_true rfl, Nat.le_of_ble_eq_true rfl⟩ rfl (Nat.le_of_ble_eq_true rfl) ⟨Nat.le_of_ble_eq_true rfl, Nat.le_of_ble_eq_true rfl⟩ dX1_addDisc_35 (fun v ad' ct' q => absurd rfl q.1) (fun E ad' ct' q => ?_)
      obtain ⟨-, rfl, e9, rfl⟩ := q; obtain rfl := e9.symm
      exact x_out C (fun _ h => nomatch h) (Nat.le_of_ble_eq_true rfl) (Nat.le_of_ble_eq_true rfl) ⟨rfl, rfl, Or.inl ⟨rfl, fun z => i00 c2 z.1.2⟩⟩
    · refine x_iload_n C dX1_addDisc_20 rfl 3 rfl ?_
      refine x_iconst (v := 0) C dX1_addDisc_21 (by decide) ?_
      refine x_bipush (v := 99) C dX1_addDisc_22 (by decide) ?_
      refine x_callS (rest := []) C (k_isBetween we 0 99) cf_X1_45 hd_X1_isBetween ⟨Nat.le_of_ble_eq_true rfl, Nat.le_of_ble_eq_true rfl⟩ rfl (Nat.le_of_ble_eq_true rfl) ⟨Nat.le_of_ble_eq_true rfl, Nat.le_of_ble_eq_true rfl⟩ dX1_addDisc_24 (xPv_i ?_) xN_e
      refine x_if_eq (tgt := 34) C dX1_addDisc_27 (by decide) (fun c3 => ?_) (fun c3 => ?_)
      · refine x_iconst (v := 0) C dX1_addDisc_34 (by decide) ?_
        refine x_callS (rest := []) C (k_require 0) cf_X1_49 hd_X1_require ⟨Nat.le_of_ble_eq_true rfl, Nat.le_of_ble_eq_true rfl⟩ rfl (Nat.le_of_ble_eq_true rfl) ⟨Nat.le_of_ble_eq_true rfl, Nat.le_of_ble_eq_true rfl⟩ dX1_addDisc_35 (fun v ad' ct' q => absurd rfl q.1) (fun E ad' ct' q => ?_)
        obtain ⟨-, rfl, e9, rfl⟩ := q; obtain rfl := e9.symm
        exact x_out C (fun _ h => nomatch h) (Nat.le_of_ble_eq_true rfl) (Nat.le_of_ble_eq_true rfl) ⟨rfl, rfl, Or.inl ⟨rfl, fun z => i00 c3 z.2⟩⟩
      · refine x_iconst (v := 1) C dX1_addDisc_30 (by decide) ?_
        refine x_goto (tgt := 35) C dX1_addDisc_31 (by decide) ?_
        refine x_callS (rest := []) C (k_require 1) cf_X1_49 hd_X1_require ⟨Nat.le_of_ble_eq_true rfl, Nat.le_of_ble_eq_true rfl⟩ rfl (Nat.le_of_ble_eq_true rfl) ⟨Nat.le_of_ble_eq_true rfl, Nat.le_of_ble_eq_true rfl⟩ dX1_addDisc_35 (fun v ad' ct' q => ?_) (fun E ad' ct' q => absurd q.1 (by decide))
        obtain ⟨-, rfl, e9, rfl⟩ := q; obtain rfl := e9.symm
        have hN : ((0 ≤ so ∧ so ≤ 99) ∧ (1 ≤ st ∧ st ≤ 50)) ∧ (0 ≤ we ∧ we ≤ 99) := ⟨⟨i01 c1, i01 c2⟩, i01 c3⟩
        refine x_aload_n C dX1_addDisc_38 rfl 0 rfl ?_
        refine x_get C fl_X1_28 (r := ro 0 0) rfl (xj_c (by decide) xkC_sr) (v := .ref (ad (ro 1 0))) rfl dX1_addDisc_39 ?_
        refine x_callV (rest := []) C (k_size (xj_c (by decide) xkC_L1)) cf_X1_53 ⟨rfl, hd_J2_size⟩ ⟨Nat.le_of_ble_eq_true rfl, Nat.le_of_ble_eq_true rfl⟩ (xR_o xci1 rfl (xj_c (by decide) xkC_L1)) rfl (Nat.le_of_ble_eq_true rfl) ⟨Nat.le_of_ble_eq_true rfl, Nat.le_of_ble_eq_true rfl⟩ dX1_addDisc_42 (xPv_i ?_) xN_e
        refine x_bipush (v := 30) C dX1_addDisc_45 (by decide) ?_
        refine x_icmp_ge (tgt := 54) C dX1_addDisc_47 (by decide) (fun c4 => ?_) (fun c4 => ?_)
        · refine x_iconst (v := 0) C dX1_addDisc_54 (by decide) ?_
          refine x_callS (rest := []) C (k_requireState 0) cf_X1_57 hd_X1_requireState ⟨Nat.le_of_ble_eq_true rfl, Nat.le_of_ble_eq_true rfl⟩ rfl (Nat.le_of_ble_eq_true rfl) ⟨Nat.le_of_ble_eq_true rfl, Nat.le_of_ble_eq_true rfl⟩ dX1_addDisc_55 (fun v ad' ct' q => absurd rfl q.1) (fun E ad' ct' q => ?_)
          obtain ⟨-, rfl, e9, rfl⟩ := q; obtain rfl := e9.symm
          exact x_out C (fun _ h => nomatch h) (Nat.le_of_ble_eq_true rfl) (Nat.le_of_ble_eq_true rfl) ⟨rfl, rfl, Or.inr ⟨rfl, hN, fun z => absurd ((nI_lt_iff (b := 30) (by have := hI.2.2.2.2.1; omega) (by decide)).mpr z) (Int32.not_lt.mpr c4)⟩⟩
        · refine x_iconst (v := 1) C dX1_addDisc_50 (by decide) ?_
          refine x_goto (tgt := 55) C dX1_addDisc_51 (by decide) ?_
          refine x_callS (rest := []) C (k_requireState 1) cf_X1_57 hd_X1_requireState ⟨Nat.le_of_ble_eq_true rfl, Nat.le_of_ble_eq_true rfl⟩ rfl (Nat.le_of_ble_eq_true rfl) ⟨Nat.le_of_ble_eq_true rfl, Nat.le_of_ble_eq_true rfl⟩ dX1_addDisc_55 (fun v ad' ct' q => ?_) (fun E ad' ct' q => absurd q.1 (by decide))
          obtain ⟨-, rfl, e9, rfl⟩ := q; obtain rfl := e9.symm
          have hn : κ 0 < 30 := (nI_lt_iff (b := 30) (by have := hI.2.2.2.2.1; omega) (by decide)).mp (Int32.not_le.mp c4)
          refine x_aload_n C dX1_addDisc_58 rfl 0 rfl ?_
          refine x_get C fl_X1_28 (r := ro 0 0) rfl (xj_c (by decide) xkC_sr) (v := .ref (ad (ro 1 0))) rfl dX1_addDisc_59 ?_
          refine x_new C (r := ro 11 (κ 0)) (fs := [.int 0, .int 0, .int 0, .int 0, .int 0]) xci2 q247 q464 q34 (xj_c (by decide) (if_neg (Nat.lt_irrefl _))) (by decide) ⟨Nat.le_of_ble_eq_true rfl, Nat.le_of_ble_eq_true rfl⟩ dX1_addDisc_62 (fun ad1 had1 => ?_)
          rw [← had1 (ro 0 0) (ro_ne (by decide) (by decide) (by omega)), ← had1 (ro 1 0) (ro_ne (by decide) (by decide) (by omega))]
          refine x_dup C dX1_addDisc_65 rfl ?_
          refine x_iload_n C dX1_addDisc_66 rfl 1 rfl ?_
          refine x_iload_n C dX1_addDisc_67 rfl 2 rfl ?_
          refine x_iload_n C dX1_addDisc_68 rfl 3 rfl ?_
          refine x_callI (rest := [.ref (ad1 (ro 11 (κ 0))), .ref (ad1 (ro 1 0))]) C (k3_init xu_s so st we) q467 q34 q465 q466 rfl hd_X3_init ⟨Nat.le_of_ble_eq_true rfl, Nat.le_of_ble_eq_true rfl⟩ rfl (Nat.le_of_ble_eq_true rfl) ⟨Nat.le_of_ble_eq_true rfl, Nat.le_of_ble_eq_true rfl⟩ dX1_addDisc_69 (xPv_i ?_) xN_e
          have a2 : ad1 (ro 2 0) = ad (ro 2 0) := had1 _ (ro_ne (by decide) (by decide) (by omega))
          have e56 : ro 56 0 ≠ ro 11 (κ 0) := ro_ne (by decide) (by decide) (by omega)
          have e1 : ro 1 0 ≠ ro 11 (κ 0) := ro_ne (by decide) (by decide) (by omega)
          have e2 : ro 2 0 ≠ ro 11 (κ 0) := ro_ne (by decide) (by decide) (by omega)
          refine x_callV (rest := []) C (k_add (rL := ro 1 0) (rA := ro 2 0) (rS := ro 56 0) (Cn := "SelectoRoute$Disc") (el := fun k => ad1 (ro 11 k)) (v := ad1 (ro 11 (κ 0))) (n := κ 0) (cap := κ 2) (md := σ 26 0 0) (xu_n e1 (xu_n e1 (xj_c (by decide) (xkC_L1.trans (by rw [a2]))))) (xu_n e2 (xu_n e2 (xj_c (by decide) (k1_da had1)))) (xu_n e56 (xu_n e56 (xj_t (by decide) (by decide) ht))) (ro_ne (by decide) (by decide) (by omega)) (ro_ne (by decide) (by decide) (by omega)) hI.1 hI.2.1 (fun k hk => xR_o xci2 rfl (xu_n (ro_ne (by decide) (by decide) (by omega)) (xu_n (ro_ne (by decide) (by decide) (by omega)) (xj_c (by decide) (xkC_disc hk))))) (xR_o xci2 rfl xu_s) (by decide)) cf_X1_65 ⟨rfl, hd_J2_add⟩ ⟨Nat.le_of_ble_eq_true rfl, Nat.le_of_ble_eq_true rfl⟩ (xR_o xci1 rfl (xu_n e1 (xu_n e1 (xj_c (by decide) xkC_L1)))) rfl (Nat.le_of_ble_eq_true rfl) ⟨Nat.le_of_ble_eq_true rfl, Nat.le_of_ble_eq_true rfl⟩ dX1_addDisc_72 (fun v ad' ct' q => ?_) xN_e
          obtain ⟨a, rfl, rfl, rfl⟩ := q
          refine x_eq (pc_dadd had1) ?_
          refine x_pop C dX1_addDisc_75 rfl ?_
          rw [show ad1 (ro 0 0) = (xa ad1 (ro 2 0) a) (ro 0 0) from (xa_n (ro_ne (by decide) (by decide) (by omega))).symm]
          refine x_lv (lv' := [(0, .ref ((xa ad1 (ro 2 0) a) (ro 0 0)))]) [0] rfl ?_
          refine x_aload_n C dX1_addDisc_76 rfl 0 rfl ?_
          refine x_get C fl_X1_28 (r := ro 0 0) rfl (xj_c (by decide) xkC_sr) (v := .ref ((xa ad1 (ro 2 0) a) (ro 1 0))) rfl dX1_addDisc_77 ?_
          refine x_callV (rest := []) C (k_size (rL := ro 1 0) (n := κ 0 + 1) (aA := a) (md := σ 26 0 0 + 1) (xj_c (by decide) (xkC_L1.trans (by rw [show kD κ 2 = xgrow (κ 0) (κ 2) from kup_s, show kD κ 0 = κ 0 + 1 from (kup_n (by omega)).trans kup_s, xa_s, xL_ne xgrow_ne, sD_26])))) cf_X1_53 ⟨rfl, hd_J2_size⟩ ⟨Nat.le_of_ble_eq_true rfl, Nat.le_of_ble_eq_true rfl⟩ (xR_o xci1 rfl (xj_c (by decide) xkC_L1)) rfl (Nat.le_of_ble_eq_true rfl) ⟨Nat.le_of_ble_eq_true rfl, Nat.le_of_ble_eq_true rfl⟩ dX1_addDisc_80 (xPv_i ?_) xN_e
          refine x_iconst (v := 1) C dX1_addDisc_83 (by decide) ?_
          refine x_isub C dX1_addDisc_84 ?_
          refine x_top (y := nI (κ 0)) (nI_sub1) ?_
          exact x_iret C dX1_addDisc_85 (Nat.le_of_ble_eq_true rfl) (Nat.le_of_ble_eq_true rfl) ⟨fun x n2 n11 => by rw [xa_n n2, had1 x n11], hN, hn, rfl, rfl⟩
set_option maxHeartbeats 4000000 in
theorem k1_addBox {G : xG} {ad : Nat → Nat} {κ : xKp} {σ : xSg} {m t : xK} (hI : xIk κ) (ht : t 56 0 = none) (sh ta : Int32) : xM G yX1_addBox (ws_ yX1_addBox cX1_addBox 3 (some Jvm.ClassFile.FieldType.int)) 20 600 10 260 [.ref (ad (ro 0 0)), .int sh, .int ta] ad (xj (xkC G.2.2.1 ad κ σ) m t) (fun v ad' ct' => (∀ k i, k < 64 → ¬ (k = 4 ∧ i = 0) → ¬ (5 ≤ k ∧ k ≤ 9 ∧ i = κ 1) → ad' (ro k i) = ad (ro k i)) ∧ ((0 ≤ sh ∧ sh ≤ 60) ∧ (0 ≤ ta ∧ ta ≤ 9)) ∧ κ 1 < 4 ∧ v = some (.int (nI (κ 1))) ∧ ct' = xj (xkC G.2.2.1 ad' (kB κ) (sB κ σ sh ta)) m t) (fun E ad' ct' => ad' = ad ∧ ct' = xj (xkC G.2.2.1 ad κ σ) m t ∧ (E = xIAE ∧ ¬ ((0 ≤ sh ∧ sh ≤ 60) ∧ (0 ≤ ta ∧ ta ≤ 9)) ∨ E = xISE ∧ ((0 ≤ sh ∧ sh ≤ 60) ∧ (0 ≤ ta ∧ ta ≤ 9)) ∧ ¬ κ 1 < 4)) := by
  refine xM_of (cc := cX1_addBox) (by decide) rfl (fun F hF C => ?_)
  subst hF
  show xX F _ _ _ 0 0 0 [(0, .ref (ad (ro 0 0))), (1, .int sh), (2, .int ta)] []
  refine x_iload_n C dX1_addBox_0 rfl 1 rfl ?_
  refine x_iconst (v := 0) C dX1_addBox_1 (by decide) ?_
  refine x_bipush (v := 60) C dX1_addBox_2 (by decide) ?_
  refine x_callS (rest := []) C (k_isBetween sh 0 60) cf_X1_45 hd_X1_isBetween ⟨Nat.le_of_ble_eq_true rfl, Nat.le_of_ble_eq_true rfl⟩ rfl (Nat.le_of_ble_eq_true rfl) ⟨Nat.le_of_ble_eq_true rfl, Nat.le_of_ble_eq_true rfl⟩ dX1_addBox_4 (xPv_i ?_) xN_e
  refine x_if_eq (tgt := 24) C dX1_addBox_7 (by decide) (fun c1 => ?_) (fun c1 => ?_)
  · refine x_iconst (v := 0) C dX1_addBox_24 (by decide) ?_
    refine x_callS (rest := []) C (k_require 0) cf_X1_49 hd_X1_require ⟨Nat.le_of_ble_eq_true rfl, Nat.le_of_ble_eq_true rfl⟩ rfl (Nat.le_of_ble_eq_true rfl) ⟨Nat.le_of_ble_eq_true rfl, Nat.le_of_ble_eq_true rfl⟩ dX1_addBox_25 (fun v ad' ct' q => absurd rfl q.1) (fun E ad' ct' q => ?_)
    obtain ⟨-, rfl, e9, rfl⟩ := q; obtain rfl := e9.symm
    exact x_out C (fun _ h => nomatch h) (Nat.le_of_ble_eq_true rfl) (Nat.le_of_ble_eq_true rfl) ⟨rfl, rfl, Or.inl ⟨rfl, fun z => i00 c1 z.1⟩⟩
  · refine x_iload_n C dX1_addBox_10 rfl 2 rfl ?_
    refine x_iconst (v := 0) C dX1_addBox_11 (by decide) ?_
    refine x_bipush (v := 9) C dX1_addBox_12 (by decide) ?_
    refine x_callS (rest := []) C (k_isBetween ta 0 9) cf_X1_45 hd_X1_isBetween ⟨Nat.le_of_ble_eq_true rfl, Nat.le_of_ble_eq_true rfl⟩ rfl (Nat.le_of_ble_eq_true rfl) ⟨Nat.le_of_ble_eq_true rfl, Nat.le_of_ble_eq_true rfl⟩ dX1_addBox_14 (xPv_i ?_) xN_e
    refine x_if_eq (tgt := 24) C dX1_addBox_17 (by decide) (fun c2 => ?_) (fun c2 => ?_)
    · refine x_iconst (v := 0) C dX1_addBox_24 (by decide) ?_
      refine x_callS (rest := []) C (k_require 0) cf_X1_49 hd_X1_require ⟨Nat.le_of_ble_eq_true rfl, Nat.le_of_ble_eq_true rfl⟩ rfl (Nat.le_of_ble_eq_true rfl) ⟨Nat.le_of_ble_eq_true rfl, Nat.le_of_ble_eq_true rfl⟩ dX1_addBox_25 (fun v ad' ct' q => absurd rfl q.1) (fun E ad' ct' q => ?_)
      obtain ⟨-, rfl, e9, rfl⟩ := q; obtain rfl := e9.symm
      exact x_out C (fun _ h => nomatch h) (Nat.le_of_ble_eq_true rfl) (Nat.le_of_ble_eq_true rfl) ⟨rfl, rfl, Or.inl ⟨rfl, fun z => i00 c2 z.2⟩⟩
    · refine x_iconst (v := 1) C dX1_addBox_20 (by decide) ?_
      refine x_goto (tgt := 25) C dX1_addBox_21 (by decide) ?_
      refine x_callS (rest := []) C (k_require 1) cf_X1_49 hd_X1_require ⟨Nat.le_of_ble_eq_true rfl, Nat.le_of_ble_eq_true rfl⟩ rfl (Nat.le_of_ble_eq_true rfl) ⟨Nat.le_of_ble_eq_true rfl, Nat.le_of_ble_eq_true rfl⟩ dX1_addBox_25 (fun v ad' ct' q => ?_) (fun E ad' ct' q => absurd q.1 (by decide))
      obtain ⟨-, rfl, e9, rfl⟩ := q; obtain rfl := e9.symm
      have hN : (0 ≤ sh ∧ sh ≤ 60) ∧ (0 ≤ ta ∧ ta ≤ 9) := ⟨i01 c1, i01 c2⟩
      refine x_aload_n C dX1_addBox_28 rfl 0 rfl ?_
      refine x_get C fl_X1_34 (r := ro 0 0) rfl (xj_c (by decide) xkC_sr) (v := .ref (ad (ro 3 0))) rfl dX1_addBox_29 ?_
      refine x_callV (rest := []) C (k_size (xj_c (by decide) xkC_L3)) cf_X1_53 ⟨rfl, hd_J2_size⟩ ⟨Nat.le_of_ble_eq_true rfl, Nat.le_of_ble_eq_true rfl⟩ (xR_o xci1 rfl (xj_c (by decide) xkC_L3)) rfl (Nat.le_of_ble_eq_true rfl) ⟨Nat.le_of_ble_eq_true rfl, Nat.le_of_ble_eq_true rfl⟩ dX1_addBox_32 (xPv_i ?_) xN_e
      refine x_iconst (v := 4) C dX1_addBox_35 (by decide) ?_
      refine x_icmp_ge (tgt := 43) C dX1_addBox_36 (by decide) (fun c4 => ?_) (fun c4 => ?_)
      · refine x_iconst (v := 0) C dX1_addBox_43 (by decide) ?_
        refine x_callS (rest := []) C (k_requireState 0) cf_X1_57 hd_X1_requireState ⟨Nat.le_of_ble_eq_true rfl, Nat.le_of_ble_eq_true rfl⟩ rfl (Nat.le_of_ble_eq_true rfl) ⟨Nat.le_of_ble_eq_true rfl, Nat.le_of_ble_eq_true rfl⟩ dX1_addBox_44 (fun v ad' ct' q => absurd rfl q.1) (fun E ad' ct' q => ?_)
        obtain ⟨-, rfl, e9, rfl⟩ := q; obtain rfl := e9.symm
        exact x_out C (fun _ h => nomatch h) (Nat.le_of_ble_eq_true rfl) (Nat.le_of_ble_eq_true rfl) ⟨rfl, rfl, Or.inr ⟨rfl, hN, fun z => absurd ((nI_lt_iff (b := 4) (by have := hI.2.2.2.2.2; omega) (by decide)).mpr z) (Int32.not_lt.mpr c4)⟩⟩
      · refine x_iconst (v := 1) C dX1_addBox_39 (by decide) ?_
        refine x_goto (tgt := 44) C dX1_addBox_40 (by decide) ?_
        refine x_callS (rest := []) C (k_requireState 1) cf_X1_57 hd_X1_requireState ⟨Nat.le_of_ble_eq_true rfl, Nat.le_of_ble_eq_true rfl⟩ rfl (Nat.le_of_ble_eq_true rfl) ⟨Nat.le_of_ble_eq_true rfl, Nat.le_of_ble_eq_true rfl⟩ dX1_addBox_44 (fun v ad' ct' q => ?_) (fun E ad' ct' q => absurd q.1 (by decide))
        obtain ⟨-, rfl, e9, rfl⟩ := q; obtain rfl := e9.symm
        have hn : κ 1 < 4 := (nI_lt_iff (b := 4) (by have := hI.2.2.2.2.2; omega) (by decide)).mp (Int32.not_le.mp c4)
        refine x_aload_n C dX1_addBox_47 rfl 0 rfl ?_
        refine x_get C fl_X1_34 (r := ro 0 0) rfl (xj_c (by decide) xkC_sr) (v := .ref (ad (ro 3 0))) rfl dX1_addBox_48 ?_
        refine x_iload_n C dX1_addBox_51 rfl 1 rfl ?_
        refine x_if_ne (tgt := 66) C dX1_addBox_52 (by decide) (fun c5 => ?_) (fun c5 => ?_)
        · refine x_new C (r := ro 5 (κ 1)) (fs := [.int 0, .int 0, .null, .null, .null, .null, .int 0, .int 0, .int 0, .int 0, .int 0, .int 0, .int 0, .int 0, .int 0]) xci3 q249 q496 q39 (xj_c (by decide) (if_neg (Nat.lt_irrefl _))) (by decide) ⟨Nat.le_of_ble_eq_true rfl, Nat.le_of_ble_eq_true rfl⟩ dX1_addBox_66 (fun ad1 had1 => ?_)
          rw [← had1 (ro 0 0) (ro_ne (by decide) (by decide) (by omega)), ← had1 (ro 3 0) (ro_ne (by decide) (by decide) (by omega))]
          refine x_dup C dX1_addBox_69 rfl ?_
          refine x_iload_n C dX1_addBox_70 rfl 1 rfl ?_
          refine x_iload_n C dX1_addBox_71 rfl 2 rfl ?_
          have m6 : xj (xkC F.1.2.2.1 ad κ σ) m t (ro 6 (κ 1)) = none := xj_c (by decide) (if_neg (Nat.lt_irrefl _))
          have b6 : ro 6 (κ 1) ≠ ro 5 (κ 1) := ro_ne (by decide) (by decide) (by omega)
          have m7 : xj (xkC F.1.2.2.1 ad κ σ) m t (ro 7 (κ 1)) = none := xj_c (by decide) (if_neg (Nat.lt_irrefl _))
          have b7 : ro 7 (κ 1) ≠ ro 5 (κ 1) := ro_ne (by decide) (by decide) (by omega)
          have m8 : xj (xkC F.1.2.2.1 ad κ σ) m t (ro 8 (κ 1)) = none := xj_c (by decide) (if_neg (Nat.lt_irrefl _))
          have b8 : ro 8 (κ 1) ≠ ro 5 (κ 1) := ro_ne (by decide) (by decide) (by omega)
          have m9 : xj (xkC F.1.2.2.1 ad κ σ) m t (ro 9 (κ 1)) = none := xj_c (by decide) (if_neg (Nat.lt_irrefl _))
          have b9 : ro 9 (κ 1) ≠ ro 5 (κ 1) := ro_ne (by decide) (by decide) (by omega)
          have hd : (ro 6 (κ 1) ≠ ro 7 (κ 1) ∧ ro 6 (κ 1) ≠ ro 8 (κ 1) ∧ ro 6 (κ 1) ≠ ro 9 (κ 1)) ∧ (ro 7 (κ 1) ≠ ro 8 (κ 1) ∧ ro 7 (κ 1) ≠ ro 9 (κ 1)) ∧ ro 8 (κ 1) ≠ ro 9 (κ 1) := ⟨⟨ro_ne (by decide) (by decide) (by omega), ro_ne (by decide) (by decide) (by omega), ro_ne (by decide) (by decide) (by omega)⟩, ⟨ro_ne (by decide) (by decide) (by omega), ro_ne (by decide) (by decide) (by omega)⟩, ro_ne (by decide) (by decide) (by omega)⟩
          refine x_callI (rest := [.ref (ad1 (ro 5 (κ 1))), .ref (ad1 (ro 3 0))]) C (k4_init2 xu_s (xu_n b6 m6) (xu_n b7 m7) (xu_n b8 m8) (xu_n b9 m9) hd sh ta) q502 q39 q561 q501 rfl hd_X4_init_2 ⟨Nat.le_of_ble_eq_true rfl, Nat.le_of_ble_eq_true rfl⟩ rfl (Nat.le_of_ble_eq_true rfl) ⟨Nat.le_of_ble_eq_true rfl, Nat.le_of_ble_eq_true rfl⟩ dX1_addBox_72 (fun v ad2 ct' q => ?_) xN_e
          obtain ⟨rfl, had2, rfl⟩ := q
          have hadA : ∀ k i, k < 64 → ¬ (5 ≤ k ∧ k ≤ 9 ∧ i = κ 1) → ad2 (ro k i) = ad (ro k i) := fun k i h1 h2 => (had2 _ (ro_ne h1 (by decide) (by omega)) (ro_ne h1 (by decide) (by omega)) (ro_ne h1 (by decide) (by omega)) (ro_ne h1 (by decide) (by omega))).trans (had1 _ (ro_ne h1 (by decide) (by omega)))
          have hadB : ∀ k i, k < 16 → ¬ (5 ≤ k ∧ k ≤ 9 ∧ i = κ 1) → ad2 (ro k i) = ad (ro k i) := fun k i h1 h2 => hadA k i (by omega) h2
          rw [show ad1 (ro 0 0) = ad2 (ro 0 0) from (had2 _ (ro_ne (by decide) (by decide) (by omega)) (ro_ne (by decide) (by decide) (by omega)) (ro_ne (by decide) (by decide) (by omega)) (ro_ne (by decide) (by decide) (by omega))).symm]
          rw [show ad1 (ro 3 0) = ad2 (ro 3 0) from (had2 _ (ro_ne (by decide) (by decide) (by omega)) (ro_ne (by decide) (by decide) (by omega)) (ro_ne (by decide) (by decide) (by omega)) (ro_ne (by decide) (by decide) (by omega))).symm]
          rw [show ad1 (ro 5 (κ 1)) = ad2 (ro 5 (κ 1)) from (had2 _ (ro_ne (by decide) (by decide) (by omega)) (ro_ne (by decide) (by decide) (by omega)) (ro_ne (by decide) (by decide) (by omega)) (ro_ne (by decide) (by decide) (by omega))).symm]
          refine x_callV (rest := []) C (k_add (rL := ro 3 0) (rA := ro 4 0) (rS := ro 56 0) (Cn := "SelectoRoute$Box") (el := fun k => ad2 (ro 5 k)) (v := ad2 (ro 5 (κ 1))) (n := κ 1) (cap := κ 3) (md := σ 27 0 0) (xBx_n (ro_ne (by decide) (by decide) (by omega)) (ro_ne (by decide) (by decide) (by omega)) (ro_ne (by decide) (by decide) (by omega)) (ro_ne (by decide) (by decide) (by omega)) (ro_ne (by decide) (by decide) (by omega)) (xu_n (ro_ne (by decide) (by decide) (by omega)) (xj_c (by decide) (xkC_L3.trans (by rw [hadB 4 0 (by decide) (by omega)]))))) (xBx_n (ro_ne (by decide) (by decide) (by omega)) (ro_ne (by decide) (by decide) (by omega)) (ro_ne (by decide) (by decide) (by omega)) (ro_ne (by decide) (by decide) (by omega)) (ro_ne (by decide) (by decide) (by omega)) (xu_n (ro_ne (by decide) (by decide) (by omega)) (xj_c (by decide) (k1_ba hadB)))) (xBx_n (ro_ne (by decide) (by decide) (by omega)) (ro_ne (by decide) (by decide) (by omega)) (ro_ne (by decide) (by decide) (by omega)) (ro_ne (by decide) (by decide) (by omega)) (ro_ne (by decide) (by decide) (by omega)) (xu_n (ro_ne (by decide) (by decide) (by omega)) (xj_t (by decide) (by decide) ht))) (ro_ne (by decide) (by decide) (by omega)) (ro_ne (by decide) (by decide) (by omega)) hI.2.2.1 hI.2.2.2.1 (fun k hk => xR_o xci3 rfl (xBx_n (ro_ne (by decide) (by decide) (by omega)) (ro_ne (by decide) (by decide) (by omega)) (ro_ne (by decide) (by decide) (by omega)) (ro_ne (by decide) (by decide) (by omega)) (ro_ne (by decide) (by decide) (by omega)) (xu_n (ro_ne (by decide) (by decide) (by omega)) (xj_c (by decide) (xkC_box hk))))) (xR_o xci3 rfl (if_pos rfl)) (by decide)) cf_X1_65 ⟨rfl, hd_J2_add⟩ ⟨Nat.le_of_ble_eq_true rfl, Nat.le_of_ble_eq_true rfl⟩ (xR_o xci1 rfl (xBx_n (ro_ne (by decide) (by decide) (by omega)) (ro_ne (by decide) (by decide) (by omega)) (ro_ne (by decide) (by decide) (by omega)) (ro_ne (by decide) (by decide) (by omega)) (ro_ne (by decide) (by decide) (by omega)) (xu_n (ro_ne (by decide) (by decide) (by omega)) (xj_c (by decide) xkC_L3)))) rfl (Nat.le_of_ble_eq_true rfl) ⟨Nat.le_of_ble_eq_true rfl, Nat.le_of_ble_eq_true rfl⟩ dX1_addBox_75 (fun v ad' ct' q => ?_) xN_e
          obtain ⟨a, rfl, rfl, rfl⟩ := q
          rw [xBx_eq hd ⟨Ne.symm b6, Ne.symm b7, Ne.symm b8, Ne.symm b9⟩]
          refine x_eq (pc_badd hI hadB) ?_
          refine x_pop C dX1_addBox_78 rfl ?_
          rw [show ad2 (ro 0 0) = (xa ad2 (ro 4 0) a) (ro 0 0) from (xa_n (ro_ne (by decide) (by decide) (by omega))).symm]
          refine x_lv (lv' := [(0, .ref ((xa ad2 (ro 4 0) a) (ro 0 0)))]) [0] rfl ?_
          refine x_aload_n C dX1_addBox_79 rfl 0 rfl ?_
          refine x_get C fl_X1_34 (r := ro 0 0) rfl (xj_c (by decide) xkC_sr) (v := .ref ((xa ad2 (ro 4 0) a) (ro 3 0))) rfl dX1_addBox_80 ?_
          refine x_callV (rest := []) C (k_size (rL := ro 3 0) (n := κ 1 + 1) (aA := a) (md := σ 27 0 0 + 1) (xj_c (by decide) (xkC_L3.trans (by rw [show kB κ 3 = xgrow (κ 1) (κ 3) from (kup_n (by omega)).trans ((kup_n (by omega)).trans kup_s), show kB κ 1 = κ 1 + 1 from (kup_n (by omega)).trans ((kup_n (by omega)).trans ((kup_n (by omega)).trans kup_s)), xa_s, xL_ne xgrow_ne, sB_27])))) cf_X1_53 ⟨rfl, hd_J2_size⟩ ⟨Nat.le_of_ble_eq_true rfl, Nat.le_of_ble_eq_true rfl⟩ (xR_o xci1 rfl (xj_c (by decide) xkC_L3)) rfl (Nat.le_of_ble_eq_true rfl) ⟨Nat.le_of_ble_eq_true rfl, Nat.le_of_ble_eq_true rfl⟩ dX1_addBox_83 (xPv_i ?_) xN_e
          refine x_iconst (v := 1) C dX1_addBox_86 (by decide) ?_
          refine x_isub C dX1_addBox_87 ?_
          refine x_top (y := nI (κ 1)) (nI_sub1) ?_
          exact x_iret C dX1_addBox_88 (Nat.le_of_ble_eq_true rfl) (Nat.le_of_ble_eq_true rfl) ⟨fun k i h1 h2 h3 => by rw [xa_n (ro_ne h1 (by decide) h2), hadA k i h1 h3], hN, hn, rfl, rfl⟩
        · obtain rfl := c5
          refine x_new C (r := ro 5 (κ 1)) (fs := [.int 0, .int 0, .null, .null, .null, .null, .int 0, .int 0, .int 0, .int 0, .int 0, .int 0, .int 0, .int 0, .int 0]) xci3 q249 q496 q39 (xj_c (by decide) (if_neg (Nat.lt_irrefl _))) (by decide) ⟨Nat.le_of_ble_eq_true rfl, Nat.le_of_ble_eq_true rfl⟩ dX1_addBox_55 (fun ad1 had1 => ?_)
          rw [← had1 (ro 0 0) (ro_ne (by decide) (by decide) (by omega)), ← had1 (ro 3 0) (ro_ne (by decide) (by decide) (by omega))]
          refine x_dup C dX1_addBox_58 rfl ?_
          refine x_iload_n C dX1_addBox_59 rfl 2 rfl ?_
          have m6 : xj (xkC F.1.2.2.1 ad κ σ) m t (ro 6 (κ 1)) = none := xj_c (by decide) (if_neg (Nat.lt_irrefl _))
          have b6 : ro 6 (κ 1) ≠ ro 5 (κ 1) := ro_ne (by decide) (by decide) (by omega)
          have m7 : xj (xkC F.1.2.2.1 ad κ σ) m t (ro 7 (κ 1)) = none := xj_c (by decide) (if_neg (Nat.lt_irrefl _))
          have b7 : ro 7 (κ 1) ≠ ro 5 (κ 1) := ro_ne (by decide) (by decide) (by omega)
          have m8 : xj (xkC F.1.2.2.1 ad κ σ) m t (ro 8 (κ 1)) = none := xj_c (by decide) (if_neg (Nat.lt_irrefl _))
          have b8 : ro 8 (κ 1) ≠ ro 5 (κ 1) := ro_ne (by decide) (by decide) (by omega)
          have m9 : xj (xkC F.1.2.2.1 ad κ σ) m t (ro 9 (κ 1)) = none := xj_c (by decide) (if_neg (Nat.lt_irrefl _))
          have b9 : ro 9 (κ 1) ≠ ro 5 (κ 1) := ro_ne (by decide) (by decide) (by omega)
          have hd : (ro 6 (κ 1) ≠ ro 7 (κ 1) ∧ ro 6 (κ 1) ≠ ro 8 (κ 1) ∧ ro 6 (κ 1) ≠ ro 9 (κ 1)) ∧ (ro 7 (κ 1) ≠ ro 8 (κ 1) ∧ ro 7 (κ 1) ≠ ro 9 (κ 1)) ∧ ro 8 (κ 1) ≠ ro 9 (κ 1) := ⟨⟨ro_ne (by decide) (by decide) (by omega), ro_ne (by decide) (by decide) (by omega), ro_ne (by decide) (by decide) (by omega)⟩, ⟨ro_ne (by decide) (by decide) (by omega), ro_ne (by decide) (by decide) (by omega)⟩, ro_ne (by decide) (by decide) (by omega)⟩
          refine x_callI (rest := [.ref (ad1 (ro 5 (κ 1))), .ref (ad1 (ro 3 0))]) C (k4_init1 xu_s (xu_n b6 m6) (xu_n b7 m7) (xu_n b8 m8) (xu_n b9 m9) hd ta) q499 q39 q497 q498 rfl hd_X4_init ⟨Nat.le_of_ble_eq_true rfl, Nat.le_of_ble_eq_true rfl⟩ rfl (Nat.le_of_ble_eq_true rfl) ⟨Nat.le_of_ble_eq_true rfl, Nat.le_of_ble_eq_true rfl⟩ dX1_addBox_60 (fun v ad2 ct' q => ?_) xN_e
          obtain ⟨rfl, had2, rfl⟩ := q
          have hadA : ∀ k i, k < 64 → ¬ (5 ≤ k ∧ k ≤ 9 ∧ i = κ 1) → ad2 (ro k i) = ad (ro k i) := fun k i h1 h2 => (had2 _ (ro_ne h1 (by decide) (by omega)) (ro_ne h1 (by decide) (by omega)) (ro_ne h1 (by decide) (by omega)) (ro_ne h1 (by decide) (by omega))).trans (had1 _ (ro_ne h1 (by decide) (by omega)))
          have hadB : ∀ k i, k < 16 → ¬ (5 ≤ k ∧ k ≤ 9 ∧ i = κ 1) → ad2 (ro k i) = ad (ro k i) := fun k i h1 h2 => hadA k i (by omega) h2
          rw [show ad1 (ro 0 0) = ad2 (ro 0 0) from (had2 _ (ro_ne (by decide) (by decide) (by omega)) (ro_ne (by decide) (by decide) (by omega)) (ro_ne (by decide) (by decide) (by omega)) (ro_ne (by decide) (by decide) (by omega))).symm]
          rw [show ad1 (ro 3 0) = ad2 (ro 3 0) from (had2 _ (ro_ne (by decide) (by decide) (by omega)) (ro_ne (by decide) (by decide) (by omega)) (ro_ne (by decide) (by decide) (by omega)) (ro_ne (by decide) (by decide) (by omega))).symm]
          rw [show ad1 (ro 5 (κ 1)) = ad2 (ro 5 (κ 1)) from (had2 _ (ro_ne (by decide) (by decide) (by omega)) (ro_ne (by decide) (by decide) (by omega)) (ro_ne (by decide) (by decide) (by omega)) (ro_ne (by decide) (by decide) (by omega))).symm]
          refine x_goto (tgt := 75) C dX1_addBox_63 (by decide) ?_
          refine x_callV (rest := []) C (k_add (rL := ro 3 0) (rA := ro 4 0) (rS := ro 56 0) (Cn := "SelectoRoute$Box") (el := fun k => ad2 (ro 5 k)) (v := ad2 (ro 5 (κ 1))) (n := κ 1) (cap := κ 3) (md := σ 27 0 0) (xBx_n (ro_ne (by decide) (by decide) (by omega)) (ro_ne (by decide) (by decide) (by omega)) (ro_ne (by decide) (by decide) (by omega)) (ro_ne (by decide) (by decide) (by omega)) (ro_ne (by decide) (by decide) (by omega)) (xu_n (ro_ne (by decide) (by decide) (by omega)) (xj_c (by decide) (xkC_L3.trans (by rw [hadB 4 0 (by decide) (by omega)]))))) (xBx_n (ro_ne (by decide) (by decide) (by omega)) (ro_ne (by decide) (by decide) (by omega)) (ro_ne (by decide) (by decide) (by omega)) (ro_ne (by decide) (by decide) (by omega)) (ro_ne (by decide) (by decide) (by omega)) (xu_n (ro_ne (by decide) (by decide) (by omega)) (xj_c (by decide) (k1_ba hadB)))) (xBx_n (ro_ne (by decide) (by decide) (by omega)) (ro_ne (by decide) (by decide) (by omega)) (ro_ne (by decide) (by decide) (by omega)) (ro_ne (by decide) (by decide) (by omega)) (ro_ne (by decide) (by decide) (by omega)) (xu_n (ro_ne (by decide) (by decide) (by omega)) (xj_t (by decide) (by decide) ht))) (ro_ne (by decide) (by decide) (by omega)) (ro_ne (by decide) (by decide) (by omega)) hI.2.2.1 hI.2.2.2.1 (fun k hk => xR_o xci3 rfl (xBx_n (ro_ne (by decide) (by decide) (by omega)) (ro_ne (by decide) (by decide) (by omega)) (ro_ne (by decide) (by decide) (by omega)) (ro_ne (by decide) (by decide) (by omega)) (ro_ne (by decide) (by decide) (by omega)) (xu_n (ro_ne (by decide) (by decide) (by omega)) (xj_c (by decide) (xkC_box hk))))) (xR_o xci3 rfl (if_pos rfl)) (by decide)) cf_X1_65 ⟨rfl, hd_J2_add⟩ ⟨Nat.le_of_ble_eq_true rfl, Nat.le_of_ble_eq_true rfl⟩ (xR_o xci1 rfl (xBx_n (ro_ne (by decide) (by decide) (by omega)) (ro_ne (by decide) (by decide) (by omega)) (ro_ne (by decide) (by decide) (by omega)) (ro_ne (by decide) (by decide) (by omega)) (ro_ne (by decide) (by decide) (by omega)) (xu_n (ro_ne (by decide) (by decide) (by omega)) (xj_c (by decide) xkC_L3)))) rfl (Nat.le_of_ble_eq_true rfl) ⟨Nat.le_of_ble_eq_true rfl, Nat.le_of_ble_eq_true rfl⟩ dX1_addBox_75 (fun v ad' ct' q => ?_) xN_e
          obtain ⟨a, rfl, rfl, rfl⟩ := q
          rw [xBx_eq hd ⟨Ne.symm b6, Ne.symm b7, Ne.symm b8, Ne.symm b9⟩]
          refine x_eq (pc_badd hI hadB) ?_
          refine x_pop C dX1_addBox_78 rfl ?_
          rw [show ad2 (ro 0 0) = (xa ad2 (ro 4 0) a) (ro 0 0) from (xa_n (ro_ne (by decide) (by decide) (by omega))).symm]
          refine x_lv (lv' := [(0, .ref ((xa ad2 (ro 4 0) a) (ro 0 0)))]) [0] rfl ?_
          refine x_aload_n C dX1_addBox_79 rfl 0 rfl ?_
          refine x_get C fl_X1_34 (r := ro 0 0) rfl (xj_c (by decide) xkC_sr) (v := .ref ((xa ad2 (ro 4 0) a) (ro 3 0))) rfl dX1_addBox_80 ?_
          refine x_callV (rest := []) C (k_size (rL := ro 3 0) (n := κ 1 + 1) (aA := a) (md := σ 27 0 0 + 1) (xj_c (by decide) (xkC_L3.trans (by rw [show kB κ 3 = xgrow (κ 1) (κ 3) from (kup_n (by omega)).trans ((kup_n (by omega)).trans kup_s), show kB κ 1 = κ 1 + 1 from (kup_n (by omega)).trans ((kup_n (by omega)).trans ((kup_n (by omega)).trans kup_s)), xa_s, xL_ne xgrow_ne, sB_27])))) cf_X1_53 ⟨rfl, hd_J2_size⟩ ⟨Nat.le_of_ble_eq_true rfl, Nat.le_of_ble_eq_true rfl⟩ (xR_o xci1 rfl (xj_c (by decide) xkC_L3)) rfl (Nat.le_of_ble_eq_true rfl) ⟨Nat.le_of_ble_eq_true rfl, Nat.le_of_ble_eq_true rfl⟩ dX1_addBox_83 (xPv_i ?_) xN_e
          refine x_iconst (v := 1) C dX1_addBox_86 (by decide) ?_
          refine x_isub C dX1_addBox_87 ?_
          refine x_top (y := nI (κ 1)) (nI_sub1) ?_
          exact x_iret C dX1_addBox_88 (Nat.le_of_ble_eq_true rfl) (Nat.le_of_ble_eq_true rfl) ⟨fun k i h1 h2 h3 => by rw [xa_n (ro_ne h1 (by decide) h2), hadA k i h1 h3], hN, hn, rfl, rfl⟩
