/-! ===== THE REFERENCE: queues (press, play), addDisc, addBox ===== -/
theorem xRl.q13 {κ : xKp} {σ μ : xSg} {j k : Nat} {v : Int32} (R : xRl κ σ μ) (hk : κ (10 + j) ≤ k) (hk8 : k < 8) : xRl κ σ (xup μ 13 (8 * j + k) 0 v) := by
  obtain ⟨h1, h2, h3, h4, h5, h6⟩ := R
  refine ⟨fun p hp i' => ?_, ⟨(xup_n (by omega)).trans h2.1, (xup_n (by omega)).trans h2.2⟩, fun j' s' hs' => ⟨?_, ?_⟩, fun j' q' hq' => ?_, fun j hj => (xup_n (by omega)).trans (h5 j hj), fun j' k' hj' hk' hk8' => ?_⟩
  · have := xmp_l p hp
    rw [xup_n (by omega)]; exact h1 p hp i'
  · rw [xup_n (by omega)]; exact (h3 j' s' hs').1
  · rw [xup_n (by omega)]; exact (h3 j' s' hs').2
  · rw [xup_n (by omega)]; exact h4 j' q' hq'
  · by_cases e : j' = j
    · subst e; rw [xup_n (by omega)]; exact h6 j' k' hj' hk' hk8'
    · rw [xup_n (by omega)]; exact h6 j' k' hj' hk' hk8'
theorem xRl.qadd {κ : xKp} {σ μ : xSg} {j s : Nat} {v : Int32} (R : xRl κ σ μ) (hj : j < 4) (hv : v = nI (κ (10 + j) + 1)) (E : μ 13 (8 * j + κ (10 + j)) 0 = nI s) : xRl (kQ κ j) (sQ κ σ j s) (xup μ 12 j 0 v) := by
  obtain ⟨h1, h2, h3, h4, h5, h6⟩ := R
  subst hv
  have hs0 : ∀ f i' j', f ≠ 20 → f ≠ 28 → sQ κ σ j s f i' j' = σ f i' j' := fun f i' j' h1 h2 => (xup_n (by omega)).trans (xup_n (by omega))
  have hk0 : ∀ f, f < 10 → kQ κ j f = κ f := fun f hf => (kup_n (by omega)).trans (kup_n (by omega))
  have hk1 : kQ κ j (10 + j) = κ (10 + j) + 1 := (kup_n (by omega)).trans kup_s
  have hk3 : ∀ i, i < 4 → i ≠ j → kQ κ j (10 + i) = κ (10 + i) := fun i h1 h2 => (kup_n (by omega)).trans (kup_n (by omega))
  refine ⟨fun p hp i' => ?_, ⟨?_, ?_⟩, fun j' s' hs' => ⟨?_, ?_⟩, fun j' q' hq' => ?_, fun j' hj' => ?_, fun j' k' hj' hk' hk8' => ?_⟩
  · have := xmp_l p hp
    rw [xup_n (by omega), hs0 _ _ _ (by omega) (by omega)]; exact h1 p hp i'
  · rw [xup_n (by omega), hk0 0 (by decide)]; exact h2.1
  · rw [xup_n (by omega), hk0 1 (by decide)]; exact h2.2
  · rw [xup_n (by omega), hs0 _ _ _ (by decide) (by decide)]; exact (h3 j' s' hs').1
  · rw [xup_n (by omega), hs0 _ _ _ (by decide) (by decide)]; exact (h3 j' s' hs').2
  · rw [xup_n (by omega), hs0 _ _ _ (by decide) (by decide)]; exact h4 j' q' hq'
  · by_cases e : j' = j
    · subst e; rw [xup_s, hk1]
    · rw [xup_n (by omega), hk3 j' hj' e]; exact h5 j' hj'
  · rw [xup_n (by omega), show sQ κ σ j s 20 j' k' = xup σ 20 j (κ (10 + j)) (nI s) 20 j' k' from xup_n (by omega)]
    by_cases e : j' = j
    · subst e
      rw [hk1] at hk'
      by_cases e2 : k' = κ (10 + j')
      · subst e2; rw [xup_s]; exact E
      · rw [xup_n (by omega)]; exact h6 j' k' hj' (by omega) hk8'
    · rw [hk3 j' hj' e] at hk'
      rw [xup_n (by omega)]; exact h6 j' k' hj' hk' hk8'
/-- the same but for box j's queue -/
def xRw (j : Nat) (κ : xKp) (σ μ : xSg) : Prop := (∀ p ∈ xmp, ∀ i, μ p.1 i 0 = σ p.2 i 0) ∧ (μ 5 0 0 = nI (κ 0) ∧ μ 19 0 0 = nI (κ 1)) ∧ (∀ j s, s < 10 → μ 20 (10 * j + s) 0 = σ 17 j s + 1 ∧ μ 21 (10 * j + s) 0 = σ 18 j s) ∧ (∀ j q, q < 100 → μ 22 (100 * j + q) 0 = σ 19 j q) ∧ (∀ j', j' < 4 → j' ≠ j → μ 12 j' 0 = nI (κ (10 + j'))) ∧ ∀ j' k, j' < 4 → j' ≠ j → k < κ (10 + j') → k < 8 → μ 13 (8 * j' + k) 0 = σ 20 j' k
theorem xRl.w {κ : xKp} {σ μ : xSg} {j : Nat} (R : xRl κ σ μ) : xRw j κ σ μ := ⟨R.1, R.2.1, R.2.2.1, R.2.2.2.1, fun j' h _ => R.2.2.2.2.1 j' h, fun j' k h _ => R.2.2.2.2.2 j' k h⟩
theorem xRw.q {κ : xKp} {σ μ : xSg} {j k : Nat} {v : Int32} (R : xRw j κ σ μ) (hk8 : k < 8) : xRw j κ σ (xup μ 13 (8 * j + k) 0 v) := by
  obtain ⟨h1, h2, h3, h4, h5, h6⟩ := R
  refine ⟨fun p hp i' => ?_, ⟨(xup_n (by omega)).trans h2.1, (xup_n (by omega)).trans h2.2⟩, fun j' s' hs' => ⟨?_, ?_⟩, fun j' q' hq' => ?_, fun j hj he => (xup_n (by omega)).trans (h5 j hj he), fun j' k' hj' he hk' hk8' => ?_⟩
  · have := xmp_l p hp
    rw [xup_n (by omega)]; exact h1 p hp i'
  · rw [xup_n (by omega)]; exact (h3 j' s' hs').1
  · rw [xup_n (by omega)]; exact (h3 j' s' hs').2
  · rw [xup_n (by omega)]; exact h4 j' q' hq'
  · rw [xup_n (by omega)]; exact h6 j' k' hj' he hk' hk8'
theorem xRw.n {κ : xKp} {σ μ : xSg} {j : Nat} {v : Int32} (R : xRw j κ σ μ) : xRw j κ σ (xup μ 12 j 0 v) := by
  obtain ⟨h1, h2, h3, h4, h5, h6⟩ := R
  refine ⟨fun p hp i' => ?_, ⟨(xup_n (by omega)).trans h2.1, (xup_n (by omega)).trans h2.2⟩, fun j' s' hs' => ⟨?_, ?_⟩, fun j' q' hq' => ?_, fun j hj he => (xup_n (by omega)).trans (h5 j hj he), fun j' k' hj' he hk' hk8' => ?_⟩
  · have := xmp_l p hp
    rw [xup_n (by omega)]; exact h1 p hp i'
  · rw [xup_n (by omega)]; exact (h3 j' s' hs').1
  · rw [xup_n (by omega)]; exact (h3 j' s' hs').2
  · rw [xup_n (by omega)]; exact h4 j' q' hq'
  · rw [xup_n (by omega)]; exact h6 j' k' hj' he hk' hk8'
theorem xRw.join {κ : xKp} {σ μ : xSg} {j : Nat} (R : xRw j κ σ μ) (hj : j < 4) (h12 : μ 12 j 0 = nI (κ (10 + j) - 1)) (h13 : ∀ k, k < κ (10 + j) - 1 → k < 8 → μ 13 (8 * j + k) 0 = σ 20 j (k + 1)) : xRl (kR κ j) (sR σ j) μ := by
  obtain ⟨h1, h2, h3, h4, h5, h6⟩ := R
  have hk0 : ∀ f, f ≠ 10 + j → kR κ j f = κ f := fun f hf => kup_n hf
  have hk1 : kR κ j (10 + j) = κ (10 + j) - 1 := kup_s
  refine ⟨fun p hp i' => ?_, ⟨?_, ?_⟩, fun j' s' hs' => ⟨?_, ?_⟩, fun j' q' hq' => ?_, fun j' hj' => ?_, fun j' k' hj' hk' hk8' => ?_⟩
  · have := xmp_l p hp
    rw [sR_n (by omega)]; exact h1 p hp i'
  · rw [hk0 0 (by omega)]; exact h2.1
  · rw [hk0 1 (by omega)]; exact h2.2
  · rw [sR_n (by omega)]; exact (h3 j' s' hs').1
  · rw [sR_n (by omega)]; exact (h3 j' s' hs').2
  · rw [sR_n (by omega)]; exact h4 j' q' hq'
  · by_cases e : j' = j
    · subst e; rw [hk1]; exact h12
    · rw [hk0 _ (by omega)]; exact h5 j' hj' e
  · by_cases e : j' = j
    · subst e; rw [hk1] at hk'; rw [sR_20]; exact h13 k' hk' hk8'
    · rw [hk0 _ (by omega)] at hk'; rw [sR_n (by omega)]; exact h6 j' k' hj' e hk' hk8'
/-- what is not there yet -/
def xIz (κ : xKp) (σ : xSg) : Prop := (∀ d, κ 0 ≤ d → σ 3 d 0 = 0) ∧ (∀ j, κ 1 ≤ j → (∀ f, 7 ≤ f → f ≤ 15 → σ f j 0 = 0) ∧ (∀ s, s < 10 → σ 17 j s = -1 ∧ σ 18 j s = 0) ∧ ∀ q, q < 100 → σ 19 j q = 0) ∧ ∀ j, j < 4 → κ 1 ≤ j → κ (10 + j) = 0
theorem xRl.addD {κ : xKp} {σ μ : xSg} {so st we v : Int32} (hZ : xIz κ σ) (R : xRl κ (xup (xup (xup (xup σ 0 (κ 0) 0 so) 1 (κ 0) 0 st) 2 (κ 0) 0 we) 4 (κ 0) 0 (-1)) μ) (hv : v = nI (κ 0 + 1)) : xRl (kD κ) (sD κ σ so st we) (xup μ 5 0 0 v) := by
  obtain ⟨h1, h2, h3, h4, h5, h6⟩ := R
  subst hv
  have hs0 : ∀ f i' j', 4 < f → f ≠ 26 → sD κ σ so st we f i' j' = σ f i' j' := fun f i' j' h1 h2 => sD_n (by omega) h2
  have hkn : ∀ f, f ≠ 0 → f ≠ 2 → kD κ f = κ f := fun f h1 h2 => (kup_n h2).trans (kup_n h1)
  have hx : ∀ f i' j', 4 < f → xup (xup (xup (xup σ 0 (κ 0) 0 so) 1 (κ 0) 0 st) 2 (κ 0) 0 we) 4 (κ 0) 0 (-1) f i' j' = σ f i' j' := fun f i' j' h => (xup_n (by omega)).trans ((xup_n (by omega)).trans ((xup_n (by omega)).trans (xup_n (by omega))))
  refine ⟨fun p hp i' => ?_, ⟨?_, ?_⟩, fun j' s' hs' => ⟨?_, ?_⟩, fun j' q' hq' => ?_, fun j' hj' => ?_, fun j' k' hj' hk' hk8' => ?_⟩
  · have := xmp_l p hp
    rw [xup_n (by omega), h1 p hp i']
    have hz := hZ.1 (κ 0) (Nat.le_refl _)
    unfold sD xup
    repeat' split
    all_goals first
      | rfl
      | (exfalso; omega)
      | (have e3 : p.2 = 3 := by omega
         have e4 : i' = κ 0 := by omega
         rw [e3, e4]; exact hz)
  · rw [xup_s, show kD κ 0 = κ 0 + 1 from (kup_n (by omega)).trans kup_s]
  · rw [xup_n (by omega), hkn 1 (by decide) (by decide)]; exact h2.2
  · rw [xup_n (by omega), hs0 _ _ _ (by decide) (by decide)]; exact ((h3 j' s' hs').1).trans (by rw [hx _ _ _ (by decide)])
  · rw [xup_n (by omega), hs0 _ _ _ (by decide) (by decide)]; exact ((h3 j' s' hs').2).trans (by rw [hx _ _ _ (by decide)])
  · rw [xup_n (by omega), hs0 _ _ _ (by decide) (by decide)]; exact (h4 j' q' hq').trans (by rw [hx _ _ _ (by decide)])
  · rw [xup_n (by omega), hkn _ (by omega) (by omega)]; exact h5 j' hj'
  · rw [hkn _ (by omega) (by omega)] at hk'
    rw [xup_n (by omega), hs0 _ _ _ (by decide) (by decide)]; exact (h6 j' k' hj' hk' hk8').trans (by rw [hx _ _ _ (by decide)])
theorem xRl.addB {κ : xKp} {σ μ : xSg} {sh ta v : Int32} (hZ : xIz κ σ) (hn : κ 1 < 4) (R : xRl κ (xup (xup σ 5 (κ 1) 0 sh) 6 (κ 1) 0 ta) μ) (hv : v = nI (κ 1 + 1)) : xRl (kB κ) (sB κ σ sh ta) (xup μ 19 0 0 v) := by
  obtain ⟨h1, h2, h3, h4, h5, h6⟩ := R
  subst hv
  obtain ⟨hz1, hz2, hz3⟩ := hZ.2.1 (κ 1) (Nat.le_refl _)
  have hz4 := hZ.2.2 (κ 1) hn (Nat.le_refl _)
  have hk1 : kB κ 1 = κ 1 + 1 := (kup_n (by omega)).trans ((kup_n (by omega)).trans ((kup_n (by omega)).trans kup_s))
  have hkq : kB κ (10 + κ 1) = 0 := (kup_n (by omega)).trans kup_s
  have hkn : ∀ f, f ≠ 1 → f ≠ 3 → f ≠ 10 + κ 1 → f ≠ 20 + κ 1 → kB κ f = κ f := fun f h1 h2 h3 h4 => (kup_n h4).trans ((kup_n h3).trans ((kup_n h2).trans (kup_n h1)))
  have hx : ∀ f i' j', f ≠ 5 → f ≠ 6 → xup (xup σ 5 (κ 1) 0 sh) 6 (κ 1) 0 ta f i' j' = σ f i' j' := fun f i' j' h h' => (xup_n (by omega)).trans (xup_n (by omega))
  have hat : ∀ f k, xBf f → sB κ σ sh ta f (κ 1) k = if f = 5 then sh else if f = 6 then ta else if f = 17 ∧ k < 10 then -1 else 0 := fun f k h => sB_at h
  have hs1 : ∀ f i' j', f ≠ 27 → i' ≠ κ 1 → sB κ σ sh ta f i' j' = σ f i' j' := fun f i' j' h1 h2 => sB_n (fun e => h2 e.2) h1
  refine ⟨fun p hp i' => ?_, ⟨?_, ?_⟩, fun j' s' hs' => ⟨?_, ?_⟩, fun j' q' hq' => ?_, fun j' hj' => ?_, fun j' k' hj' hk' hk8' => ?_⟩
  · have hl := xmp_l p hp
    rw [xup_n (by omega), h1 p hp i']
    by_cases c : xBf p.2 ∧ i' = κ 1
    · obtain ⟨c1, rfl⟩ := c
      rw [hat _ _ c1]
      by_cases e5 : p.2 = 5
      · rw [if_pos e5, e5, xup_n (by omega), xup_s]
      · rw [if_neg e5]
        by_cases e6 : p.2 = 6
        · rw [if_pos e6, e6, xup_s]
        · rw [if_neg e6, hx _ _ _ e5 e6, if_neg (by omega)]
          exact hz1 _ (by unfold xBf at c1; omega) (by unfold xBf at c1; omega)
    · rw [sB_n c (by omega)]
      refine (xup_n ?_).trans (xup_n ?_)
      · intro e; exact c ⟨by unfold xBf; omega, e.2.1⟩
      · intro e; exact c ⟨by unfold xBf; omega, e.2.1⟩
  · rw [xup_n (by omega), hkn 0 (by omega) (by omega) (by omega) (by omega)]; exact h2.1
  · rw [xup_s, hk1]
  · rw [xup_n (by omega), (h3 j' s' hs').1, hx _ _ _ (by decide) (by decide)]
    by_cases c : j' = κ 1
    · subst c; rw [hat 17 _ (by unfold xBf; omega), if_neg (by decide), if_neg (by decide), if_pos ⟨rfl, hs'⟩, (hz2 s' hs').1]
    · rw [hs1 _ _ _ (by decide) c]
  · rw [xup_n (by omega), (h3 j' s' hs').2, hx _ _ _ (by decide) (by decide)]
    by_cases c : j' = κ 1
    · subst c; rw [hat 18 _ (by unfold xBf; omega), if_neg (by decide), if_neg (by decide), if_neg (by omega), (hz2 s' hs').2]
    · rw [hs1 _ _ _ (by decide) c]
  · rw [xup_n (by omega), h4 j' q' hq', hx _ _ _ (by decide) (by decide)]
    by_cases c : j' = κ 1
    · subst c; rw [hat 19 _ (by unfold xBf; omega), if_neg (by decide), if_neg (by decide), if_neg (by omega), hz3 q' hq']
    · rw [hs1 _ _ _ (by decide) c]
  · rw [xup_n (by omega), h5 j' hj']
    by_cases c : j' = κ 1
    · subst c; rw [hkq, hz4]
    · rw [hkn _ (by omega) (by omega) (by omega) (by omega)]
  · by_cases c : j' = κ 1
    · subst c; rw [hkq] at hk'; omega
    · rw [hkn _ (by omega) (by omega) (by omega) (by omega)] at hk'
      rw [xup_n (by omega), hs1 _ _ _ (by decide) c, h6 j' k' hj' hk' hk8', hx _ _ _ (by decide) (by decide)]
section MQ
variable {F : xFr} {cc : ByteArray} {nL : Nat} {own : String} {ret : Option FieldType} {rm : Room} {nm : String} {tb : List ExceptionTableEntry} {Q : State → Prop} {ad : Nat → Nat} {κ : xKp} {σ μ : xSg} {c t : xK} {cells slots pc : Nat} {lv : List (Nat × Value)} {rest : List Value} {cd : Int32}
/-- raw readings and writings of an int array of the reference -/
theorem m_rld (C : xC F cc nL own ret rm nm tb) (f i : Nat) {x y : Int32} (hf : xmArr f = true) (hb : xmBool f = false) (hi : x = nI i) (hl : i < xmLen f) (hn : Nat.ble (xmLen f) 2147483647 = true) (hy : μ f i 0 = y) (hdg : decode cc pc = .ok (.iaload, 1))
    (kk : xX F Q ad (xj c (xkM F.1.2.2.1 ad μ) t) cells slots (pc + 1) lv (.int y :: rest)) : xX F Q ad (xj c (xkM F.1.2.2.1 ad μ) t) cells slots pc lv (.int x :: .ref (ad (ro 17 f)) :: rest) := by
  subst hy
  exact xi_ald C i rfl (xj_m (by decide) (by decide) (xkM_arr hf hb)) hi hl hn hdg kk
theorem m_rst (C : xC F cc nL own ret rm nm tb) (f i : Nat) {x v : Int32} (hf : xmArr f = true) (hb : xmBool f = false) (hi : x = nI i) (hl : i < xmLen f) (hn : Nat.ble (xmLen f) 2147483647 = true) (hdg : decode cc pc = .ok (.iastore, 1))
    (kk : xX F Q ad (xj c (xkM F.1.2.2.1 ad (xup μ f i 0 v)) t) cells slots (pc + 1) lv rest) : xX F Q ad (xj c (xkM F.1.2.2.1 ad μ) t) cells slots pc lv (.int v :: .int x :: .ref (ad (ro 17 f)) :: rest) := by
  refine xi_ast C i rfl (xj_m (by decide) (by decide) (xkM_arr hf hb)) hi hl hn hdg ?_
  exact x_pm (by decide) (by decide) (pm_arr hf hb) kk
theorem m_rput {f : Nat} {e : va_E} {v : Int32} (hp : cu (xkM F.1.2.2.1 ad μ) 16 0 e = xkM F.1.2.2.1 ad (xup μ f 0 0 v)) (kk : xX F Q ad (xj c (xkM F.1.2.2.1 ad (xup μ f 0 0 v)) t) cells slots pc lv rest) : xX F Q ad (xu (xj c (xkM F.1.2.2.1 ad μ) t) (ro 16 0) e) cells slots pc lv rest :=
  x_pm (by decide) (by decide) hp kk
theorem m_rzst (C : xC F cc nL own ret rm nm tb) (f i : Nat) {x v : Int32} (hf : xmArr f = true) (hb : xmBool f = true) (hi : x = nI i) (hl : i < xmLen f) (hn : Nat.ble (xmLen f) 2147483647 = true) (hv : vp_nar .boolean v = v) (hdg : decode cc pc = .ok (.bastore, 1))
    (kk : xX F Q ad (xj c (xkM F.1.2.2.1 ad (xup μ f i 0 v)) t) cells slots (pc + 1) lv rest) : xX F Q ad (xj c (xkM F.1.2.2.1 ad μ) t) cells slots pc lv (.int v :: .int x :: .ref (ad (ro 17 f)) :: rest) := by
  refine xi_zst C i rfl (xj_m (by decide) (by decide) (xkM_arrZ hf hb)) hi hl hn hv hdg ?_
  exact x_pm (by decide) (by decide) (pm_arrZ hf hb) kk
theorem m_rzld (C : xC F cc nL own ret rm nm tb) (f i : Nat) {x y : Int32} (hf : xmArr f = true) (hb : xmBool f = true) (hi : x = nI i) (hl : i < xmLen f) (hn : Nat.ble (xmLen f) 2147483647 = true) (hy : μ f i 0 = y) (hdg : decode cc pc = .ok (.baload, 1))
    (kk : xX F Q ad (xj c (xkM F.1.2.2.1 ad μ) t) cells slots (pc + 1) lv (.int y :: rest)) : xX F Q ad (xj c (xkM F.1.2.2.1 ad μ) t) cells slots pc lv (.int x :: .ref (ad (ro 17 f)) :: rest) := by
  subst hy
  exact xi_zld C i rfl (xj_m (by decide) (by decide) (xkM_arrZ hf hb)) hi hl hn hdg kk
end MQ
theorem nI_at8 {j s : Nat} : 8 * nI j + nI s = nI (8 * j + s) := by
  rw [show (8 : Int32) = nI 8 from rfl, pk_mul, nI_add]
theorem nI_8 {j : Nat} : 8 * nI j = nI (8 * j + 0) := by
  rw [show (8 : Int32) = nI 8 from rfl, pk_mul]; rfl
theorem nI_prd {n : Nat} (h : 0 < n) : nI n - 1 = nI (n - 1) := by
  obtain ⟨m, rfl⟩ : ∃ m, n = m + 1 := ⟨n - 1, by omega⟩
  exact nI_sub1
def oPress (κ : xKp) (σ : xSg) (b sl : Int32) : xO := if xIx b (κ 1) ∧ xIx sl 10 then (if 0 < σ 8 b.toNatClampNeg 0 ∧ ¬ σ 17 b.toNatClampNeg sl.toNatClampNeg = -1 then (if κ (10 + b.toNatClampNeg) < 8 then (0, nI (κ (10 + b.toNatClampNeg) + 1), kQ κ b.toNatClampNeg, sQ κ (xup σ 8 b.toNatClampNeg 0 (σ 8 b.toNatClampNeg 0 - 1)) b.toNatClampNeg sl.toNatClampNeg) else (3, 0, κ, σ)) else (2, 0, κ, σ)) else (1, 0, κ, σ)
def oPlay1 (κ : xKp) (σ : xSg) (j : Nat) : xO := if sJam (sZn (σ 24 0 0)) (σ 7 j 0) then (0, 106, κ, xup (xup σ 24 0 0 (sZn (σ 24 0 0))) 14 j 0 1) else if σ 17 j (σ 20 j 0).toNatClampNeg = -1 ∨ ¬ σ 3 (σ 17 j (σ 20 j 0).toNatClampNeg).toNatClampNeg 0 < 60 then (0, 98, kR κ j, xup (sR (xup σ 24 0 0 (sZn (σ 24 0 0))) j) 8 j 0 (σ 8 j 0 + 1)) else (0, 112, kR κ j, sPlays (sR (xup σ 24 0 0 (sZn (σ 24 0 0))) j) j (σ 20 j 0).toNatClampNeg (σ 17 j (σ 20 j 0).toNatClampNeg).toNatClampNeg 1)
def oPlay (κ : xKp) (σ : xSg) (b : Int32) : xO := if xIx b (κ 1) then (if σ 14 b.toNatClampNeg 0 = 0 then (if 0 < κ (10 + b.toNatClampNeg) then oPlay1 κ σ b.toNatClampNeg else (3, 0, κ, σ)) else (2, 0, κ, σ)) else (1, 0, κ, σ)
def oAddDisc (κ : xKp) (σ : xSg) (so st we : Int32) : xO := if ((0 ≤ so ∧ so ≤ 99) ∧ (1 ≤ st ∧ st ≤ 50)) ∧ (0 ≤ we ∧ we ≤ 99) then (if κ 0 < 30 then (0, nI (κ 0), kD κ, sD κ σ so st we) else (2, 0, κ, σ)) else (1, 0, κ, σ)
def oAddBox (κ : xKp) (σ : xSg) (sh ta : Int32) : xO := if (0 ≤ sh ∧ sh ≤ 60) ∧ (0 ≤ ta ∧ ta ≤ 9) then (if κ 1 < 4 then (0, nI (κ 1), kB κ, sB κ σ sh ta) else (2, 0, κ, σ)) else (1, 0, κ, σ)
set_option maxHeartbeats 4000000 in
theorem k2_addDisc {G : xG} {ad : Nat → Nat} {κ : xKp} {σ μ : xSg} {c t : xK} (hI : xIk κ) (R : xRl κ σ μ) (hZ : xIz κ σ) (so st we : Int32) : xM G yX2_addDisc (ws_ yX2_addDisc cX2_addDisc 4 (some Jvm.ClassFile.FieldType.int)) 8 300 0 0 [.ref (ad (ro 16 0)), .int so, .int st, .int we] ad (xj c (xkM G.2.2.1 ad μ) t) (rP G ad c t (oAddDisc κ σ so st we)) xN := by
  refine xM_of (cc := cX2_addDisc) (by decide) rfl (fun F hF C => ?_)
  subst hF
  have h30 := hI.2.2.2.2.1
  have h14 := hI.2.2.2.2.2
  have T : μ 29 0 0 = μ 29 0 0 := rfl
  show xX F _ _ _ 0 0 0 [(0, .ref (ad (ro 16 0))), (1, .int so), (2, .int st), (3, .int we)] []
  refine x_aload_n C dX2_addDisc_0 rfl 0 rfl ?_
  refine x_iload_n C dX2_addDisc_1 rfl 1 rfl ?_
  refine x_iconst (v := 0) C dX2_addDisc_2 (by decide) ?_
  refine x_bipush (v := 99) C dX2_addDisc_3 (by decide) ?_
  refine x_callS (rest := [.ref (ad (ro 16 0))]) C (k2_isIn so 0 99) cf_X2_93 hd_X2_isIn ⟨Nat.le_of_ble_eq_true rfl, Nat.le_of_ble_eq_true rfl⟩ rfl (Nat.le_of_ble_eq_true rfl) ⟨Nat.le_of_ble_eq_true rfl, Nat.le_of_ble_eq_true rfl⟩ dX2_addDisc_5 (xPv_i ?_) xN_e
  refine x_case (fun c1 => ?_) (fun c1 => ?_)
  · refine x_if_eq (tgt := 35) C dX2_addDisc_8 (by decide) (fun h => absurd h (by decide)) (fun _ => ?_)
    refine x_iload_n C dX2_addDisc_11 rfl 2 rfl ?_
    refine x_iconst (v := 1) C dX2_addDisc_12 (by decide) ?_
    refine x_bipush (v := 50) C dX2_addDisc_13 (by decide) ?_
    refine x_callS (rest := [.ref (ad (ro 16 0))]) C (k2_isIn st 1 50) cf_X2_93 hd_X2_isIn ⟨Nat.le_of_ble_eq_true rfl, Nat.le_of_ble_eq_true rfl⟩ rfl (Nat.le_of_ble_eq_true rfl) ⟨Nat.le_of_ble_eq_true rfl, Nat.le_of_ble_eq_true rfl⟩ dX2_addDisc_15 (xPv_i ?_) xN_e
    refine x_case (fun c2 => ?_) (fun c2 => ?_)
    · refine x_if_eq (tgt := 35) C dX2_addDisc_18 (by decide) (fun h => absurd h (by decide)) (fun _ => ?_)
      refine x_iload_n C dX2_addDisc_21 rfl 3 rfl ?_
      refine x_iconst (v := 0) C dX2_addDisc_22 (by decide) ?_
      refine x_bipush (v := 99) C dX2_addDisc_23 (by decide) ?_
      refine x_callS (rest := [.ref (ad (ro 16 0))]) C (k2_isIn we 0 99) cf_X2_93 hd_X2_isIn ⟨Nat.le_of_ble_eq_true rfl, Nat.le_of_ble_eq_true rfl⟩ rfl (Nat.le_of_ble_eq_true rfl) ⟨Nat.le_of_ble_eq_true rfl, Nat.le_of_ble_eq_true rfl⟩ dX2_addDisc_25 (xPv_i ?_) xN_e
      refine x_case (fun c3 => ?_) (fun c3 => ?_)
      · refine x_if_eq (tgt := 35) C dX2_addDisc_28 (by decide) (fun h => absurd h (by decide)) (fun _ => ?_)
        refine x_iconst (v := 1) C dX2_addDisc_31 (by decide) ?_
        refine x_goto (tgt := 36) C dX2_addDisc_32 (by decide) ?_
        refine x_iconst (v := 1) C dX2_addDisc_36 (by decide) ?_
        refine m_no1 (p := 1) C R (Nat.le_of_ble_eq_true rfl) ⟨Nat.le_of_ble_eq_true rfl, Nat.le_of_ble_eq_true rfl⟩ ⟨Nat.le_of_ble_eq_true rfl, Nat.le_of_ble_eq_true rfl⟩ dX2_addDisc_37 (fun μ1 R1 T1 => ?_)
        refine x_if_ne (tgt := 65) C dX2_addDisc_40 (by decide) (fun h => absurd rfl h) (fun _ => ?_)
        refine x_aload_n C dX2_addDisc_43 rfl 0 rfl ?_
        refine x_aload_n C dX2_addDisc_44 rfl 0 rfl ?_
        refine x_get C fl_X2_90 (r := ro 16 0) rfl (xj_m (by decide) (by decide) rfl) (v := .int (μ1 5 0 0)) rfl dX2_addDisc_45 ?_
        refine x_top (y := nI (κ 0)) R1.2.1.1 ?_
        refine x_bipush (v := 30) C dX2_addDisc_48 (by decide) ?_
        refine x_icmp_ge (tgt := 57) C dX2_addDisc_50 (by decide) (fun c4 => ?_) (fun c4 => ?_)
        · refine x_iconst (v := 0) C dX2_addDisc_57 (by decide) ?_
          refine x_iconst (v := 2) C dX2_addDisc_58 (by decide) ?_
          refine m_no0 (p := 2) C R1 (Nat.le_of_ble_eq_true rfl) ⟨Nat.le_of_ble_eq_true rfl, Nat.le_of_ble_eq_true rfl⟩ ⟨Nat.le_of_ble_eq_true rfl, Nat.le_of_ble_eq_true rfl⟩ dX2_addDisc_59 (fun μ2 R2 T2 => ?_)
          refine x_if_eq (tgt := 67) C dX2_addDisc_62 (by decide) (fun h => absurd h (by decide)) (fun _ => ?_)
          refine x_iconst (v := 0) C dX2_addDisc_65 (by decide) ?_
          exact x_iret C dX2_addDisc_66 (Nat.le_of_ble_eq_true rfl) (Nat.le_of_ble_eq_true rfl) (rP_of (by unfold oAddDisc; rw [if_pos ⟨⟨c1, c2⟩, c3⟩]; exact if_neg (fun z => absurd ((nI_lt_iff (b := 30) (by omega) (by decide)).mpr z) (Int32.not_lt.mpr c4))) R2 T2 (fun _ => rfl))
        · have hn : κ 0 < 30 := (nI_lt_iff (b := 30) (by omega) (by decide)).mp (Int32.not_le.mp c4)
          refine x_iconst (v := 1) C dX2_addDisc_53 (by decide) ?_
          refine x_goto (tgt := 58) C dX2_addDisc_54 (by decide) ?_
          refine x_iconst (v := 2) C dX2_addDisc_58 (by decide) ?_
          refine m_no1 (p := 2) C R1 (Nat.le_of_ble_eq_true rfl) ⟨Nat.le_of_ble_eq_true rfl, Nat.le_of_ble_eq_true rfl⟩ ⟨Nat.le_of_ble_eq_true rfl, Nat.le_of_ble_eq_true rfl⟩ dX2_addDisc_59 (fun μ2 R2 T2 => ?_)
          refine x_if_eq (tgt := 67) C dX2_addDisc_62 (by decide) (fun _ => ?_) (fun h => absurd (by decide) h)
          refine x_aload_n C dX2_addDisc_67 rfl 0 rfl ?_
          refine x_get C fl_X2_7 (r := ro 16 0) rfl (xj_m (by decide) (by decide) rfl) (v := .ref (ad (ro 17 0))) rfl dX2_addDisc_68 ?_
          refine x_aload_n C dX2_addDisc_71 rfl 0 rfl ?_
          refine x_get C fl_X2_90 (r := ro 16 0) rfl (xj_m (by decide) (by decide) rfl) (v := .int (μ2 5 0 0)) rfl dX2_addDisc_72 ?_
          refine x_top (y := nI (κ 0)) R2.2.1.1 ?_
          refine x_iload_n C dX2_addDisc_75 rfl 1 rfl ?_
          refine m_st C R2 T2 (f := 0) (f' := 0) (i := (κ 0)) (by decide) rfl rfl rfl (show κ 0 < 30 by omega) (by decide) dX2_addDisc_76 (fun μ3 R3 T3 => ?_)
          refine x_aload_n C dX2_addDisc_77 rfl 0 rfl ?_
          refine x_get C fl_X2_13 (r := ro 16 0) rfl (xj_m (by decide) (by decide) rfl) (v := .ref (ad (ro 17 1))) rfl dX2_addDisc_78 ?_
          refine x_aload_n C dX2_addDisc_81 rfl 0 rfl ?_
          refine x_get C fl_X2_90 (r := ro 16 0) rfl (xj_m (by decide) (by decide) rfl) (v := .int (μ3 5 0 0)) rfl dX2_addDisc_82 ?_
          refine x_top (y := nI (κ 0)) R3.2.1.1 ?_
          refine x_iload_n C dX2_addDisc_85 rfl 2 rfl ?_
          refine m_st C R3 T3 (f := 1) (f' := 1) (i := (κ 0)) (by decide) rfl rfl rfl (show κ 0 < 30 by omega) (by decide) dX2_addDisc_86 (fun μ4 R4 T4 => ?_)
          refine x_aload_n C dX2_addDisc_87 rfl 0 rfl ?_
          refine x_get C fl_X2_16 (r := ro 16 0) rfl (xj_m (by decide) (by decide) rfl) (v := .ref (ad (ro 17 2))) rfl dX2_addDisc_88 ?_
          refine x_aload_n C dX2_addDisc_91 rfl 0 rfl ?_
          refine x_get C fl_X2_90 (r := ro 16 0) rfl (xj_m (by decide) (by decide) rfl) (v := .int (μ4 5 0 0)) rfl dX2_addDisc_92 ?_
          refine x_top (y := nI (κ 0)) R4.2.1.1 ?_
          refine x_iload_n C dX2_addDisc_95 rfl 3 rfl ?_
          refine m_st C R4 T4 (f := 2) (f' := 2) (i := (κ 0)) (by decide) rfl rfl rfl (show κ 0 < 30 by omega) (by decide) dX2_addDisc_96 (fun μ5 R5 T5 => ?_)
          refine x_aload_n C dX2_addDisc_97 rfl 0 rfl ?_
          refine x_get C fl_X2_22 (r := ro 16 0) rfl (xj_m (by decide) (by decide) rfl) (v := .ref (ad (ro 17 4))) rfl dX2_addDisc_98 ?_
          refine x_aload_n C dX2_addDisc_101 rfl 0 rfl ?_
          refine x_get C fl_X2_90 (r := ro 16 0) rfl (xj_m (by decide) (by decide) rfl) (v := .int (μ5 5 0 0)) rfl dX2_addDisc_102 ?_
          refine x_top (y := nI (κ 0)) R5.2.1.1 ?_
          refine x_iconst (v := -1) C dX2_addDisc_105 (by decide) ?_
          refine m_st C R5 T5 (f := 4) (f' := 4) (i := (κ 0)) (by decide) rfl rfl rfl (show κ 0 < 30 by omega) (by decide) dX2_addDisc_106 (fun μ6 R6 T6 => ?_)
          refine x_aload_n C dX2_addDisc_107 rfl 0 rfl ?_
          refine x_dup C dX2_addDisc_108 rfl ?_
          refine x_get C fl_X2_90 (r := ro 16 0) rfl (xj_m (by decide) (by decide) rfl) (v := .int (μ6 5 0 0)) rfl dX2_addDisc_109 ?_
          refine x_top (y := nI (κ 0)) R6.2.1.1 ?_
          refine x_iconst (v := 1) C dX2_addDisc_112 (by decide) ?_
          refine x_iadd C dX2_addDisc_113 ?_
          refine x_top (y := nI (κ 0 + 1)) (nI_add (κ 0) 1) ?_
          refine x_put C fl_X2_90 (r := ro 16 0) rfl (xj_m (by decide) (by decide) rfl) rfl rfl (Nat.le_of_ble_eq_true rfl) dX2_addDisc_114 ?_
          refine m_rput pm_5 ?_
          have RD : xRl (kD κ) (sD κ σ so st we) (xup μ6 5 0 0 (nI (κ 0 + 1))) := xRl.addD hZ R6 rfl
          have TD : xup μ6 5 0 0 (nI (κ 0 + 1)) 29 0 0 = 0 := (xup_n (by omega)).trans T6
          refine x_aload_n C dX2_addDisc_117 rfl 0 rfl ?_
          refine x_get C fl_X2_90 (r := ro 16 0) rfl (xj_m (by decide) (by decide) rfl) (v := .int ((xup μ6 5 0 0 (nI (κ 0 + 1))) 5 0 0)) rfl dX2_addDisc_118 ?_
          refine x_top (y := nI ((kD κ) 0)) RD.2.1.1 ?_
          refine x_top (y := nI (κ 0 + 1)) (congrArg nI ((kup_n (by omega)).trans kup_s)) ?_
          refine x_iconst (v := 1) C dX2_addDisc_121 (by decide) ?_
          refine x_isub C dX2_addDisc_122 ?_
          refine x_top (y := nI (κ 0)) (nI_sub1) ?_
          exact x_iret C dX2_addDisc_123 (Nat.le_of_ble_eq_true rfl) (Nat.le_of_ble_eq_true rfl) (rP_of (by unfold oAddDisc; rw [if_pos ⟨⟨c1, c2⟩, c3⟩]; exact if_pos hn) RD TD (fun _ => rfl))
      · refine x_if_eq (tgt := 35) C dX2_addDisc_28 (by decide) (fun _ => ?_) (fun h => absurd (by decide) h)
        refine x_iconst (v := 0) C dX2_addDisc_35 (by decide) ?_
        refine x_iconst (v := 1) C dX2_addDisc_36 (by decide) ?_
        refine m_no0 (p := 1) C R (Nat.le_of_ble_eq_true rfl) ⟨Nat.le_of_ble_eq_true rfl, Nat.le_of_ble_eq_true rfl⟩ ⟨Nat.le_of_ble_eq_true rfl, Nat.le_of_ble_eq_true rfl⟩ dX2_addDisc_37 (fun μ1 R1 T1 => ?_)
        refine x_if_ne (tgt := 65) C dX2_addDisc_40 (by decide) (fun _ => ?_) (fun h => absurd h (by decide))
        refine x_iconst (v := 0) C dX2_addDisc_65 (by decide) ?_
        exact x_iret C dX2_addDisc_66 (Nat.le_of_ble_eq_true rfl) (Nat.le_of_ble_eq_true rfl) (rP_of (if_neg (fun z => c3 z.2)) R1 T1 (fun _ => rfl))
    · refine x_if_eq (tgt := 35) C dX2_addDisc_18 (by decide) (fun _ => ?_) (fun h => absurd (by decide) h)
      refine x_iconst (v := 0) C dX2_addDisc_35 (by decide) ?_
      refine x_iconst (v := 1) C dX2_addDisc_36 (by decide) ?_
      refine m_no0 (p := 1) C R (Nat.le_of_ble_eq_true rfl) ⟨Nat.le_of_ble_eq_true rfl, Nat.le_of_ble_eq_true rfl⟩ ⟨Nat.le_of_ble_eq_true rfl, Nat.le_of_ble_eq_true rfl⟩ dX2_addDisc_37 (fun μ1 R1 T1 => ?_)
      refine x_if_ne (tgt := 65) C dX2_addDisc_40 (by decide) (fun _ => ?_) (fun h => absurd h (by decide))
      refine x_iconst (v := 0) C dX2_addDisc_65 (by decide) ?_
      exact x_iret C dX2_addDisc_66 (Nat.le_of_ble_eq_true rfl) (Nat.le_of_ble_eq_true rfl) (rP_of (if_neg (fun z => c2 z.1.2)) R1 T1 (fun _ => rfl))
  · refine x_if_eq (tgt := 35) C dX2_addDisc_8 (by decide) (fun _ => ?_) (fun h => absurd (by decide) h)
    refine x_iconst (v := 0) C dX2_addDisc_35 (by decide) ?_
    refine x_iconst (v := 1) C dX2_addDisc_36 (by decide) ?_
    refine m_no0 (p := 1) C R (Nat.le_of_ble_eq_true rfl) ⟨Nat.le_of_ble_eq_true rfl, Nat.le_of_ble_eq_true rfl⟩ ⟨Nat.le_of_ble_eq_true rfl, Nat.le_of_ble_eq_true rfl⟩ dX2_addDisc_37 (fun μ1 R1 T1 => ?_)
    refine x_if_ne (tgt := 65) C dX2_addDisc_40 (by decide) (fun _ => ?_) (fun h => absurd h (by decide))
    refine x_iconst (v := 0) C dX2_addDisc_65 (by decide) ?_
    exact x_iret C dX2_addDisc_66 (Nat.le_of_ble_eq_true rfl) (Nat.le_of_ble_eq_true rfl) (rP_of (if_neg (fun z => c1 z.1.1)) R1 T1 (fun _ => rfl))
set_option maxHeartbeats 4000000 in
theorem k2_addBox {G : xG} {ad : Nat → Nat} {κ : xKp} {σ μ : xSg} {c t : xK} (hI : xIk κ) (R : xRl κ σ μ) (hZ : xIz κ σ) (sh ta : Int32) : xM G yX2_addBox (ws_ yX2_addBox cX2_addBox 3 (some Jvm.ClassFile.FieldType.int)) 8 300 0 0 [.ref (ad (ro 16 0)), .int sh, .int ta] ad (xj c (xkM G.2.2.1 ad μ) t) (rP G ad c t (oAddBox κ σ sh ta)) xN := by
  refine xM_of (cc := cX2_addBox) (by decide) rfl (fun F hF C => ?_)
  subst hF
  have h30 := hI.2.2.2.2.1
  have h14 := hI.2.2.2.2.2
  have T : μ 29 0 0 = μ 29 0 0 := rfl
  show xX F _ _ _ 0 0 0 [(0, .ref (ad (ro 16 0))), (1, .int sh), (2, .int ta)] []
  refine x_aload_n C dX2_addBox_0 rfl 0 rfl ?_
  refine x_iload_n C dX2_addBox_1 rfl 1 rfl ?_
  refine x_iconst (v := 0) C dX2_addBox_2 (by decide) ?_
  refine x_bipush (v := 60) C dX2_addBox_3 (by decide) ?_
  refine x_callS (rest := [.ref (ad (ro 16 0))]) C (k2_isIn sh 0 60) cf_X2_93 hd_X2_isIn ⟨Nat.le_of_ble_eq_true rfl, Nat.le_of_ble_eq_true rfl⟩ rfl (Nat.le_of_ble_eq_true rfl) ⟨Nat.le_of_ble_eq_true rfl, Nat.le_of_ble_eq_true rfl⟩ dX2_addBox_5 (xPv_i ?_) xN_e
  refine x_case (fun c1 => ?_) (fun c1 => ?_)
  · refine x_if_eq (tgt := 25) C dX2_addBox_8 (by decide) (fun h => absurd h (by decide)) (fun _ => ?_)
    refine x_iload_n C dX2_addBox_11 rfl 2 rfl ?_
    refine x_iconst (v := 0) C dX2_addBox_12 (by decide) ?_
    refine x_bipush (v := 9) C dX2_addBox_13 (by decide) ?_
    refine x_callS (rest := [.ref (ad (ro 16 0))]) C (k2_isIn ta 0 9) cf_X2_93 hd_X2_isIn ⟨Nat.le_of_ble_eq_true rfl, Nat.le_of_ble_eq_true rfl⟩ rfl (Nat.le_of_ble_eq_true rfl) ⟨Nat.le_of_ble_eq_true rfl, Nat.le_of_ble_eq_true rfl⟩ dX2_addBox_15 (xPv_i ?_) xN_e
    refine x_case (fun c3 => ?_) (fun c3 => ?_)
    · refine x_if_eq (tgt := 25) C dX2_addBox_18 (by decide) (fun h => absurd h (by decide)) (fun _ => ?_)
      refine x_iconst (v := 1) C dX2_addBox_21 (by decide) ?_
      refine x_goto (tgt := 26) C dX2_addBox_22 (by decide) ?_
      refine x_iconst (v := 1) C dX2_addBox_26 (by decide) ?_
      refine m_no1 (p := 1) C R (Nat.le_of_ble_eq_true rfl) ⟨Nat.le_of_ble_eq_true rfl, Nat.le_of_ble_eq_true rfl⟩ ⟨Nat.le_of_ble_eq_true rfl, Nat.le_of_ble_eq_true rfl⟩ dX2_addBox_27 (fun μ1 R1 T1 => ?_)
      refine x_if_ne (tgt := 54) C dX2_addBox_30 (by decide) (fun h => absurd rfl h) (fun _ => ?_)
      refine x_aload_n C dX2_addBox_33 rfl 0 rfl ?_
      refine x_aload_n C dX2_addBox_34 rfl 0 rfl ?_
      refine x_get C fl_X2_97 (r := ro 16 0) rfl (xj_m (by decide) (by decide) rfl) (v := .int (μ1 19 0 0)) rfl dX2_addBox_35 ?_
      refine x_top (y := nI (κ 1)) R1.2.1.2 ?_
      refine x_iconst (v := 4) C dX2_addBox_38 (by decide) ?_
      refine x_icmp_ge (tgt := 46) C dX2_addBox_39 (by decide) (fun c4 => ?_) (fun c4 => ?_)
      · refine x_iconst (v := 0) C dX2_addBox_46 (by decide) ?_
        refine x_iconst (v := 2) C dX2_addBox_47 (by decide) ?_
        refine m_no0 (p := 2) C R1 (Nat.le_of_ble_eq_true rfl) ⟨Nat.le_of_ble_eq_true rfl, Nat.le_of_ble_eq_true rfl⟩ ⟨Nat.le_of_ble_eq_true rfl, Nat.le_of_ble_eq_true rfl⟩ dX2_addBox_48 (fun μ2 R2 T2 => ?_)
        refine x_if_eq (tgt := 56) C dX2_addBox_51 (by decide) (fun h => absurd h (by decide)) (fun _ => ?_)
        refine x_iconst (v := 0) C dX2_addBox_54 (by decide) ?_
        exact x_iret C dX2_addBox_55 (Nat.le_of_ble_eq_true rfl) (Nat.le_of_ble_eq_true rfl) (rP_of (by unfold oAddBox; rw [if_pos ⟨c1, c3⟩]; exact if_neg (fun z => absurd ((nI_lt_iff (b := 4) (by omega) (by decide)).mpr z) (Int32.not_lt.mpr c4))) R2 T2 (fun _ => rfl))
      · have hn : κ 1 < 4 := (nI_lt_iff (b := 4) (by omega) (by decide)).mp (Int32.not_le.mp c4)
        refine x_iconst (v := 1) C dX2_addBox_42 (by decide) ?_
        refine x_goto (tgt := 47) C dX2_addBox_43 (by decide) ?_
        refine x_iconst (v := 2) C dX2_addBox_47 (by decide) ?_
        refine m_no1 (p := 2) C R1 (Nat.le_of_ble_eq_true rfl) ⟨Nat.le_of_ble_eq_true rfl, Nat.le_of_ble_eq_true rfl⟩ ⟨Nat.le_of_ble_eq_true rfl, Nat.le_of_ble_eq_true rfl⟩ dX2_addBox_48 (fun μ2 R2 T2 => ?_)
        refine x_if_eq (tgt := 56) C dX2_addBox_51 (by decide) (fun _ => ?_) (fun h => absurd (by decide) h)
        refine x_aload_n C dX2_addBox_56 rfl 0 rfl ?_
        refine x_get C fl_X2_25 (r := ro 16 0) rfl (xj_m (by decide) (by decide) rfl) (v := .ref (ad (ro 17 6))) rfl dX2_addBox_57 ?_
        refine x_aload_n C dX2_addBox_60 rfl 0 rfl ?_
        refine x_get C fl_X2_97 (r := ro 16 0) rfl (xj_m (by decide) (by decide) rfl) (v := .int (μ2 19 0 0)) rfl dX2_addBox_61 ?_
        refine x_top (y := nI (κ 1)) R2.2.1.2 ?_
        refine x_iload_n C dX2_addBox_64 rfl 1 rfl ?_
        refine m_st C R2 T2 (f := 6) (f' := 5) (i := (κ 1)) (by decide) rfl rfl rfl (show κ 1 < 4 by omega) (by decide) dX2_addBox_65 (fun μ3 R3 T3 => ?_)
        refine x_aload_n C dX2_addBox_66 rfl 0 rfl ?_
        refine x_get C fl_X2_28 (r := ro 16 0) rfl (xj_m (by decide) (by decide) rfl) (v := .ref (ad (ro 17 7))) rfl dX2_addBox_67 ?_
        refine x_aload_n C dX2_addBox_70 rfl 0 rfl ?_
        refine x_get C fl_X2_97 (r := ro 16 0) rfl (xj_m (by decide) (by decide) rfl) (v := .int (μ3 19 0 0)) rfl dX2_addBox_71 ?_
        refine x_top (y := nI (κ 1)) R3.2.1.2 ?_
        refine x_iload_n C dX2_addBox_74 rfl 2 rfl ?_
        refine m_st C R3 T3 (f := 7) (f' := 6) (i := (κ 1)) (by decide) rfl rfl rfl (show κ 1 < 4 by omega) (by decide) dX2_addBox_75 (fun μ4 R4 T4 => ?_)
        refine x_aload_n C dX2_addBox_76 rfl 0 rfl ?_
        refine x_dup C dX2_addBox_77 rfl ?_
        refine x_get C fl_X2_97 (r := ro 16 0) rfl (xj_m (by decide) (by decide) rfl) (v := .int (μ4 19 0 0)) rfl dX2_addBox_78 ?_
        refine x_top (y := nI (κ 1)) R4.2.1.2 ?_
        refine x_iconst (v := 1) C dX2_addBox_81 (by decide) ?_
        refine x_iadd C dX2_addBox_82 ?_
        refine x_top (y := nI (κ 1 + 1)) (nI_add (κ 1) 1) ?_
        refine x_put C fl_X2_97 (r := ro 16 0) rfl (xj_m (by decide) (by decide) rfl) rfl rfl (Nat.le_of_ble_eq_true rfl) dX2_addBox_83 ?_
        refine m_rput pm_19 ?_
        have RD : xRl (kB κ) (sB κ σ sh ta) (xup μ4 19 0 0 (nI (κ 1 + 1))) := xRl.addB hZ hn R4 rfl
        have TD : xup μ4 19 0 0 (nI (κ 1 + 1)) 29 0 0 = 0 := (xup_n (by omega)).trans T4
        refine x_aload_n C dX2_addBox_86 rfl 0 rfl ?_
        refine x_get C fl_X2_97 (r := ro 16 0) rfl (xj_m (by decide) (by decide) rfl) (v := .int ((xup μ4 19 0 0 (nI (κ 1 + 1))) 19 0 0)) rfl dX2_addBox_87 ?_
        refine x_top (y := nI ((kB κ) 1)) RD.2.1.2 ?_
        refine x_top (y := nI (κ 1 + 1)) (congrArg nI ((kup_n (by omega)).trans ((kup_n (by omega)).trans ((kup_n (by omega)).trans kup_s)))) ?_
        refine x_iconst (v := 1) C dX2_addBox_90 (by decide) ?_
        refine x_isub C dX2_addBox_91 ?_
        refine x_top (y := nI (κ 1)) (nI_sub1) ?_
        exact x_iret C dX2_addBox_92 (Nat.le_of_ble_eq_true rfl) (Nat.le_of_ble_eq_true rfl) (rP_of (by unfold oAddBox; rw [if_pos ⟨c1, c3⟩]; exact if_pos hn) RD TD (fun _ => rfl))
    · refine x_if_eq (tgt := 25) C dX2_addBox_18 (by decide) (fun _ => ?_) (fun h => absurd (by decide) h)
      refine x_iconst (v := 0) C dX2_addBox_25 (by decide) ?_
      refine x_iconst (v := 1) C dX2_addBox_26 (by decide) ?_
      refine m_no0 (p := 1) C R (Nat.le_of_ble_eq_true rfl) ⟨Nat.le_of_ble_eq_true rfl, Nat.le_of_ble_eq_true rfl⟩ ⟨Nat.le_of_ble_eq_true rfl, Nat.le_of_ble_eq_true rfl⟩ dX2_addBox_27 (fun μ1 R1 T1 => ?_)
      refine x_if_ne (tgt := 54) C dX2_addBox_30 (by decide) (fun _ => ?_) (fun h => absurd h (by decide))
      refine x_iconst (v := 0) C dX2_addBox_54 (by decide) ?_
      exact x_iret C dX2_addBox_55 (Nat.le_of_ble_eq_true rfl) (Nat.le_of_ble_eq_true rfl) (rP_of (if_neg (fun z => c3 z.2)) R1 T1 (fun _ => rfl))
  · refine x_if_eq (tgt := 25) C dX2_addBox_8 (by decide) (fun _ => ?_) (fun h => absurd (by decide) h)
    refine x_iconst (v := 0) C dX2_addBox_25 (by decide) ?_
    refine x_iconst (v := 1) C dX2_addBox_26 (by decide) ?_
    refine m_no0 (p := 1) C R (Nat.le_of_ble_eq_true rfl) ⟨Nat.le_of_ble_eq_true rfl, Nat.le_of_ble_eq_true rfl⟩ ⟨Nat.le_of_ble_eq_true rfl, Nat.le_of_ble_eq_true rfl⟩ dX2_addBox_27 (fun μ1 R1 T1 => ?_)
    refine x_if_ne (tgt := 54) C dX2_addBox_30 (by decide) (fun _ => ?_) (fun h => absurd h (by decide))
    refine x_iconst (v := 0) C dX2_addBox_54 (by decide) ?_
    exact x_iret C dX2_addBox_55 (Nat.le_of_ble_eq_true rfl) (Nat.le_of_ble_eq_true rfl) (rP_of (if_neg (fun z => c1 z.1)) R1 T1 (fun _ => rfl))
set_option maxHeartbeats 4000000 in
theorem k2_press {G : xG} {ad : Nat → Nat} {κ : xKp} {σ μ : xSg} {c t : xK} (hI : xIk κ) (R : xRl κ σ μ) (hS : xIs κ σ) (hQ : xIq κ σ) (b sl : Int32) : xM G yX2_press (ws_ yX2_press cX2_press 3 (some Jvm.ClassFile.FieldType.int)) 8 300 0 0 [.ref (ad (ro 16 0)), .int b, .int sl] ad (xj c (xkM G.2.2.1 ad μ) t) (rP G ad c t (oPress κ σ b sl)) xN := by
  refine xM_of (cc := cX2_press) (by decide) rfl (fun F hF C => ?_)
  subst hF
  have h30 := hI.2.2.2.2.1
  have h14 := hI.2.2.2.2.2
  have T : μ 29 0 0 = μ 29 0 0 := rfl
  show xX F _ _ _ 0 0 0 [(0, .ref (ad (ro 16 0))), (1, .int b), (2, .int sl)] []
  refine x_aload_n C dX2_press_0 rfl 0 rfl ?_
  refine x_aload_n C dX2_press_1 rfl 0 rfl ?_
  refine x_iload_n C dX2_press_2 rfl 1 rfl ?_
  refine x_iload_n C dX2_press_3 rfl 2 rfl ?_
  refine x_callV (rest := [.ref (ad (ro 16 0))]) C (k2_isSlot hI R b sl) cf_X2_116 ⟨rfl, hd_X2_isSlot⟩ ⟨Nat.le_of_ble_eq_true rfl, Nat.le_of_ble_eq_true rfl⟩ (xR_o xci4 rfl (xj_m (by decide) (by decide) rfl)) rfl (Nat.le_of_ble_eq_true rfl) ⟨Nat.le_of_ble_eq_true rfl, Nat.le_of_ble_eq_true rfl⟩ dX2_press_4 (xPv_i ?_) xN_e
  refine x_case (fun c1 => ?_) (fun c1 => ?_)
  · obtain ⟨c1b, c1s⟩ := id c1
    obtain ⟨j, hj, rfl⟩ := xIx_nI (by omega) c1b
    have tj : (nI j).toNatClampNeg = j := nI_clamp (by omega)
    obtain ⟨s, hs, rfl⟩ := xIx_nI (by omega) c1s
    have ts : (nI s).toNatClampNeg = s := nI_clamp (by omega)
    have hsl := nI_sl hS h30 hj hs
    have hq8 := (hQ j hj).1
    refine x_iconst (v := 1) C dX2_press_7 (by decide) ?_
    refine m_no1 (p := 1) C R (Nat.le_of_ble_eq_true rfl) ⟨Nat.le_of_ble_eq_true rfl, Nat.le_of_ble_eq_true rfl⟩ ⟨Nat.le_of_ble_eq_true rfl, Nat.le_of_ble_eq_true rfl⟩ dX2_press_8 (fun μ1 R1 T1 => ?_)
    refine x_if_ne (tgt := 74) C dX2_press_11 (by decide) (fun h => absurd rfl h) (fun _ => ?_)
    refine x_aload_n C dX2_press_14 rfl 0 rfl ?_
    refine x_aload_n C dX2_press_15 rfl 0 rfl ?_
    refine x_get C fl_X2_34 (r := ro 16 0) rfl (xj_m (by decide) (by decide) rfl) (v := .ref (ad (ro 17 9))) rfl dX2_press_16 ?_
    refine x_iload_n C dX2_press_19 rfl 1 rfl ?_
    refine m_ld C R1 (f := 9) (f' := 8) (i := j) (by decide) rfl rfl rfl (show j < 4 by omega) (by decide) dX2_press_20 ?_
    refine x_if_le (tgt := 42) C dX2_press_21 (by decide) (fun c2 => ?_) (fun c2 => ?_)
    · refine x_iconst (v := 0) C dX2_press_42 (by decide) ?_
      refine x_iconst (v := 2) C dX2_press_43 (by decide) ?_
      refine m_no0 (p := 2) C R1 (Nat.le_of_ble_eq_true rfl) ⟨Nat.le_of_ble_eq_true rfl, Nat.le_of_ble_eq_true rfl⟩ ⟨Nat.le_of_ble_eq_true rfl, Nat.le_of_ble_eq_true rfl⟩ dX2_press_44 (fun μ2 R2 T2 => ?_)
      refine x_if_ne (tgt := 74) C dX2_press_47 (by decide) (fun _ => ?_) (fun h => absurd h (by decide))
      refine x_iconst (v := 0) C dX2_press_74 (by decide) ?_
      exact x_iret C dX2_press_75 (Nat.le_of_ble_eq_true rfl) (Nat.le_of_ble_eq_true rfl) (rP_of (by unfold oPress; rw [if_pos c1, tj, ts]; exact if_neg (fun z => absurd z.1 (Int32.not_lt.mpr c2))) R2 T2 (fun _ => rfl))
    · refine x_aload_n C dX2_press_24 rfl 0 rfl ?_
      refine x_get C fl_X2_65 (r := ro 16 0) rfl (xj_m (by decide) (by decide) rfl) (v := .ref (ad (ro 17 20))) rfl dX2_press_25 ?_
      refine x_bipush (v := 10) C dX2_press_28 (by decide) ?_
      refine x_iload_n C dX2_press_30 rfl 1 rfl ?_
      refine x_imul C dX2_press_31 ?_
      refine x_iload_n C dX2_press_32 rfl 2 rfl ?_
      refine x_iadd C dX2_press_33 ?_
      refine x_top (y := nI (10 * j + s)) (nI_at) ?_
      refine m_ld20 C R1 (j := j) (s := s) rfl (by omega) (by omega) dX2_press_34 ?_
      refine x_if_le (tgt := 42) C dX2_press_35 (by decide) (fun c3 => ?_) (fun c3 => ?_)
      · refine x_iconst (v := 0) C dX2_press_42 (by decide) ?_
        refine x_iconst (v := 2) C dX2_press_43 (by decide) ?_
        refine m_no0 (p := 2) C R1 (Nat.le_of_ble_eq_true rfl) ⟨Nat.le_of_ble_eq_true rfl, Nat.le_of_ble_eq_true rfl⟩ ⟨Nat.le_of_ble_eq_true rfl, Nat.le_of_ble_eq_true rfl⟩ dX2_press_44 (fun μ2 R2 T2 => ?_)
        refine x_if_ne (tgt := 74) C dX2_press_47 (by decide) (fun _ => ?_) (fun h => absurd h (by decide))
        refine x_iconst (v := 0) C dX2_press_74 (by decide) ?_
        exact x_iret C dX2_press_75 (Nat.le_of_ble_eq_true rfl) (Nat.le_of_ble_eq_true rfl) (rP_of (by unfold oPress; rw [if_pos c1, tj, ts]; exact if_neg (fun z => z.2 (hsl.mp c3))) R2 T2 (fun _ => rfl))
      · have hok : 0 < σ 8 j 0 ∧ ¬ σ 17 j s = -1 := ⟨Int32.not_le.mp c2, fun z => c3 (hsl.mpr z)⟩
        refine x_iconst (v := 1) C dX2_press_38 (by decide) ?_
        refine x_goto (tgt := 43) C dX2_press_39 (by decide) ?_
        refine x_iconst (v := 2) C dX2_press_43 (by decide) ?_
        refine m_no1 (p := 2) C R1 (Nat.le_of_ble_eq_true rfl) ⟨Nat.le_of_ble_eq_true rfl, Nat.le_of_ble_eq_true rfl⟩ ⟨Nat.le_of_ble_eq_true rfl, Nat.le_of_ble_eq_true rfl⟩ dX2_press_44 (fun μ2 R2 T2 => ?_)
        refine x_if_ne (tgt := 74) C dX2_press_47 (by decide) (fun h => absurd rfl h) (fun _ => ?_)
        refine x_aload_n C dX2_press_50 rfl 0 rfl ?_
        refine x_aload_n C dX2_press_51 rfl 0 rfl ?_
        refine x_get C fl_X2_43 (r := ro 16 0) rfl (xj_m (by decide) (by decide) rfl) (v := .ref (ad (ro 17 12))) rfl dX2_press_52 ?_
        refine x_iload_n C dX2_press_55 rfl 1 rfl ?_
        refine m_ld12 C R2 (j := j) rfl (by omega) dX2_press_56 ?_
        refine x_bipush (v := 8) C dX2_press_57 (by decide) ?_
        refine x_icmp_ge (tgt := 66) C dX2_press_59 (by decide) (fun c4 => ?_) (fun c4 => ?_)
        · refine x_iconst (v := 0) C dX2_press_66 (by decide) ?_
          refine x_iconst (v := 3) C dX2_press_67 (by decide) ?_
          refine m_no0 (p := 3) C R2 (Nat.le_of_ble_eq_true rfl) ⟨Nat.le_of_ble_eq_true rfl, Nat.le_of_ble_eq_true rfl⟩ ⟨Nat.le_of_ble_eq_true rfl, Nat.le_of_ble_eq_true rfl⟩ dX2_press_68 (fun μ3 R3 T3 => ?_)
          refine x_if_eq (tgt := 76) C dX2_press_71 (by decide) (fun h => absurd h (by decide)) (fun _ => ?_)
          refine x_iconst (v := 0) C dX2_press_74 (by decide) ?_
          exact x_iret C dX2_press_75 (Nat.le_of_ble_eq_true rfl) (Nat.le_of_ble_eq_true rfl) (rP_of (by unfold oPress; rw [if_pos c1, tj, ts]; rw [if_pos hok]; exact if_neg (fun z => absurd ((nI_lt_iff (b := 8) (by omega) (by decide)).mpr z) (Int32.not_lt.mpr c4))) R3 T3 (fun _ => rfl))
        · have hn : κ (10 + j) < 8 := (nI_lt_iff (b := 8) (by omega) (by decide)).mp (Int32.not_le.mp c4)
          refine x_iconst (v := 1) C dX2_press_62 (by decide) ?_
          refine x_goto (tgt := 67) C dX2_press_63 (by decide) ?_
          refine x_iconst (v := 3) C dX2_press_67 (by decide) ?_
          refine m_no1 (p := 3) C R2 (Nat.le_of_ble_eq_true rfl) ⟨Nat.le_of_ble_eq_true rfl, Nat.le_of_ble_eq_true rfl⟩ ⟨Nat.le_of_ble_eq_true rfl, Nat.le_of_ble_eq_true rfl⟩ dX2_press_68 (fun μ3 R3 T3 => ?_)
          refine x_if_eq (tgt := 76) C dX2_press_71 (by decide) (fun _ => ?_) (fun h => absurd (by decide) h)
          refine x_aload_n C dX2_press_76 rfl 0 rfl ?_
          refine x_get C fl_X2_34 (r := ro 16 0) rfl (xj_m (by decide) (by decide) rfl) (v := .ref (ad (ro 17 9))) rfl dX2_press_77 ?_
          refine x_iload_n C dX2_press_80 rfl 1 rfl ?_
          refine x_dup2_11 C dX2_press_81 rfl rfl ?_
          refine m_ld C R3 (f := 9) (f' := 8) (i := j) (by decide) rfl rfl rfl (show j < 4 by omega) (by decide) dX2_press_82 ?_
          refine x_iconst (v := 1) C dX2_press_83 (by decide) ?_
          refine x_isub C dX2_press_84 ?_
          refine m_st C R3 T3 (f := 9) (f' := 8) (i := j) (by decide) rfl rfl rfl (show j < 4 by omega) (by decide) dX2_press_85 (fun μ4 R4 T4 => ?_)
          refine x_aload_n C dX2_press_86 rfl 0 rfl ?_
          refine x_get C fl_X2_46 (r := ro 16 0) rfl (xj_m (by decide) (by decide) rfl) (v := .ref (ad (ro 17 13))) rfl dX2_press_87 ?_
          refine x_bipush (v := 8) C dX2_press_90 (by decide) ?_
          refine x_iload_n C dX2_press_92 rfl 1 rfl ?_
          refine x_imul C dX2_press_93 ?_
          refine x_aload_n C dX2_press_94 rfl 0 rfl ?_
          refine x_get C fl_X2_43 (r := ro 16 0) rfl (xj_m (by decide) (by decide) rfl) (v := .ref (ad (ro 17 12))) rfl dX2_press_95 ?_
          refine x_iload_n C dX2_press_98 rfl 1 rfl ?_
          refine m_ld12 C R4 (j := j) rfl (by omega) dX2_press_99 ?_
          refine x_iadd C dX2_press_100 ?_
          refine x_top (y := nI (8 * j + κ (10 + j))) (nI_at8) ?_
          refine x_iload_n C dX2_press_101 rfl 2 rfl ?_
          refine m_rst C 13 (8 * j + κ (10 + j)) rfl rfl rfl (show _ < 32 by omega) rfl dX2_press_102 ?_
          have RQ := R4.q13 (j := j) (k := κ (10 + j)) (v := nI s) (Nat.le_refl _) hn
          have EQ : xup μ4 13 (8 * j + κ (10 + j)) 0 (nI s) 13 (8 * j + κ (10 + j)) 0 = nI s := xup_s
          have TQ : xup μ4 13 (8 * j + κ (10 + j)) 0 (nI s) 29 0 0 = 0 := (xup_n (by omega)).trans T4
          generalize xup μ4 13 (8 * j + κ (10 + j)) 0 (nI s) = μq at *
          refine x_aload_n C dX2_press_103 rfl 0 rfl ?_
          refine x_get C fl_X2_43 (r := ro 16 0) rfl (xj_m (by decide) (by decide) rfl) (v := .ref (ad (ro 17 12))) rfl dX2_press_104 ?_
          refine x_iload_n C dX2_press_107 rfl 1 rfl ?_
          refine x_dup2_11 C dX2_press_108 rfl rfl ?_
          refine m_ld12 C RQ (j := j) rfl (by omega) dX2_press_109 ?_
          refine x_iconst (v := 1) C dX2_press_110 (by decide) ?_
          refine x_iadd C dX2_press_111 ?_
          refine x_top (y := nI (κ (10 + j) + 1)) (nI_add (κ (10 + j)) 1) ?_
          refine m_rst C 12 j rfl rfl rfl (show j < 4 by omega) rfl dX2_press_112 ?_
          have RP := RQ.qadd (s := s) (show j < 4 by omega) rfl EQ
          have TP : xup μq 12 j 0 (nI (κ (10 + j) + 1)) 29 0 0 = 0 := (xup_n (by omega)).trans TQ
          refine x_aload_n C dX2_press_113 rfl 0 rfl ?_
          refine x_get C fl_X2_43 (r := ro 16 0) rfl (xj_m (by decide) (by decide) rfl) (v := .ref (ad (ro 17 12))) rfl dX2_press_114 ?_
          refine x_iload_n C dX2_press_117 rfl 1 rfl ?_
          refine m_ld12 C RP (j := j) rfl (by omega) dX2_press_118 ?_
          refine x_top (y := nI (κ (10 + j) + 1)) (congrArg nI ((kup_n (by omega)).trans kup_s)) ?_
          exact x_iret C dX2_press_119 (Nat.le_of_ble_eq_true rfl) (Nat.le_of_ble_eq_true rfl) (rP_of (by unfold oPress; rw [if_pos c1, tj, ts]; rw [if_pos hok]; exact if_pos hn) RP TP (fun _ => rfl))
  · refine x_iconst (v := 1) C dX2_press_7 (by decide) ?_
    refine m_no0 (p := 1) C R (Nat.le_of_ble_eq_true rfl) ⟨Nat.le_of_ble_eq_true rfl, Nat.le_of_ble_eq_true rfl⟩ ⟨Nat.le_of_ble_eq_true rfl, Nat.le_of_ble_eq_true rfl⟩ dX2_press_8 (fun μ1 R1 T1 => ?_)
    refine x_if_ne (tgt := 74) C dX2_press_11 (by decide) (fun _ => ?_) (fun h => absurd h (by decide))
    refine x_iconst (v := 0) C dX2_press_74 (by decide) ?_
    exact x_iret C dX2_press_75 (Nat.le_of_ble_eq_true rfl) (Nat.le_of_ble_eq_true rfl) (rP_of (if_neg c1) R1 T1 (fun _ => rfl))
set_option maxHeartbeats 4000000 in
theorem k2_play {G : xG} {ad : Nat → Nat} {κ : xKp} {σ μ : xSg} {c t : xK} (hI : xIk κ) (R : xRl κ σ μ) (hS : xIs κ σ) (hQ : xIq κ σ) (b : Int32) : xM G yX2_play (ws_ yX2_play cX2_play 4 (some Jvm.ClassFile.FieldType.char)) 8 300 0 0 [.ref (ad (ro 16 0)), .int b] ad (xj c (xkM G.2.2.1 ad μ) t) (rP G ad c t (oPlay κ σ b)) xN := by
  refine xM_of (cc := cX2_play) (by decide) rfl (fun F hF C => ?_)
  subst hF
  have h30 := hI.2.2.2.2.1
  have h14 := hI.2.2.2.2.2
  have T : μ 29 0 0 = μ 29 0 0 := rfl
  show xX F _ _ _ 0 0 0 [(0, .ref (ad (ro 16 0))), (1, .int b)] []
  refine x_aload_n C dX2_play_0 rfl 0 rfl ?_
  refine x_aload_n C dX2_play_1 rfl 0 rfl ?_
  refine x_iload_n C dX2_play_2 rfl 1 rfl ?_
  refine x_callV (rest := [.ref (ad (ro 16 0))]) C (k2_isBox hI R b) cf_X2_100 ⟨rfl, hd_X2_isBox⟩ ⟨Nat.le_of_ble_eq_true rfl, Nat.le_of_ble_eq_true rfl⟩ (xR_o xci4 rfl (xj_m (by decide) (by decide) rfl)) rfl (Nat.le_of_ble_eq_true rfl) ⟨Nat.le_of_ble_eq_true rfl, Nat.le_of_ble_eq_true rfl⟩ dX2_play_3 (xPv_i ?_) xN_e
  refine x_case (fun c1 => ?_) (fun c1 => ?_)
  · obtain ⟨j, hj, rfl⟩ := xIx_nI (by omega) c1
    have tj : (nI j).toNatClampNeg = j := nI_clamp (by omega)
    have hq := hQ j hj
    refine x_iconst (v := 1) C dX2_play_6 (by decide) ?_
    refine m_no1 (p := 1) C R (Nat.le_of_ble_eq_true rfl) ⟨Nat.le_of_ble_eq_true rfl, Nat.le_of_ble_eq_true rfl⟩ ⟨Nat.le_of_ble_eq_true rfl, Nat.le_of_ble_eq_true rfl⟩ dX2_play_7 (fun μ1 R1 T1 => ?_)
    refine x_if_ne (tgt := 57) C dX2_play_10 (by decide) (fun h => absurd rfl h) (fun _ => ?_)
    refine x_aload_n C dX2_play_13 rfl 0 rfl ?_
    refine x_aload_n C dX2_play_14 rfl 0 rfl ?_
    refine x_get C fl_X2_58 (r := ro 16 0) rfl (xj_m (by decide) (by decide) rfl) (v := .ref (ad (ro 17 17))) rfl dX2_play_15 ?_
    refine x_iload_n C dX2_play_18 rfl 1 rfl ?_
    refine m_zld C R1 (f := 17) (f' := 14) (i := j) (by decide) rfl rfl rfl (show j < 4 by omega) (by decide) dX2_play_19 ?_
    refine x_if_ne (tgt := 27) C dX2_play_20 (by decide) (fun c2 => ?_) (fun c2 => ?_)
    · refine x_iconst (v := 0) C dX2_play_27 (by decide) ?_
      refine x_iconst (v := 2) C dX2_play_28 (by decide) ?_
      refine m_no0 (p := 2) C R1 (Nat.le_of_ble_eq_true rfl) ⟨Nat.le_of_ble_eq_true rfl, Nat.le_of_ble_eq_true rfl⟩ ⟨Nat.le_of_ble_eq_true rfl, Nat.le_of_ble_eq_true rfl⟩ dX2_play_29 (fun μ2 R2 T2 => ?_)
      refine x_if_ne (tgt := 57) C dX2_play_32 (by decide) (fun _ => ?_) (fun h => absurd h (by decide))
      refine x_bipush (v := 45) C dX2_play_57 (by decide) ?_
      exact x_zret C rfl dX2_play_59 (Nat.le_of_ble_eq_true rfl) (Nat.le_of_ble_eq_true rfl) (rP_of (by unfold oPlay; rw [if_pos c1, tj]; exact if_neg c2) R2 T2 (fun h => absurd h (by decide)))
    · refine x_iconst (v := 1) C dX2_play_23 (by decide) ?_
      refine x_goto (tgt := 28) C dX2_play_24 (by decide) ?_
      refine x_iconst (v := 2) C dX2_play_28 (by decide) ?_
      refine m_no1 (p := 2) C R1 (Nat.le_of_ble_eq_true rfl) ⟨Nat.le_of_ble_eq_true rfl, Nat.le_of_ble_eq_true rfl⟩ ⟨Nat.le_of_ble_eq_true rfl, Nat.le_of_ble_eq_true rfl⟩ dX2_play_29 (fun μ2 R2 T2 => ?_)
      refine x_if_ne (tgt := 57) C dX2_play_32 (by decide) (fun h => absurd rfl h) (fun _ => ?_)
      refine x_aload_n C dX2_play_35 rfl 0 rfl ?_
      refine x_aload_n C dX2_play_36 rfl 0 rfl ?_
      refine x_get C fl_X2_43 (r := ro 16 0) rfl (xj_m (by decide) (by decide) rfl) (v := .ref (ad (ro 17 12))) rfl dX2_play_37 ?_
      refine x_iload_n C dX2_play_40 rfl 1 rfl ?_
      refine m_ld12 C R2 (j := j) rfl (by omega) dX2_play_41 ?_
      refine x_if_le (tgt := 49) C dX2_play_42 (by decide) (fun c3 => ?_) (fun c3 => ?_)
      · refine x_iconst (v := 0) C dX2_play_49 (by decide) ?_
        refine x_iconst (v := 3) C dX2_play_50 (by decide) ?_
        refine m_no0 (p := 3) C R2 (Nat.le_of_ble_eq_true rfl) ⟨Nat.le_of_ble_eq_true rfl, Nat.le_of_ble_eq_true rfl⟩ ⟨Nat.le_of_ble_eq_true rfl, Nat.le_of_ble_eq_true rfl⟩ dX2_play_51 (fun μ3 R3 T3 => ?_)
        refine x_if_eq (tgt := 60) C dX2_play_54 (by decide) (fun h => absurd h (by decide)) (fun _ => ?_)
        refine x_bipush (v := 45) C dX2_play_57 (by decide) ?_
        exact x_zret C rfl dX2_play_59 (Nat.le_of_ble_eq_true rfl) (Nat.le_of_ble_eq_true rfl) (rP_of (by unfold oPlay; rw [if_pos c1, tj]; rw [if_pos c2]; exact if_neg (fun z => absurd ((nI_lt_iff (a := 0) (by decide) (by omega)).mpr z) (Int32.not_lt.mpr c3))) R3 T3 (fun h => absurd h (by decide)))
      · have hn : 0 < κ (10 + j) := (nI_lt_iff (a := 0) (by decide) (by omega)).mp (Int32.not_le.mp c3)
        refine x_iconst (v := 1) C dX2_play_45 (by decide) ?_
        refine x_goto (tgt := 50) C dX2_play_46 (by decide) ?_
        refine x_iconst (v := 3) C dX2_play_50 (by decide) ?_
        refine m_no1 (p := 3) C R2 (Nat.le_of_ble_eq_true rfl) ⟨Nat.le_of_ble_eq_true rfl, Nat.le_of_ble_eq_true rfl⟩ ⟨Nat.le_of_ble_eq_true rfl, Nat.le_of_ble_eq_true rfl⟩ dX2_play_51 (fun μ3 R3 T3 => ?_)
        refine x_if_eq (tgt := 60) C dX2_play_54 (by decide) (fun _ => ?_) (fun h => absurd (by decide) h)
        refine x_aload_n C dX2_play_60 rfl 0 rfl ?_
        refine x_aload_n C dX2_play_61 rfl 0 rfl ?_
        refine x_get C fl_X2_80 (r := ro 16 0) rfl (xj_m (by decide) (by decide) rfl) (v := .int (μ3 25 0 0)) rfl dX2_play_62 ?_
        refine x_top (y := σ 24 0 0) (R3.1 (25, 24) (by decide) 0) ?_
        refine x_i2l C dX2_play_65 rfl ?_
        refine x_ldc2 (v := 48271) C q1112 dX2_play_66 ?_
        refine x_lmul C dX2_play_69 ?_
        refine x_ldc2 (v := 2147483647) C q1113 dX2_play_70 ?_
        refine x_lrem C dX2_play_73 (by decide) ?_
        refine x_l2i C dX2_play_74 rfl ?_
        refine x_top (y := sZn (σ 24 0 0)) (rfl) ?_
        refine x_put C fl_X2_80 (r := ro 16 0) rfl (xj_m (by decide) (by decide) rfl) rfl rfl (Nat.le_of_ble_eq_true rfl) dX2_play_75 ?_
        refine m_put (f := 25) (f' := 24) (by decide) (by decide) pm_25 R3 T3 (fun μ4 R4 T4 => ?_)
        refine x_aload_n C dX2_play_78 rfl 0 rfl ?_
        refine x_get C fl_X2_80 (r := ro 16 0) rfl (xj_m (by decide) (by decide) rfl) (v := .int (μ4 25 0 0)) rfl dX2_play_79 ?_
        refine x_top (y := (xup σ 24 0 0 (sZn (σ 24 0 0))) 24 0 0) (R4.1 (25, 24) (by decide) 0) ?_
        refine x_top (y := sZn (σ 24 0 0)) (by first | exact xup_s | simp [xup]) ?_
        refine x_bipush (v := 100) C dX2_play_82 (by decide) ?_
        refine x_irem C dX2_play_84 (by decide) ?_
        refine x_aload_n C dX2_play_85 rfl 0 rfl ?_
        refine x_get C fl_X2_31 (r := ro 16 0) rfl (xj_m (by decide) (by decide) rfl) (v := .ref (ad (ro 17 8))) rfl dX2_play_86 ?_
        refine x_iload_n C dX2_play_89 rfl 1 rfl ?_
        refine m_ld C R4 (f := 8) (f' := 7) (i := j) (by decide) rfl rfl rfl (show j < 4 by omega) (by decide) dX2_play_90 ?_
        refine x_top (y := σ 7 j 0) (by first | exact xup_s | simp [xup]) ?_
        refine x_icmp_ge (tgt := 104) C dX2_play_91 (by decide) (fun c4 => ?_) (fun c4 => ?_)
        · have nj : ¬ sJam (sZn (σ 24 0 0)) (σ 7 j 0) := Int32.not_lt.mpr c4
          obtain ⟨s, hs, es⟩ := hq.2.2.2 0 hn
          refine x_bipush (v := 10) C dX2_play_104 (by decide) ?_
          refine x_iload_n C dX2_play_106 rfl 1 rfl ?_
          refine x_imul C dX2_play_107 ?_
          refine x_aload_n C dX2_play_108 rfl 0 rfl ?_
          refine x_get C fl_X2_46 (r := ro 16 0) rfl (xj_m (by decide) (by decide) rfl) (v := .ref (ad (ro 17 13))) rfl dX2_play_109 ?_
          refine x_bipush (v := 8) C dX2_play_112 (by decide) ?_
          refine x_iload_n C dX2_play_114 rfl 1 rfl ?_
          refine x_imul C dX2_play_115 ?_
          refine m_rld C 13 (8 * j + 0) rfl rfl nI_8 (show _ < 32 by omega) rfl ((R4.2.2.2.2.2 j 0 (by omega) hn (by decide)).trans ((xup_n (by omega)).trans es)) dX2_play_116 ?_
          refine x_iadd C dX2_play_117 ?_
          refine x_top (y := nI (10 * j + s)) (nI_at) ?_
          refine x_istore_n (lv' := [(2, .int (nI (10 * j + s))), (0, .ref (ad (ro 16 0))), (1, .int (nI j))]) C dX2_play_118 rfl (by decide) rfl ?_
          refine x_aload_n C dX2_play_119 rfl 1 rfl ?_
          refine x_get C fl_X2_43 (r := ro 16 0) rfl (xj_m (by decide) (by decide) rfl) (v := .ref (ad (ro 17 12))) rfl dX2_play_120 ?_
          refine x_iload_n C dX2_play_123 rfl 2 rfl ?_
          refine x_dup2_11 C dX2_play_124 rfl rfl ?_
          refine m_ld12 C R4 (j := j) rfl (by omega) dX2_play_125 ?_
          refine x_iconst (v := 1) C dX2_play_126 (by decide) ?_
          refine x_isub C dX2_play_127 ?_
          refine x_top (y := nI (κ (10 + j) - 1)) (nI_prd hn) ?_
          refine m_rst C 12 j rfl rfl rfl (show j < 4 by omega) rfl dX2_play_128 ?_
          have W0 : xRw j κ (xup σ 24 0 0 (sZn (σ 24 0 0))) (xup μ4 12 j 0 (nI (κ (10 + j) - 1))) := R4.w.n
          refine x_iconst (v := 0) C dX2_play_129 (by decide) ?_
          refine x_istore_n (lv' := [(3, .int 0), (2, .int (nI (10 * j + s))), (0, .ref (ad (ro 16 0))), (1, .int (nI j))]) C dX2_play_130 rfl (by decide) rfl ?_
          have loop : ∀ (n2 k : Nat) (μ9 : xSg), k + n2 = κ (10 + j) - 1 → xRw j κ (xup σ 24 0 0 (sZn (σ 24 0 0))) μ9 → μ9 12 j 0 = nI (κ (10 + j) - 1) → μ9 29 0 0 = 0 → (∀ i, i < k → μ9 13 (8 * j + i) 0 = (xup σ 24 0 0 (sZn (σ 24 0 0))) 20 j (i + 1)) → (∀ i, k ≤ i → i < κ (10 + j) → μ9 13 (8 * j + i) 0 = (xup σ 24 0 0 (sZn (σ 24 0 0))) 20 j i) → xX F (xQ F (rP F.1 ad c t (oPlay κ σ (nI j))) xN 0 0) ad (xj c (xkM F.1.2.2.1 ad μ9) t) 0 0 131 [(3, .int (nI k)), (2, .int (nI (10 * j + s))), (0, .ref (ad (ro 16 0))), (1, .int (nI j))] [] := by
            intro n2
            induction n2 with
            | zero =>
              intro k μ9 hk W9 h12 T9 hlo hhi
              refine x_iload_n C dX2_play_131 rfl 0 rfl ?_
              refine x_aload_n C dX2_play_132 rfl 2 rfl ?_
              refine x_get C fl_X2_43 (r := ro 16 0) rfl (xj_m (by decide) (by decide) rfl) (v := .ref (ad (ro 17 12))) rfl dX2_play_133 ?_
              refine x_iload_n C dX2_play_136 rfl 3 rfl ?_
              refine m_rld C 12 j rfl rfl rfl (show j < 4 by omega) rfl h12 dX2_play_137 ?_
              refine x_icmp_ge (tgt := 171) C dX2_play_138 (by decide) (fun _ => ?_) (fun h => absurd ((nI_le_iff (by omega) (by omega)).mpr (by omega)) h)
              have RJ : xRl (kR κ j) (sR (xup σ 24 0 0 (sZn (σ 24 0 0))) j) μ9 := W9.join (by omega) h12 (fun i hi hi8 => hlo i (by omega))
              obtain ⟨σz, hz⟩ : ∃ z, z = sR (xup σ 24 0 0 (sZn (σ 24 0 0))) j := ⟨_, rfl⟩
              rw [← hz] at RJ
              have f0 : ∀ f i k, f ≠ 20 → f ≠ 28 → f ≠ 24 → σz f i k = σ f i k := fun f i k h1 h2 h3 => by rw [hz, sR_n (by omega), xup_n (by omega)]
              have hI2 : xIk (kR κ j) := kR_I hI
              have hj2 : j < kR κ j 1 := kR_1.symm ▸ hj
              have k0 : kR κ j 0 = κ 0 := kup_n (by omega)
              refine x_aload_n C dX2_play_171 rfl 2 rfl ?_
              refine x_get C fl_X2_65 (r := ro 16 0) rfl (xj_m (by decide) (by decide) rfl) (v := .ref (ad (ro 17 20))) rfl dX2_play_172 ?_
              refine x_iload_n C dX2_play_175 rfl 1 rfl ?_
              refine m_ld20 C RJ (j := j) (s := s) rfl (by omega) (by omega) dX2_play_176 ?_
              refine x_top (y := (σ 17 j s) + 1) (by rw [f0 17 j s (by decide) (by decide) (by decide)]) ?_
              refine x_if_eq (tgt := 198) C dX2_play_177 (by decide) (fun c5 => ?_) (fun c5 => ?_)
              · have e17 : σ 17 j s = -1 := by rw [← i_asc (a := σ 17 j s), c5]; rfl
                refine x_aload_n C dX2_play_198 rfl 2 rfl ?_
                refine x_get C fl_X2_34 (r := ro 16 0) rfl (xj_m (by decide) (by decide) rfl) (v := .ref (ad (ro 17 9))) rfl dX2_play_199 ?_
                refine x_iload_n C dX2_play_202 rfl 3 rfl ?_
                refine x_dup2_11 C dX2_play_203 rfl rfl ?_
                refine m_ld C RJ (f := 9) (f' := 8) (i := j) (by decide) rfl rfl rfl (show j < 4 by omega) (by decide) dX2_play_204 ?_
                refine x_iconst (v := 1) C dX2_play_205 (by decide) ?_
                refine x_iadd C dX2_play_206 ?_
                refine m_st C RJ T9 (f := 9) (f' := 8) (i := j) (by decide) rfl rfl rfl (show j < 4 by omega) (by decide) dX2_play_207 (fun μ5 R5 T5 => ?_)
                refine x_bipush (v := 98) C dX2_play_208 (by decide) ?_
                have e8 : σz 8 j 0 = σ 8 j 0 := f0 8 j 0 (by decide) (by decide) (by decide)
                exact x_zret C rfl dX2_play_210 (Nat.le_of_ble_eq_true rfl) (Nat.le_of_ble_eq_true rfl) (rP_of (by unfold oPlay; rw [if_pos c1, tj]; rw [if_pos c2, if_pos hn]; unfold oPlay1; rw [if_neg nj, es, nI_clamp (by omega)]; refine (if_pos (Or.inl e17)).trans ?_; rw [← e8, ← hz]) R5 T5 (fun _ => rfl))
              · obtain ⟨d, hd, e17⟩ := (hS j hj s hs).resolve_left (fun e => c5 (by rw [e]; rfl))
                have z17 : σz 17 j s = nI d := (f0 17 j s (by decide) (by decide) (by decide)).trans e17
                refine x_aload_n C dX2_play_180 rfl 2 rfl ?_
                refine x_get C fl_X2_19 (r := ro 16 0) rfl (xj_m (by decide) (by decide) rfl) (v := .ref (ad (ro 17 3))) rfl dX2_play_181 ?_
                refine x_aload_n C dX2_play_184 rfl 2 rfl ?_
                refine x_get C fl_X2_65 (r := ro 16 0) rfl (xj_m (by decide) (by decide) rfl) (v := .ref (ad (ro 17 20))) rfl dX2_play_185 ?_
                refine x_iload_n C dX2_play_188 rfl 1 rfl ?_
                refine m_ld20 C RJ (j := j) (s := s) rfl (by omega) (by omega) dX2_play_189 ?_
                refine x_iconst (v := 1) C dX2_play_190 (by decide) ?_
                refine x_isub C dX2_play_191 ?_
                refine x_top (y := nI d) (i_asc.trans z17) ?_
                refine m_ld C RJ (f := 3) (f' := 3) (i := d) (by decide) rfl rfl rfl (show d < 30 by omega) (by decide) dX2_play_192 ?_
                refine x_bipush (v := 60) C dX2_play_193 (by decide) ?_
                refine x_icmp_lt (tgt := 211) C dX2_play_195 (by decide) (fun c6 => ?_) (fun c6 => ?_)
                · have e3 : σz 3 d 0 = σ 3 d 0 := f0 3 d 0 (by decide) (by decide) (by decide)
                  refine x_aload_n C dX2_play_211 rfl 2 rfl ?_
                  refine x_iload_n C dX2_play_212 rfl 1 rfl ?_
                  refine x_iconst (v := 1) C dX2_play_213 (by decide) ?_
                  refine x_callV (rest := []) C (k2_wears hI2 RJ (j := j) (s := s) (d := d) hj2 hs (by rw [k0]; exact hd) z17 1) cf_X2_124 ⟨rfl, hd_X2_wears⟩ ⟨Nat.le_of_ble_eq_true rfl, Nat.le_of_ble_eq_true rfl⟩ (xR_o xci4 rfl (xj_m (by decide) (by decide) rfl)) rfl (Nat.le_of_ble_eq_true rfl) ⟨Nat.le_of_ble_eq_true rfl, Nat.le_of_ble_eq_true rfl⟩ dX2_play_214 (fun v ad' ct' q => ?_) xN_e
                  obtain ⟨rfl, e9, μ7, rfl, R7, T7⟩ := q; obtain rfl := e9.symm
                  refine x_bipush (v := 112) C dX2_play_217 (by decide) ?_
                  exact x_zret C rfl dX2_play_219 (Nat.le_of_ble_eq_true rfl) (Nat.le_of_ble_eq_true rfl) (rP_of (by unfold oPlay; rw [if_pos c1, tj]; rw [if_pos c2, if_pos hn]; unfold oPlay1; rw [if_neg nj, es, nI_clamp (by omega)]; refine (if_neg (fun z => z.elim (fun e => nI_ne1 (by omega) (e17.symm.trans e)) (fun e => e (by rw [e17, nI_clamp (by omega), ← e3]; exact c6)))).trans ?_; rw [e17, nI_clamp (by omega), ← hz]) R7 (T7.trans T9) (fun _ => rfl))
                · have e3 : σz 3 d 0 = σ 3 d 0 := f0 3 d 0 (by decide) (by decide) (by decide)
                  refine x_aload_n C dX2_play_198 rfl 2 rfl ?_
                  refine x_get C fl_X2_34 (r := ro 16 0) rfl (xj_m (by decide) (by decide) rfl) (v := .ref (ad (ro 17 9))) rfl dX2_play_199 ?_
                  refine x_iload_n C dX2_play_202 rfl 3 rfl ?_
                  refine x_dup2_11 C dX2_play_203 rfl rfl ?_
                  refine m_ld C RJ (f := 9) (f' := 8) (i := j) (by decide) rfl rfl rfl (show j < 4 by omega) (by decide) dX2_play_204 ?_
                  refine x_iconst (v := 1) C dX2_play_205 (by decide) ?_
                  refine x_iadd C dX2_play_206 ?_
                  refine m_st C RJ T9 (f := 9) (f' := 8) (i := j) (by decide) rfl rfl rfl (show j < 4 by omega) (by decide) dX2_play_207 (fun μ5 R5 T5 => ?_)
                  refine x_bipush (v := 98) C dX2_play_208 (by decide) ?_
                  have e8 : σz 8 j 0 = σ 8 j 0 := f0 8 j 0 (by decide) (by decide) (by decide)
                  exact x_zret C rfl dX2_play_210 (Nat.le_of_ble_eq_true rfl) (Nat.le_of_ble_eq_true rfl) (rP_of (by unfold oPlay; rw [if_pos c1, tj]; rw [if_pos c2, if_pos hn]; unfold oPlay1; rw [if_neg nj, es, nI_clamp (by omega)]; refine (if_pos (Or.inr (by rw [e17, nI_clamp (by omega), ← e3]; exact c6))).trans ?_; rw [← e8, ← hz]) R5 T5 (fun _ => rfl))
            | succ n2 ih =>
              intro k μ9 hk W9 h12 T9 hlo hhi
              refine x_iload_n C dX2_play_131 rfl 0 rfl ?_
              refine x_aload_n C dX2_play_132 rfl 2 rfl ?_
              refine x_get C fl_X2_43 (r := ro 16 0) rfl (xj_m (by decide) (by decide) rfl) (v := .ref (ad (ro 17 12))) rfl dX2_play_133 ?_
              refine x_iload_n C dX2_play_136 rfl 3 rfl ?_
              refine m_rld C 12 j rfl rfl rfl (show j < 4 by omega) rfl h12 dX2_play_137 ?_
              refine x_icmp_ge (tgt := 171) C dX2_play_138 (by decide) (fun h => absurd ((nI_le_iff (by omega) (by omega)).mp h) (by omega)) (fun _ => ?_)
              refine x_aload_n C dX2_play_141 rfl 2 rfl ?_
              refine x_get C fl_X2_46 (r := ro 16 0) rfl (xj_m (by decide) (by decide) rfl) (v := .ref (ad (ro 17 13))) rfl dX2_play_142 ?_
              refine x_bipush (v := 8) C dX2_play_145 (by decide) ?_
              refine x_iload_n C dX2_play_147 rfl 3 rfl ?_
              refine x_imul C dX2_play_148 ?_
              refine x_iload_n C dX2_play_149 rfl 0 rfl ?_
              refine x_iadd C dX2_play_150 ?_
              refine x_top (y := nI (8 * j + k)) (nI_at8) ?_
              refine x_aload_n C dX2_play_151 rfl 2 rfl ?_
              refine x_get C fl_X2_46 (r := ro 16 0) rfl (xj_m (by decide) (by decide) rfl) (v := .ref (ad (ro 17 13))) rfl dX2_play_152 ?_
              refine x_bipush (v := 8) C dX2_play_155 (by decide) ?_
              refine x_iload_n C dX2_play_157 rfl 3 rfl ?_
              refine x_imul C dX2_play_158 ?_
              refine x_iload_n C dX2_play_159 rfl 0 rfl ?_
              refine x_iadd C dX2_play_160 ?_
              refine x_top (y := nI (8 * j + k)) (nI_at8) ?_
              refine x_iconst (v := 1) C dX2_play_161 (by decide) ?_
              refine x_iadd C dX2_play_162 ?_
              refine x_top (y := nI (8 * j + (k + 1))) (nI_add _ 1) ?_
              refine m_rld C 13 (8 * j + (k + 1)) rfl rfl rfl (show _ < 32 by omega) rfl (hhi (k + 1) (by omega) (by omega)) dX2_play_163 ?_
              refine m_rst C 13 (8 * j + k) rfl rfl rfl (show _ < 32 by omega) rfl dX2_play_164 ?_
              refine x_iinc (k := 0) (v := nI (k + 1)) (lv' := [(3, .int (nI (k + 1))), (2, .int (nI (10 * j + s))), (0, .ref (ad (ro 16 0))), (1, .int (nI j))]) C dX2_play_165 rfl (nI_1 k) (by decide) rfl ?_
              refine x_goto (tgt := 131) C dX2_play_168 (by decide) ?_
              refine ih (k + 1) _ (by omega) (W9.q (by omega)) ((xup_n (by omega)).trans h12) ((xup_n (by omega)).trans T9) (fun i hi => ?_) (fun i hi hi2 => ?_)
              · by_cases e : i = k
                · subst e; exact xup_s
                · exact (xup_n (by omega)).trans (hlo i (by omega))
              · exact (xup_n (by omega)).trans (hhi i (by omega) hi2)
          refine x_lv (lv' := [(3, .int 0), (2, .int (nI (10 * j + s))), (0, .ref (ad (ro 16 0))), (1, .int (nI j))]) [0, 1, 2, 3] rfl ?_
          exact loop (κ (10 + j) - 1) 0 _ (by omega) W0 xup_s ((xup_n (by omega)).trans T4) (fun i hi => absurd hi (Nat.not_lt_zero _)) (fun i _ hi => (xup_n (by omega)).trans (R4.2.2.2.2.2 j i (by omega) hi (by omega)))
        · refine x_aload_n C dX2_play_94 rfl 0 rfl ?_
          refine x_get C fl_X2_58 (r := ro 16 0) rfl (xj_m (by decide) (by decide) rfl) (v := .ref (ad (ro 17 17))) rfl dX2_play_95 ?_
          refine x_iload_n C dX2_play_98 rfl 1 rfl ?_
          refine x_iconst (v := 1) C dX2_play_99 (by decide) ?_
          refine m_zst C R4 T4 (f := 17) (f' := 14) (i := j) (by decide) rfl rfl rfl (show j < 4 by omega) (by decide) rfl dX2_play_100 (fun μ5 R5 T5 => ?_)
          refine x_bipush (v := 106) C dX2_play_101 (by decide) ?_
          exact x_zret C rfl dX2_play_103 (Nat.le_of_ble_eq_true rfl) (Nat.le_of_ble_eq_true rfl) (rP_of (by unfold oPlay; rw [if_pos c1, tj]; rw [if_pos c2, if_pos hn]; unfold oPlay1; exact if_pos (Int32.not_le.mp c4)) R5 T5 (fun _ => rfl))
  · refine x_iconst (v := 1) C dX2_play_6 (by decide) ?_
    refine m_no0 (p := 1) C R (Nat.le_of_ble_eq_true rfl) ⟨Nat.le_of_ble_eq_true rfl, Nat.le_of_ble_eq_true rfl⟩ ⟨Nat.le_of_ble_eq_true rfl, Nat.le_of_ble_eq_true rfl⟩ dX2_play_7 (fun μ1 R1 T1 => ?_)
    refine x_if_ne (tgt := 57) C dX2_play_10 (by decide) (fun _ => ?_) (fun h => absurd h (by decide))
    refine x_bipush (v := 45) C dX2_play_57 (by decide) ?_
    exact x_zret C rfl dX2_play_59 (Nat.le_of_ble_eq_true rfl) (Nat.le_of_ble_eq_true rfl) (rP_of (if_neg c1) R1 T1 (fun h => absurd h (by decide)))
