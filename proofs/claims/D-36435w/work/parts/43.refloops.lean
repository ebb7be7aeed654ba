/-! ===== THE REFERENCE: pass, mostAsked, least ===== -/
/-- a week's guests, slot after slot -/
def sQn (σ : xSg) : Nat → xSg
  | 0 => σ
  | k + 1 => if sQn σ k 14 (k / 10) 0 = 0 then sG1 (sQn σ k) (k / 10) (k % 10) else sQn σ k
theorem sQn_s {σ : xSg} {j s : Nat} (hs : s < 10) : sQn σ (10 * j + s + 1) = if sQn σ (10 * j + s) 14 j 0 = 0 then sG1 (sQn σ (10 * j + s)) j s else sQn σ (10 * j + s) := by
  show (if sQn σ (10 * j + s) 14 ((10 * j + s) / 10) 0 = 0 then sG1 (sQn σ (10 * j + s)) ((10 * j + s) / 10) ((10 * j + s) % 10) else sQn σ (10 * j + s)) = _
  rw [show (10 * j + s) / 10 = j by omega, show (10 * j + s) % 10 = s by omega]
theorem sQn_n {σ : xSg} {f i s : Nat} (h : f ≠ 3 ∧ f ≠ 9 ∧ f ≠ 10 ∧ f ≠ 11 ∧ f ≠ 18) : ∀ k, sQn σ k f i s = σ f i s
  | 0 => rfl
  | k + 1 => by
    show (if sQn σ k 14 (k / 10) 0 = 0 then sG1 (sQn σ k) (k / 10) (k % 10) else sQn σ k) f i s = _
    split
    · exact (sG1_n h).trans (sQn_n h k)
    · exact sQn_n h k
/-- the same but for the flags of visits -/
def xE15 (σ τ : xSg) : Prop := ∀ f i k, f ≠ 15 → σ f i k = τ f i k
theorem xE15.g {σ τ : xSg} {j k : Nat} (h : xE15 σ τ) : xE15 (sG1 σ j k) (sG1 τ j k) := by
  intro f i k' hf
  have eD : ∀ d, sDp σ d (σ 6 j 0) = sDp τ d (τ 6 j 0) := fun d => by unfold sDp; rw [h 0 d 0 (by decide), h 1 d 0 (by decide), h 2 d 0 (by decide), h 3 d 0 (by decide), h 4 d 0 (by decide), h 21 0 0 (by decide), h 6 j 0 (by decide)]
  unfold sG1
  rw [h 17 j k (by decide)]
  by_cases c : τ 17 j k = -1
  · rw [if_pos c, if_pos c]; exact h f i k' hf
  · rw [if_neg c, if_neg c, h 3 _ 0 (by decide)]
    by_cases c2 : τ 3 (τ 17 j k).toNatClampNeg 0 < 60
    · rw [if_pos c2, if_pos c2, eD]
      unfold sPlays xup
      simp only [h 9 j 0 (by decide), h 18 j k (by decide), h 11 j 0 (by decide), h 3 (τ 17 j k).toNatClampNeg 0 (by decide), h 10 j 0 (by decide), h f i k' hf]
    · rw [if_neg c2, if_neg c2]; exact h f i k' hf
theorem sGn_q {σ τ : xSg} {j : Nat} (h : xE15 σ (sQn τ (10 * j))) (h14 : τ 14 j 0 = 0) : ∀ s, s ≤ 10 → xE15 (sGn σ j s) (sQn τ (10 * j + s))
  | 0, _ => h
  | s + 1, hs => by
    have e : sQn τ (10 * j + (s + 1)) = sG1 (sQn τ (10 * j + s)) j s := (sQn_s (by omega)).trans (if_pos (by rw [sQn_n (by decide)]; exact h14))
    rw [e]
    exact (sGn_q h h14 s (by omega)).g
theorem sQn_j {τ : xSg} {j : Nat} (h14 : ¬ τ 14 j 0 = 0) : ∀ s, s ≤ 10 → sQn τ (10 * j + s) = sQn τ (10 * j)
  | 0, _ => rfl
  | s + 1, hs => by
    rw [show 10 * j + (s + 1) = 10 * j + s + 1 from rfl, sQn_s (by omega), if_neg (by rw [sQn_n (by decide)]; exact h14)]
    exact sQn_j h14 s (by omega)
theorem sPn_q {σ : xSg} : ∀ j, xE15 (sPn σ j) (sQn σ (10 * j)) ∧ ∀ i, sPn σ j 15 i 0 = if i < j then 0 else σ 15 i 0
  | 0 => ⟨fun _ _ _ _ => rfl, fun i => by rw [if_neg (Nat.not_lt_zero _)]; rfl⟩
  | j + 1 => by
    obtain ⟨h1, h2⟩ := sPn_q (σ := σ) j
    have e14 : sPn σ j 14 j 0 = σ 14 j 0 := sPn_n (by decide) j
    refine ⟨fun f i k hf => ?_, fun i => ?_⟩
    · show xup (if sPn σ j 14 j 0 = 0 then sGn (sPn σ j) j 10 else sPn σ j) 15 j 0 0 f i k = _
      rw [xup_n (by omega), e14, show 10 * (j + 1) = 10 * j + 10 by omega]
      by_cases c : σ 14 j 0 = 0
      · rw [if_pos c]; exact sGn_q h1 c 10 (Nat.le_refl _) f i k hf
      · rw [if_neg c, sQn_j c 10 (Nat.le_refl _)]; exact h1 f i k hf
    · show xup (if sPn σ j 14 j 0 = 0 then sGn (sPn σ j) j 10 else sPn σ j) 15 j 0 0 15 i 0 = _
      by_cases ci : i = j
      · subst ci; rw [xup_s, if_pos (by omega)]
      · rw [xup_n (by omega)]
        have e : (if sPn σ j 14 j 0 = 0 then sGn (sPn σ j) j 10 else sPn σ j) 15 i 0 = sPn σ j 15 i 0 := by
          split
          · exact sGn_n (by decide) 10
          · rfl
        rw [e, h2 i]
        by_cases cj : i < j
        · rw [if_pos cj, if_pos (by omega)]
        · rw [if_neg cj, if_neg (by omega)]
theorem xRl_pass {κ : xKp} {σ μ : xSg} {w m : Int32} (h4 : κ 1 ≤ 4) (hz : ∀ j, κ 1 ≤ j → σ 15 j 0 = 0) (R : xRl κ (xup (xup (xup (xup (xup (xup (sQn σ (10 * κ 1)) 21 0 0 w) 22 0 0 m) 15 0 0 0) 15 1 0 0) 15 2 0 0) 15 3 0 0) μ) : xRl κ (xup (xup (sPn σ (κ 1)) 21 0 0 w) 22 0 0 m) μ := by
  obtain ⟨h1, h2, h3, h4', h5, h6⟩ := R
  obtain ⟨e1, e2⟩ := sPn_q (σ := σ) (κ 1)
  have hx : ∀ f i k, f ≠ 15 → xup (xup (xup (xup (xup (xup (sQn σ (10 * κ 1)) 21 0 0 w) 22 0 0 m) 15 0 0 0) 15 1 0 0) 15 2 0 0) 15 3 0 0 f i k = xup (xup (sPn σ (κ 1)) 21 0 0 w) 22 0 0 m f i k := fun f i k hf => by
    rw [xup_n (by omega), xup_n (by omega), xup_n (by omega), xup_n (by omega)]
    by_cases c : f = 22 ∧ i = 0 ∧ k = 0
    · obtain ⟨rfl, rfl, rfl⟩ := c; rw [xup_s, xup_s]
    · rw [xup_n c, xup_n c]
      by_cases d : f = 21 ∧ i = 0 ∧ k = 0
      · obtain ⟨rfl, rfl, rfl⟩ := d; rw [xup_s, xup_s]
      · rw [xup_n d, xup_n d]; exact (e1 f i k hf).symm
  refine ⟨fun p hp i' => ?_, h2, fun j' s' hs' => ?_, fun j' q' hq' => ?_, h5, fun j' k' hj' hk' hk8' => ?_⟩
  · rw [h1 p hp i']
    by_cases c : p.2 = 15
    · rw [c, xup_n (f := 22) (by omega), xup_n (f := 21) (by omega), e2]
      rcases (show i' = 0 ∨ i' = 1 ∨ i' = 2 ∨ i' = 3 ∨ 4 ≤ i' by omega) with rfl | rfl | rfl | rfl | h
      · rw [xup_n (by omega), xup_n (by omega), xup_n (by omega), xup_s]; split
        · rfl
        · exact (hz _ (by omega)).symm
      · rw [xup_n (by omega), xup_n (by omega), xup_s]; split
        · rfl
        · exact (hz _ (by omega)).symm
      · rw [xup_n (by omega), xup_s]; split
        · rfl
        · exact (hz _ (by omega)).symm
      · rw [xup_s]; split
        · rfl
        · exact (hz _ (by omega)).symm
      · rw [xup_n (by omega), xup_n (by omega), xup_n (by omega), xup_n (by omega), xup_n (by omega), xup_n (by omega), sQn_n (by decide), if_neg (by omega)]
    · exact hx _ _ _ c
  · rw [← hx _ _ _ (by decide), ← hx _ _ _ (by decide)]; exact h3 j' s' hs'
  · rw [← hx _ _ _ (by decide)]; exact h4' j' q' hq'
  · rw [← hx _ _ _ (by decide)]; exact h6 j' k' hj' hk' hk8'
def oPass (κ : xKp) (σ : xSg) : xO := if σ 21 0 0 < 99 then (0, σ 21 0 0 + 1, κ, xup (xup (sPn σ (κ 1)) 21 0 0 (σ 21 0 0 + 1)) 22 0 0 600) else (1, 0, κ, σ)
/-! least and most: the same from above -/
def sMr (v : Nat → Int32) : Nat → Nat
  | 0 => 0
  | n + 1 => if v (sMr v n) ≤ v (99 - n) then 99 - n else sMr v n
theorem sMr_inv {v : Nat → Int32} : ∀ n, n ≤ 100 → v 0 ≤ v (sMr v n) ∧ (∀ i, 100 - n ≤ i → i < 100 → v i ≤ v (sMr v n)) ∧ (sMr v n = 0 ∨ (100 - n ≤ sMr v n ∧ sMr v n < 100 ∧ ∀ i, 100 - n ≤ i → i < sMr v n → v i < v (sMr v n)))
  | 0, _ => ⟨Int32.le_refl _, fun i h1 h2 => by omega, Or.inl rfl⟩
  | n + 1, hn => by
    obtain ⟨h1, h2, h3⟩ := sMr_inv (v := v) n (by omega)
    simp only [Int32.le_iff_toInt_le, Int32.lt_iff_toInt_lt] at *
    have ed : sMr v (n + 1) = if v (sMr v n) ≤ v (99 - n) then 99 - n else sMr v n := rfl
    by_cases c : v (sMr v n) ≤ v (99 - n)
    · rw [if_pos c] at ed
      rw [Int32.le_iff_toInt_le] at c
      rw [ed]
      refine ⟨by omega, fun i hi hi2 => ?_, Or.inr ⟨by omega, by omega, fun i hi hi2 => by omega⟩⟩
      by_cases e : i = 99 - n
      · subst e; omega
      · have := h2 i (by omega) hi2; omega
    · rw [if_neg c] at ed
      rw [Int32.le_iff_toInt_le] at c
      rw [ed]
      refine ⟨h1, fun i hi hi2 => ?_, h3.imp id (fun ⟨a, b, d⟩ => ⟨by omega, b, fun i hi hi2 => ?_⟩)⟩
      · by_cases e : i = 99 - n
        · subst e; omega
        · exact h2 i (by omega) hi2
      · by_cases e : i = 99 - n
        · subst e; omega
        · exact d i (by omega) hi2
theorem sMo_inv {σ : xSg} {j : Nat} : ∀ n, (∀ i, i < n → σ 19 j i ≤ σ 19 j (sMo σ j n)) ∧ ∀ i, i < sMo σ j n → σ 19 j i < σ 19 j (sMo σ j n)
  | 0 => ⟨fun i h => by omega, fun i h => absurd h (Nat.not_lt_zero _)⟩
  | n + 1 => by
    obtain ⟨h1, h2⟩ := sMo_inv (σ := σ) (j := j) n
    simp only [Int32.le_iff_toInt_le, Int32.lt_iff_toInt_lt] at *
    have ed : sMo σ j (n + 1) = if σ 19 j (sMo σ j n) < σ 19 j n then n else sMo σ j n := rfl
    by_cases c : σ 19 j (sMo σ j n) < σ 19 j n
    · rw [if_pos c] at ed
      rw [Int32.lt_iff_toInt_lt] at c
      rw [ed]
      refine ⟨fun i hi => ?_, fun i hi => ?_⟩
      · by_cases e : i = n
        · subst e; omega
        · have := h1 i (by omega); omega
      · have := h1 i hi; omega
    · rw [if_neg c] at ed
      rw [Int32.lt_iff_toInt_lt] at c
      rw [ed]
      refine ⟨fun i hi => ?_, h2⟩
      by_cases e : i = n
      · subst e; omega
      · exact h1 i (by omega)
theorem sMr_eq {σ : xSg} {j : Nat} : sMr (fun q => σ 19 j q) 100 = sMo σ j 100 := by
  obtain ⟨a1, a2, a3⟩ := sMr_inv (v := fun q => σ 19 j q) 100 (Nat.le_refl _)
  obtain ⟨b1, b2⟩ := sMo_inv (σ := σ) (j := j) 100
  have hm := sMo_lt (σ := σ) (j := j) 100 (Nat.le_refl _)
  simp only [Int32.le_iff_toInt_le, Int32.lt_iff_toInt_lt] at *
  generalize sMr (fun q => σ 19 j q) 100 = r at *
  generalize sMo σ j 100 = m at *
  have hr : r < 100 := by rcases a3 with h | h <;> omega
  rcases Nat.lt_trichotomy r m with h | h | h
  · have x1 := b2 r h
    have x2 := a2 m (by omega) hm
    omega
  · exact h
  · rcases a3 with e | ⟨-, -, d⟩
    · omega
    · have x1 := d m (by omega) h
      have x2 := b1 r hr
      omega
theorem sMr_lt {v : Nat → Int32} {n : Nat} (h : n ≤ 100) : sMr v n < 100 := by
  rcases (sMr_inv (v := v) n h).2.2 with e | e <;> omega
def oMost (κ : xKp) (σ : xSg) (b : Int32) : xO := if xIx b (κ 1) then (if 0 < σ 19 b.toNatClampNeg (sMo σ b.toNatClampNeg 100) then (0, nI (sMo σ b.toNatClampNeg 100), κ, σ) else (2, 0, κ, σ)) else (1, 0, κ, σ)
/-- the slot with a disc and the fewest plays, from above -/
def sLr (σ : xSg) (j : Nat) : Nat → Option Nat
  | 0 => none
  | n + 1 => if ¬ σ 17 j (9 - n) = -1 ∧ (∀ b, sLr σ j n = some b → σ 18 j (9 - n) ≤ σ 18 j b) then some (9 - n) else sLr σ j n
/-- b is the first of the least among the filled of [lo, hi) -/
def xLst (σ : xSg) (j lo hi : Nat) : Option Nat → Prop
  | none => ∀ i, lo ≤ i → i < hi → σ 17 j i = -1
  | some b => lo ≤ b ∧ b < hi ∧ ¬ σ 17 j b = -1 ∧ (∀ i, lo ≤ i → i < hi → σ 17 j i = -1 ∨ σ 18 j b ≤ σ 18 j i) ∧ ∀ i, lo ≤ i → i < b → σ 17 j i = -1 ∨ σ 18 j b < σ 18 j i
theorem sLe_inv {σ : xSg} {j : Nat} : ∀ n, xLst σ j 0 n (sLe σ j n)
  | 0 => fun i _ h => absurd h (Nat.not_lt_zero _)
  | n + 1 => by
    have ih := sLe_inv (σ := σ) (j := j) n
    have ed : sLe σ j (n + 1) = if ¬ σ 17 j n = -1 ∧ (∀ b, sLe σ j n = some b → σ 18 j n < σ 18 j b) then some n else sLe σ j n := rfl
    by_cases c : ¬ σ 17 j n = -1 ∧ (∀ b, sLe σ j n = some b → σ 18 j n < σ 18 j b)
    · rw [if_pos c] at ed
      rw [ed]
      cases e : sLe σ j n with
      | none =>
        rw [e] at ih
        refine ⟨Nat.zero_le _, by omega, c.1, fun i _ hi => ?_, fun i h0 hi => Or.inl (ih i h0 hi)⟩
        by_cases e2 : i = n
        · subst e2; exact Or.inr (Int32.le_refl _)
        · exact Or.inl (ih i (Nat.zero_le _) (by omega))
      | some b =>
        rw [e] at ih
        obtain ⟨-, hb, hb2, h1, h2⟩ := ih
        have c2 := c.2 b e
        rw [Int32.lt_iff_toInt_lt] at c2
        refine ⟨Nat.zero_le _, by omega, c.1, fun i _ hi => ?_, fun i h0 hi => ?_⟩
        · by_cases e2 : i = n
          · subst e2; exact Or.inr (Int32.le_refl _)
          · refine (h1 i (Nat.zero_le _) (by omega)).imp id (fun h => ?_)
            rw [Int32.le_iff_toInt_le] at *; omega
        · refine (h1 i h0 hi).imp id (fun h => ?_)
          rw [Int32.le_iff_toInt_le] at h; rw [Int32.lt_iff_toInt_lt]; omega
    · rw [if_neg c] at ed
      rw [ed]
      cases e : sLe σ j n with
      | none =>
        rw [e] at ih
        intro i h0 hi
        by_cases e2 : i = n
        · subst e2
          exact Decidable.byContradiction fun h => c ⟨h, fun b hb => by rw [e] at hb; cases hb⟩
        · exact ih i h0 (by omega)
      | some b =>
        rw [e] at ih
        obtain ⟨-, hb, hb2, h1, h2⟩ := ih
        refine ⟨Nat.zero_le _, by omega, hb2, fun i h0 hi => ?_, h2⟩
        by_cases e2 : i = n
        · subst e2
          by_cases e3 : σ 17 j i = -1
          · exact Or.inl e3
          · refine Or.inr (Int32.not_lt.mp fun h => c ⟨e3, fun b' hb' => ?_⟩)
            rw [e] at hb'; cases hb'; exact h
        · exact h1 i h0 (by omega)
theorem sLr_inv {σ : xSg} {j : Nat} : ∀ n, n ≤ 10 → xLst σ j (10 - n) 10 (sLr σ j n)
  | 0, _ => fun i h1 h2 => by omega
  | n + 1, hn => by
    have ih := sLr_inv (σ := σ) (j := j) n (by omega)
    have ed : sLr σ j (n + 1) = if ¬ σ 17 j (9 - n) = -1 ∧ (∀ b, sLr σ j n = some b → σ 18 j (9 - n) ≤ σ 18 j b) then some (9 - n) else sLr σ j n := rfl
    by_cases c : ¬ σ 17 j (9 - n) = -1 ∧ (∀ b, sLr σ j n = some b → σ 18 j (9 - n) ≤ σ 18 j b)
    · rw [if_pos c] at ed
      rw [ed]
      refine ⟨by omega, by omega, c.1, fun i hi hi2 => ?_, fun i hi hi2 => by omega⟩
      by_cases e2 : i = 9 - n
      · subst e2; exact Or.inr (Int32.le_refl _)
      · cases e : sLr σ j n with
        | none => rw [e] at ih; exact Or.inl (ih i (by omega) hi2)
        | some b =>
          rw [e] at ih
          obtain ⟨-, hb, hb2, h1, h2⟩ := ih
          have c2 := c.2 b e
          refine (h1 i (by omega) hi2).imp id (fun h => Int32.le_trans c2 h)
    · rw [if_neg c] at ed
      rw [ed]
      cases e : sLr σ j n with
      | none =>
        rw [e] at ih
        intro i h0 hi
        by_cases e2 : i = 9 - n
        · subst e2
          exact Decidable.byContradiction fun h => c ⟨h, fun b hb => by rw [e] at hb; cases hb⟩
        · exact ih i (by omega) hi
      | some b =>
        rw [e] at ih
        obtain ⟨hb0, hb, hb2, h1, h2⟩ := ih
        have key : σ 17 j (9 - n) = -1 ∨ σ 18 j b < σ 18 j (9 - n) := by
          by_cases e3 : σ 17 j (9 - n) = -1
          · exact Or.inl e3
          · refine Or.inr (Int32.not_le.mp fun h => c ⟨e3, fun b' hb' => ?_⟩)
            rw [e] at hb'; cases hb'; exact h
        refine ⟨by omega, hb, hb2, fun i h0 hi => ?_, fun i h0 hi => ?_⟩
        · by_cases e2 : i = 9 - n
          · subst e2; exact key.imp id Int32.le_of_lt
          · exact h1 i (by omega) hi
        · by_cases e2 : i = 9 - n
          · subst e2; exact key
          · exact h2 i (by omega) hi
theorem sLr_eq {σ : xSg} {j : Nat} : sLr σ j 10 = sLe σ j 10 := by
  have a := sLr_inv (σ := σ) (j := j) 10 (Nat.le_refl _)
  have b := sLe_inv (σ := σ) (j := j) 10
  cases e1 : sLr σ j 10 with
  | none =>
    cases e2 : sLe σ j 10 with
    | none => rfl
    | some m => rw [e1] at a; rw [e2] at b; exact absurd (a m (by omega) b.2.1) b.2.2.1
  | some r =>
    cases e2 : sLe σ j 10 with
    | none => rw [e1] at a; rw [e2] at b; exact absurd (b r (by omega) a.2.1) a.2.2.1
    | some m =>
      rw [e1] at a; rw [e2] at b
      obtain ⟨-, a1, a2, a3, a4⟩ := a
      obtain ⟨-, b1, b2, b3, b4⟩ := b
      rcases Nat.lt_trichotomy r m with h | h | h
      · have x1 := (b4 r (Nat.zero_le _) h).resolve_left a2
        have x2 := (a3 m (by omega) b1).resolve_left b2
        exact absurd x2 (Int32.not_le.mpr x1)
      · rw [h]
      · have x1 := (a4 m (by omega) h).resolve_left b2
        have x2 := (b3 r (Nat.zero_le _) a1).resolve_left a2
        exact absurd x2 (Int32.not_le.mpr x1)
def oLeast (κ : xKp) (σ : xSg) (b : Int32) : xO := if xIx b (κ 1) then (match sLe σ b.toNatClampNeg 10 with | some s => (0, nI s, κ, σ) | none => (2, 0, κ, σ)) else (1, 0, κ, σ)
theorem nI_neg1 {k : Nat} : nI (k + 1) + (-1) = nI k := by
  rw [← nI_add, Int32.add_assoc]
  exact Int32.add_zero _
set_option maxHeartbeats 4000000 in
theorem k2_pass {G : xG} {ad : Nat → Nat} {κ : xKp} {σ μ : xSg} {c t : xK} (hI : xIk κ) (R : xRl κ σ μ) (hW : xIw κ σ) (hz : ∀ j, κ 1 ≤ j → σ 15 j 0 = 0) : xM G yX2_pass (ws_ yX2_pass cX2_pass 4 (some Jvm.ClassFile.FieldType.int)) 8 300 0 0 [.ref (ad (ro 16 0))] ad (xj c (xkM G.2.2.1 ad μ) t) (rP G ad c t (oPass κ σ)) xN := by
  refine xM_of (cc := cX2_pass) (by decide) rfl (fun F hF C => ?_)
  subst hF
  have h30 := hI.2.2.2.2.1
  have h14 := hI.2.2.2.2.2
  have T : μ 29 0 0 = μ 29 0 0 := rfl
  show xX F _ _ _ 0 0 0 [(0, .ref (ad (ro 16 0)))] []
  refine x_aload_n C dX2_pass_0 rfl 0 rfl ?_
  refine x_aload_n C dX2_pass_1 rfl 0 rfl ?_
  refine x_get C fl_X2_109 (r := ro 16 0) rfl (xj_m (by decide) (by decide) rfl) (v := .int (μ 26 0 0)) rfl dX2_pass_2 ?_
  refine x_top (y := σ 21 0 0) (R.1 (26, 21) (by decide) 0) ?_
  refine x_bipush (v := 99) C dX2_pass_5 (by decide) ?_
  refine x_icmp_ge (tgt := 14) C dX2_pass_7 (by decide) (fun c1 => ?_) (fun c1 => ?_)
  · refine x_iconst (v := 0) C dX2_pass_14 (by decide) ?_
    refine x_iconst (v := 1) C dX2_pass_15 (by decide) ?_
    refine m_no0 (p := 1) C R (Nat.le_of_ble_eq_true rfl) ⟨Nat.le_of_ble_eq_true rfl, Nat.le_of_ble_eq_true rfl⟩ ⟨Nat.le_of_ble_eq_true rfl, Nat.le_of_ble_eq_true rfl⟩ dX2_pass_16 (fun μ1 R1 T1 => ?_)
    refine x_if_eq (tgt := 24) C dX2_pass_19 (by decide) (fun h => absurd h (by decide)) (fun _ => ?_)
    refine x_iconst (v := 0) C dX2_pass_22 (by decide) ?_
    exact x_iret C dX2_pass_23 (Nat.le_of_ble_eq_true rfl) (Nat.le_of_ble_eq_true rfl) (rP_of (if_neg (Int32.not_lt.mpr c1)) R1 T1 (fun _ => rfl))
  · refine x_iconst (v := 1) C dX2_pass_10 (by decide) ?_
    refine x_goto (tgt := 15) C dX2_pass_11 (by decide) ?_
    refine x_iconst (v := 1) C dX2_pass_15 (by decide) ?_
    refine m_no1 (p := 1) C R (Nat.le_of_ble_eq_true rfl) ⟨Nat.le_of_ble_eq_true rfl, Nat.le_of_ble_eq_true rfl⟩ ⟨Nat.le_of_ble_eq_true rfl, Nat.le_of_ble_eq_true rfl⟩ dX2_pass_16 (fun μ1 R1 T1 => ?_)
    refine x_if_eq (tgt := 24) C dX2_pass_19 (by decide) (fun _ => ?_) (fun h => absurd (by decide) h)
    refine x_iconst (v := 0) C dX2_pass_24 (by decide) ?_
    refine x_istore_n (lv' := [(1, .int 0), (0, .ref (ad (ro 16 0)))]) C dX2_pass_25 rfl (by decide) rfl ?_
    have hS := hW.s
    have loop : ∀ (n2 k : Nat) (μ9 : xSg), k + n2 = 10 * κ 1 → xRl κ (sQn σ k) μ9 → μ9 29 0 0 = 0 → xX F (xQ F (rP F.1 ad c t (oPass κ σ)) xN 0 0) ad (xj c (xkM F.1.2.2.1 ad μ9) t) 0 0 26 [(1, .int (nI k)), (0, .ref (ad (ro 16 0)))] [] := by
      intro n2
      induction n2 with
      | zero =>
        intro k μ9 hk R9 T9
        obtain rfl : k = 10 * κ 1 := by omega
        refine x_iload_n C dX2_pass_26 rfl 0 rfl ?_
        refine x_bipush (v := 10) C dX2_pass_27 (by decide) ?_
        refine x_aload_n C dX2_pass_29 rfl 1 rfl ?_
        refine x_get C fl_X2_97 (r := ro 16 0) rfl (xj_m (by decide) (by decide) rfl) (v := .int (μ9 19 0 0)) rfl dX2_pass_30 ?_
        refine x_top (y := nI (κ 1)) R9.2.1.2 ?_
        refine x_imul C dX2_pass_33 ?_
        refine x_top (y := nI (10 * κ 1)) (pk_mul 10 (κ 1)) ?_
        refine x_icmp_ge (tgt := 122) C dX2_pass_34 (by decide) (fun _ => ?_) (fun h => absurd (Int32.le_refl _) h)
        refine x_aload_n C dX2_pass_122 rfl 1 rfl ?_
        refine x_dup C dX2_pass_123 rfl ?_
        refine x_get C fl_X2_109 (r := ro 16 0) rfl (xj_m (by decide) (by decide) rfl) (v := .int (μ9 26 0 0)) rfl dX2_pass_124 ?_
        refine x_top (y := (sQn σ (10 * κ 1)) 21 0 0) (R9.1 (26, 21) (by decide) 0) ?_
        refine x_top (y := σ 21 0 0) (sQn_n (by decide) _) ?_
        refine x_iconst (v := 1) C dX2_pass_127 (by decide) ?_
        refine x_iadd C dX2_pass_128 ?_
        refine x_put C fl_X2_109 (r := ro 16 0) rfl (xj_m (by decide) (by decide) rfl) rfl rfl (Nat.le_of_ble_eq_true rfl) dX2_pass_129 ?_
        refine m_put (f := 26) (f' := 21) (by decide) (by decide) pm_26 R9 T9 (fun μ2 R2 T2 => ?_)
        refine x_aload_n C dX2_pass_132 rfl 1 rfl ?_
        refine x_sipush (v := 600) C dX2_pass_133 (by decide) ?_
        refine x_put C fl_X2_84 (r := ro 16 0) rfl (xj_m (by decide) (by decide) rfl) rfl rfl (Nat.le_of_ble_eq_true rfl) dX2_pass_136 ?_
        refine m_put (f := 27) (f' := 22) (by decide) (by decide) pm_27 R2 T2 (fun μ3 R3 T3 => ?_)
        refine x_iconst (v := 0) C dX2_pass_139 (by decide) ?_
        refine x_istore_n (lv' := [(1, .int 0), (0, .ref (ad (ro 16 0)))]) C dX2_pass_140 rfl (by decide) rfl ?_
        refine x_lv (lv' := [(1, .int (nI 0)), (0, .ref (ad (ro 16 0)))]) [0, 1] rfl ?_
        refine x_iload_n C dX2_pass_141 rfl 0 rfl ?_
        refine x_iconst (v := 4) C dX2_pass_142 (by decide) ?_
        refine x_icmp_ge (tgt := 159) C dX2_pass_143 (by decide) (fun h => absurd h (by decide)) (fun _ => ?_)
        refine x_aload_n C dX2_pass_146 rfl 1 rfl ?_
        refine x_get C fl_X2_62 (r := ro 16 0) rfl (xj_m (by decide) (by decide) rfl) (v := .ref (ad (ro 17 18))) rfl dX2_pass_147 ?_
        refine x_iload_n C dX2_pass_150 rfl 0 rfl ?_
        refine x_iconst (v := 0) C dX2_pass_151 (by decide) ?_
        refine m_zst C R3 T3 (f := 18) (f' := 15) (i := 0) (by decide) rfl rfl rfl (show 0 < 4 by omega) (by decide) rfl dX2_pass_152 (fun μ4 R4 T4 => ?_)
        refine x_iinc (k := 0) (v := nI 1) (lv' := [(1, .int (nI 1)), (0, .ref (ad (ro 16 0)))]) C dX2_pass_153 rfl (nI_1 0) (by decide) rfl ?_
        refine x_goto (tgt := 141) C dX2_pass_156 (by decide) ?_
        refine x_iload_n C dX2_pass_141 rfl 0 rfl ?_
        refine x_iconst (v := 4) C dX2_pass_142 (by decide) ?_
        refine x_icmp_ge (tgt := 159) C dX2_pass_143 (by decide) (fun h => absurd h (by decide)) (fun _ => ?_)
        refine x_aload_n C dX2_pass_146 rfl 1 rfl ?_
        refine x_get C fl_X2_62 (r := ro 16 0) rfl (xj_m (by decide) (by decide) rfl) (v := .ref (ad (ro 17 18))) rfl dX2_pass_147 ?_
        refine x_iload_n C dX2_pass_150 rfl 0 rfl ?_
        refine x_iconst (v := 0) C dX2_pass_151 (by decide) ?_
        refine m_zst C R4 T4 (f := 18) (f' := 15) (i := 1) (by decide) rfl rfl rfl (show 1 < 4 by omega) (by decide) rfl dX2_pass_152 (fun μ5 R5 T5 => ?_)
        refine x_iinc (k := 0) (v := nI 2) (lv' := [(1, .int (nI 2)), (0, .ref (ad (ro 16 0)))]) C dX2_pass_153 rfl (nI_1 1) (by decide) rfl ?_
        refine x_goto (tgt := 141) C dX2_pass_156 (by decide) ?_
        refine x_iload_n C dX2_pass_141 rfl 0 rfl ?_
        refine x_iconst (v := 4) C dX2_pass_142 (by decide) ?_
        refine x_icmp_ge (tgt := 159) C dX2_pass_143 (by decide) (fun h => absurd h (by decide)) (fun _ => ?_)
        refine x_aload_n C dX2_pass_146 rfl 1 rfl ?_
        refine x_get C fl_X2_62 (r := ro 16 0) rfl (xj_m (by decide) (by decide) rfl) (v := .ref (ad (ro 17 18))) rfl dX2_pass_147 ?_
        refine x_iload_n C dX2_pass_150 rfl 0 rfl ?_
        refine x_iconst (v := 0) C dX2_pass_151 (by decide) ?_
        refine m_zst C R5 T5 (f := 18) (f' := 15) (i := 2) (by decide) rfl rfl rfl (show 2 < 4 by omega) (by decide) rfl dX2_pass_152 (fun μ6 R6 T6 => ?_)
        refine x_iinc (k := 0) (v := nI 3) (lv' := [(1, .int (nI 3)), (0, .ref (ad (ro 16 0)))]) C dX2_pass_153 rfl (nI_1 2) (by decide) rfl ?_
        refine x_goto (tgt := 141) C dX2_pass_156 (by decide) ?_
        refine x_iload_n C dX2_pass_141 rfl 0 rfl ?_
        refine x_iconst (v := 4) C dX2_pass_142 (by decide) ?_
        refine x_icmp_ge (tgt := 159) C dX2_pass_143 (by decide) (fun h => absurd h (by decide)) (fun _ => ?_)
        refine x_aload_n C dX2_pass_146 rfl 1 rfl ?_
        refine x_get C fl_X2_62 (r := ro 16 0) rfl (xj_m (by decide) (by decide) rfl) (v := .ref (ad (ro 17 18))) rfl dX2_pass_147 ?_
        refine x_iload_n C dX2_pass_150 rfl 0 rfl ?_
        refine x_iconst (v := 0) C dX2_pass_151 (by decide) ?_
        refine m_zst C R6 T6 (f := 18) (f' := 15) (i := 3) (by decide) rfl rfl rfl (show 3 < 4 by omega) (by decide) rfl dX2_pass_152 (fun μ7 R7 T7 => ?_)
        refine x_iinc (k := 0) (v := nI 4) (lv' := [(1, .int (nI 4)), (0, .ref (ad (ro 16 0)))]) C dX2_pass_153 rfl (nI_1 3) (by decide) rfl ?_
        refine x_goto (tgt := 141) C dX2_pass_156 (by decide) ?_
        refine x_iload_n C dX2_pass_141 rfl 0 rfl ?_
        refine x_iconst (v := 4) C dX2_pass_142 (by decide) ?_
        refine x_icmp_ge (tgt := 159) C dX2_pass_143 (by decide) (fun _ => ?_) (fun h => absurd (by decide) h)
        refine x_aload_n C dX2_pass_159 rfl 1 rfl ?_
        refine x_get C fl_X2_109 (r := ro 16 0) rfl (xj_m (by decide) (by decide) rfl) (v := .int (μ7 26 0 0)) rfl dX2_pass_160 ?_
        refine x_top (y := (xup (xup (xup (xup (xup (xup (sQn σ (10 * κ 1)) 21 0 0 ((σ 21 0 0) + 1)) 22 0 0 600) 15 0 0 0) 15 1 0 0) 15 2 0 0) 15 3 0 0) 21 0 0) (R7.1 (26, 21) (by decide) 0) ?_
        refine x_top (y := (σ 21 0 0) + 1) (by first | exact xup_s | simp [xup]) ?_
        exact x_iret C dX2_pass_163 (Nat.le_of_ble_eq_true rfl) (Nat.le_of_ble_eq_true rfl) (rP_of (if_pos (Int32.not_le.mp c1)) (xRl_pass h14 hz R7) T7 (fun _ => rfl))
      | succ n2 ih =>
        intro k μ9 hk R9 T9
        obtain ⟨j, s, hs, rfl⟩ : ∃ j s, s < 10 ∧ k = 10 * j + s := ⟨k / 10, k % 10, by omega, by omega⟩
        have hj : j < κ 1 := by omega
        have f17 : ∀ j s, sQn σ (10 * j + s) 17 = σ 17 := fun j s => by funext a b; exact sQn_n (by decide) _
        have es := sQn_s (σ := σ) (j := j) hs
        have g17 : ∀ a b, sQn σ (10 * j + s) 17 a b = σ 17 a b := fun a b => sQn_n (by decide) _
        have IH := ih (10 * j + s + 1)
        rw [es] at IH
        generalize sQn σ (10 * j + s) = σk at *
        have hWk : xIw κ σk := fun a b hb => by rw [g17]; exact hW a b hb
        refine x_iload_n C dX2_pass_26 rfl 0 rfl ?_
        refine x_bipush (v := 10) C dX2_pass_27 (by decide) ?_
        refine x_aload_n C dX2_pass_29 rfl 1 rfl ?_
        refine x_get C fl_X2_97 (r := ro 16 0) rfl (xj_m (by decide) (by decide) rfl) (v := .int (μ9 19 0 0)) rfl dX2_pass_30 ?_
        refine x_top (y := nI (κ 1)) R9.2.1.2 ?_
        refine x_imul C dX2_pass_33 ?_
        refine x_top (y := nI (10 * κ 1)) (pk_mul 10 (κ 1)) ?_
        refine x_icmp_ge (tgt := 122) C dX2_pass_34 (by decide) (fun h => absurd ((nI_le_iff (by omega) (by omega)).mp h) (by omega)) (fun _ => ?_)
        refine x_aload_n C dX2_pass_37 rfl 1 rfl ?_
        refine x_get C fl_X2_58 (r := ro 16 0) rfl (xj_m (by decide) (by decide) rfl) (v := .ref (ad (ro 17 17))) rfl dX2_pass_38 ?_
        refine x_iload_n C dX2_pass_41 rfl 0 rfl ?_
        refine x_bipush (v := 10) C dX2_pass_42 (by decide) ?_
        refine x_idiv C dX2_pass_44 (by decide) ?_
        refine x_top (y := nI j) (nI_div10 (by omega) hs) ?_
        refine m_zld C R9 (f := 17) (f' := 14) (i := j) (by decide) rfl rfl rfl (show j < 4 by omega) (by decide) dX2_pass_45 ?_
        refine x_if_ne (tgt := 62) C dX2_pass_46 (by decide) (fun c2 => ?_) (fun c2 => ?_)
        · refine x_iconst (v := 0) C dX2_pass_62 (by decide) ?_
          refine x_istore_n (lv' := [(2, .int 0), (1, .int (nI (10 * j + s))), (0, .ref (ad (ro 16 0)))]) C dX2_pass_63 rfl (by decide) rfl ?_
          refine x_iload_n C dX2_pass_64 rfl 0 rfl ?_
          refine x_if_eq (tgt := 116) C dX2_pass_65 (by decide) (fun _ => ?_) (fun h => absurd (by decide) h)
          refine x_iinc (k := 1) (v := nI (10 * j + s + 1)) (lv' := [(1, .int (nI (10 * j + s + 1))), (2, .int 0), (0, .ref (ad (ro 16 0)))]) C dX2_pass_116 rfl (nI_1 _) (by decide) rfl ?_
          refine x_goto (tgt := 26) C dX2_pass_119 (by decide) ?_
          refine x_lv (lv' := [(1, .int (nI (10 * j + s + 1))), (0, .ref (ad (ro 16 0)))]) [0, 2] rfl ?_
          exact IH μ9 (by omega) (by rw [if_neg c2]; exact R9) T9
        · refine x_aload_n C dX2_pass_49 rfl 1 rfl ?_
          refine x_get C fl_X2_65 (r := ro 16 0) rfl (xj_m (by decide) (by decide) rfl) (v := .ref (ad (ro 17 20))) rfl dX2_pass_50 ?_
          refine x_iload_n C dX2_pass_53 rfl 0 rfl ?_
          refine m_ld20 C R9 (j := j) (s := s) rfl (by omega) (by omega) dX2_pass_54 ?_
          refine x_if_le (tgt := 62) C dX2_pass_55 (by decide) (fun c3 => ?_) (fun c3 => ?_)
          · refine x_iconst (v := 0) C dX2_pass_62 (by decide) ?_
            refine x_istore_n (lv' := [(2, .int 0), (1, .int (nI (10 * j + s))), (0, .ref (ad (ro 16 0)))]) C dX2_pass_63 rfl (by decide) rfl ?_
            refine x_iload_n C dX2_pass_64 rfl 0 rfl ?_
            refine x_if_eq (tgt := 116) C dX2_pass_65 (by decide) (fun _ => ?_) (fun h => absurd (by decide) h)
            have e17 : σk 17 j s = -1 := by rw [g17]; exact (nI_sl hS h30 hj hs).mp (by rw [← g17]; exact c3)
            refine x_iinc (k := 1) (v := nI (10 * j + s + 1)) (lv' := [(1, .int (nI (10 * j + s + 1))), (2, .int 0), (0, .ref (ad (ro 16 0)))]) C dX2_pass_116 rfl (nI_1 _) (by decide) rfl ?_
            refine x_goto (tgt := 26) C dX2_pass_119 (by decide) ?_
            refine x_lv (lv' := [(1, .int (nI (10 * j + s + 1))), (0, .ref (ad (ro 16 0)))]) [0, 2] rfl ?_
            exact IH μ9 (by omega) (by rw [if_pos c2]; unfold sG1; rw [if_pos e17]; exact R9) T9
          · obtain ⟨d, hd, e17⟩ : ∃ d, d < κ 0 ∧ σk 17 j s = nI d := by rw [g17]; exact (hS j hj s hs).resolve_left (fun e => c3 (by rw [g17, e]; decide))
            have n17 : ¬ σk 17 j s = -1 := by rw [e17]; exact nI_ne1 (by omega)
            refine x_iconst (v := 1) C dX2_pass_58 (by decide) ?_
            refine x_goto (tgt := 63) C dX2_pass_59 (by decide) ?_
            refine x_istore_n (lv' := [(2, .int 1), (1, .int (nI (10 * j + s))), (0, .ref (ad (ro 16 0)))]) C dX2_pass_63 rfl (by decide) rfl ?_
            refine x_iload_n C dX2_pass_64 rfl 0 rfl ?_
            refine x_if_eq (tgt := 116) C dX2_pass_65 (by decide) (fun h => absurd h (by decide)) (fun _ => ?_)
            refine x_aload_n C dX2_pass_68 rfl 2 rfl ?_
            refine x_get C fl_X2_19 (r := ro 16 0) rfl (xj_m (by decide) (by decide) rfl) (v := .ref (ad (ro 17 3))) rfl dX2_pass_69 ?_
            refine x_aload_n C dX2_pass_72 rfl 2 rfl ?_
            refine x_get C fl_X2_65 (r := ro 16 0) rfl (xj_m (by decide) (by decide) rfl) (v := .ref (ad (ro 17 20))) rfl dX2_pass_73 ?_
            refine x_iload_n C dX2_pass_76 rfl 1 rfl ?_
            refine m_ld20 C R9 (j := j) (s := s) rfl (by omega) (by omega) dX2_pass_77 ?_
            refine x_iconst (v := 1) C dX2_pass_78 (by decide) ?_
            refine x_isub C dX2_pass_79 ?_
            refine x_top (y := nI d) (i_asc.trans e17) ?_
            refine m_ld C R9 (f := 3) (f' := 3) (i := d) (by decide) rfl rfl rfl (show d < 30 by omega) (by decide) dX2_pass_80 ?_
            refine x_bipush (v := 60) C dX2_pass_81 (by decide) ?_
            refine x_icmp_ge (tgt := 116) C dX2_pass_83 (by decide) (fun c4 => ?_) (fun c4 => ?_)
            · refine x_iinc (k := 1) (v := nI (10 * j + s + 1)) (lv' := [(1, .int (nI (10 * j + s + 1))), (2, .int 1), (0, .ref (ad (ro 16 0)))]) C dX2_pass_116 rfl (nI_1 _) (by decide) rfl ?_
              refine x_goto (tgt := 26) C dX2_pass_119 (by decide) ?_
              refine x_lv (lv' := [(1, .int (nI (10 * j + s + 1))), (0, .ref (ad (ro 16 0)))]) [0, 2] rfl ?_
              exact IH μ9 (by omega) (by rw [if_pos c2]; unfold sG1; rw [if_neg n17, e17, nI_clamp (by omega), if_neg (Int32.not_lt.mpr c4)]; exact R9) T9
            · refine x_aload_n C dX2_pass_86 rfl 2 rfl ?_
              refine x_iload_n C dX2_pass_87 rfl 1 rfl ?_
              refine x_callV (rest := []) C (k2_pullOfSlot hI R9 hWk (j := j) (s := s) (by omega) hs) cf_X2_131 ⟨rfl, hd_X2_pullOfSlot⟩ ⟨Nat.le_of_ble_eq_true rfl, Nat.le_of_ble_eq_true rfl⟩ (xR_o xci4 rfl (xj_m (by decide) (by decide) rfl)) rfl (Nat.le_of_ble_eq_true rfl) ⟨Nat.le_of_ble_eq_true rfl, Nat.le_of_ble_eq_true rfl⟩ dX2_pass_88 (xPv_i ?_) xN_e
              refine x_top (y := sDp σk d (σk 6 j 0)) (by unfold sPo; rw [if_neg n17, e17, nI_clamp (by omega)]) ?_
              refine x_bipush (v := 8) C dX2_pass_91 (by decide) ?_
              refine x_idiv C dX2_pass_93 (by decide) ?_
              refine x_istore_n (lv' := [(3, .int ((sDp σk d (σk 6 j 0)) / 8)), (2, .int 1), (1, .int (nI (10 * j + s))), (0, .ref (ad (ro 16 0)))]) C dX2_pass_94 rfl (by decide) rfl ?_
              refine x_aload_n C dX2_pass_95 rfl 3 rfl ?_
              refine x_get C fl_X2_37 (r := ro 16 0) rfl (xj_m (by decide) (by decide) rfl) (v := .ref (ad (ro 17 10))) rfl dX2_pass_96 ?_
              refine x_iload_n C dX2_pass_99 rfl 2 rfl ?_
              refine x_bipush (v := 10) C dX2_pass_100 (by decide) ?_
              refine x_idiv C dX2_pass_102 (by decide) ?_
              refine x_top (y := nI j) (nI_div10 (by omega) hs) ?_
              refine x_dup2_11 C dX2_pass_103 rfl rfl ?_
              refine m_ld C R9 (f := 10) (f' := 9) (i := j) (by decide) rfl rfl rfl (show j < 4 by omega) (by decide) dX2_pass_104 ?_
              refine x_iconst (v := 5) C dX2_pass_105 (by decide) ?_
              refine x_iload_n C dX2_pass_106 rfl 0 rfl ?_
              refine x_imul C dX2_pass_107 ?_
              refine x_iadd C dX2_pass_108 ?_
              refine m_st C R9 T9 (f := 10) (f' := 9) (i := j) (by decide) rfl rfl rfl (show j < 4 by omega) (by decide) dX2_pass_109 (fun μ2 R2 T2 => ?_)
              refine x_aload_n C dX2_pass_110 rfl 3 rfl ?_
              refine x_iload_n C dX2_pass_111 rfl 2 rfl ?_
              refine x_iload_n C dX2_pass_112 rfl 0 rfl ?_
              refine x_callV (rest := []) C (k2_wears hI R2 (j := j) (s := s) (d := d) hj hs hd ((xup_n (by omega)).trans e17) (sDp σk d (σk 6 j 0) / 8)) cf_X2_124 ⟨rfl, hd_X2_wears⟩ ⟨Nat.le_of_ble_eq_true rfl, Nat.le_of_ble_eq_true rfl⟩ (xR_o xci4 rfl (xj_m (by decide) (by decide) rfl)) rfl (Nat.le_of_ble_eq_true rfl) ⟨Nat.le_of_ble_eq_true rfl, Nat.le_of_ble_eq_true rfl⟩ dX2_pass_113 (fun v ad' ct' q => ?_) xN_e
              obtain ⟨rfl, e9, μ7, rfl, R7, T7⟩ := q; obtain rfl := e9.symm
              refine x_iinc (k := 2) (v := nI (10 * j + s + 1)) (lv' := [(1, .int (nI (10 * j + s + 1))), (3, .int ((sDp σk d (σk 6 j 0)) / 8)), (2, .int 1), (0, .ref (ad (ro 16 0)))]) C dX2_pass_116 rfl (nI_1 _) (by decide) rfl ?_
              refine x_goto (tgt := 26) C dX2_pass_119 (by decide) ?_
              refine x_lv (lv' := [(1, .int (nI (10 * j + s + 1))), (0, .ref (ad (ro 16 0)))]) [0, 3] rfl ?_
              exact IH μ7 (by omega) (by rw [if_pos c2]; unfold sG1; rw [if_neg n17, e17, nI_clamp (by omega), if_pos (Int32.not_le.mp c4)]; exact R7) (T7.trans T2)
    refine x_lv (lv' := [(1, .int 0), (0, .ref (ad (ro 16 0)))]) [0, 1] rfl ?_
    exact loop (10 * κ 1) 0 μ1 (by omega) R1 T1
