/-! ===== THE REFERENCE: bestWorth ===== -/
/-- e counts those of P below N upwards: n of them -/
def xEn (P : Nat → Prop) (N n : Nat) (e : Nat → Nat) : Prop := (∀ k, k < n → e k < N ∧ P (e k)) ∧ (∀ a b, a < b → b < n → e a < e b) ∧ ∀ d, d < N → P d → ∃ k, k < n ∧ e k = d
theorem xEn.congr {P P' : Nat → Prop} {N n : Nat} {e : Nat → Nat} (h : xEn P N n e) (hp : ∀ d, d < N → (P d ↔ P' d)) : xEn P' N n e :=
  ⟨fun k hk => ⟨(h.1 k hk).1, (hp _ (h.1 k hk).1).mp (h.1 k hk).2⟩, h.2.1, fun d hd hP => h.2.2 d hd ((hp d hd).mpr hP)⟩
theorem xEn.rm {P : Nat → Prop} {N n i : Nat} {e : Nat → Nat} (h : xEn P N n e) (hi : i < n) : xEn (fun d => P d ∧ d ≠ e i) N (n - 1) (sRm e i) := by
  obtain ⟨h1, h2, h3⟩ := h
  have hlt : ∀ a, a < n → a ≠ i → e a ≠ e i := fun a ha hne => by
    rcases Nat.lt_or_ge a i with z | z
    · have := h2 a i z hi; omega
    · have := h2 i a (by omega) ha; omega
  refine ⟨fun k hk => ?_, fun a b hab hb => ?_, fun d hd hP => ?_⟩
  · unfold sRm
    by_cases c : k < i
    · rw [if_pos c]; exact ⟨(h1 k (by omega)).1, (h1 k (by omega)).2, hlt k (by omega) (by omega)⟩
    · rw [if_neg c]; exact ⟨(h1 (k + 1) (by omega)).1, (h1 (k + 1) (by omega)).2, hlt (k + 1) (by omega) (by omega)⟩
  · unfold sRm
    by_cases c : b < i
    · rw [if_pos c, if_pos (by omega)]; exact h2 a b hab (by omega)
    · rw [if_neg c]
      by_cases d : a < i
      · rw [if_pos d]; exact h2 a (b + 1) (by omega) (by omega)
      · rw [if_neg d]; exact h2 (a + 1) (b + 1) (by omega) (by omega)
  · obtain ⟨k, hk, rfl⟩ := h3 d hd hP.1
    have hne : k ≠ i := fun z => hP.2 (by rw [z])
    by_cases c : k < i
    · exact ⟨k, by omega, by unfold sRm; rw [if_pos c]⟩
    · exact ⟨k - 1, by omega, by unfold sRm; rw [if_neg (by omega), show k - 1 + 1 = k by omega]⟩
theorem sRm_map {v p e : Nat → Nat} {n i : Nat} (hi : i < n) (hp : ∀ k, k < n → p k = v (e k)) : ∀ k, k < n - 1 → sRm p i k = v (sRm e i k) := fun k hk => by
  unfold sRm
  by_cases c : k < i
  · rw [if_pos c, if_pos c]; exact hp k (by omega)
  · rw [if_neg c, if_neg c]; exact hp (k + 1) (by omega)
theorem sTh_en {σ : xSg} {ta : Int32} : ∀ c, ∃ e, xEn (fun d => σ 4 d 0 = -1) c (sTh σ ta c).1 e ∧ ∀ k, k < (sTh σ ta c).1 → (sTh σ ta c).2 k = (sDp σ (e k) ta).toNatClampNeg
  | 0 => ⟨fun _ => 0, ⟨fun k hk => absurd hk (Nat.not_lt_zero _), fun a b _ hb => absurd hb (Nat.not_lt_zero _), fun d hd => absurd hd (Nat.not_lt_zero _)⟩, fun k hk => absurd hk (Nat.not_lt_zero _)⟩
  | c + 1 => by
    obtain ⟨e, ⟨h1, h2, h3⟩, h4⟩ := sTh_en (σ := σ) (ta := ta) c
    by_cases c1 : σ 4 c 0 = -1
    · rw [show sTh σ ta (c + 1) = _ from if_pos c1]
      show ∃ e, xEn (fun d => σ 4 d 0 = -1) (c + 1) ((sTh σ ta c).1 + 1) e ∧ ∀ k, k < (sTh σ ta c).1 + 1 → (if k = (sTh σ ta c).1 then (sDp σ c ta).toNatClampNeg else (sTh σ ta c).2 k) = (sDp σ (e k) ta).toNatClampNeg
      generalize (sTh σ ta c).1 = n at *
      generalize (sTh σ ta c).2 = pt at *
      refine ⟨fun k => if k = n then c else e k, ⟨fun k hk => ?_, fun a b hab hb => ?_, fun d hd hP => ?_⟩, fun k hk => ?_⟩
      · show (if k = n then c else e k) < c + 1 ∧ σ 4 (if k = n then c else e k) 0 = -1
        by_cases e1 : k = n
        · rw [if_pos e1]; exact ⟨by omega, c1⟩
        · rw [if_neg e1]; have := h1 k (by omega); exact ⟨by omega, this.2⟩
      · show (if a = n then c else e a) < if b = n then c else e b
        rw [if_neg (show ¬ a = n by omega)]
        by_cases e1 : b = n
        · rw [if_pos e1]; exact (h1 a (by omega)).1
        · rw [if_neg e1]; exact h2 a b hab (by omega)
      · by_cases e1 : d = c
        · exact ⟨n, by omega, by show (if n = n then c else e n) = d; rw [if_pos rfl, e1]⟩
        · obtain ⟨k, hk, e2⟩ := h3 d (by omega) hP
          exact ⟨k, by omega, by show (if k = n then c else e k) = d; rw [if_neg (by omega)]; exact e2⟩
      · show (if k = n then (sDp σ c ta).toNatClampNeg else pt k) = (sDp σ (if k = n then c else e k) ta).toNatClampNeg
        by_cases e1 : k = n
        · rw [if_pos e1, if_pos e1]
        · rw [if_neg e1, if_neg e1]; exact h4 k (by omega)
    · rw [show sTh σ ta (c + 1) = _ from if_neg c1]
      refine ⟨e, ⟨fun k hk => ⟨by have := (h1 k hk).1; omega, (h1 k hk).2⟩, h2, fun d hd hP => ?_⟩, h4⟩
      by_cases e1 : d = c
      · subst e1; exact absurd hP c1
      · exact h3 d (by omega) hP
theorem sBest_0 {ph : Nat → Nat} {pt : Nat → Nat} {nh : Nat} {s : Int32} : ∀ n, sBest n 0 pt nh ph s = s
  | 0 => rfl
  | n + 1 => if_pos rfl
def oBest (κ : xKp) (σ : xSg) (b c : Int32) : xO := if xIx b (κ 1) then (if 0 ≤ c ∧ c ≤ 3 then (0, sBo κ σ b.toNatClampNeg c.toNatClampNeg, κ, σ) else (2, 0, κ, σ)) else (1, 0, κ, σ)
theorem nI_mod10 {k : Nat} (h : k < 30) : nI k - nI k / 10 * 10 = nI (k % 10) := by
  have : ∀ k, k < 30 → nI k - nI k / 10 * 10 = nI (k % 10) := by decide +kernel
  exact this k h
/-- the first with the greatest value among those of P below N -/
def xFstG (P : Nat → Prop) (v : Nat → Nat) (N : Nat) : Option Nat → Prop
  | none => ∀ i, i < N → ¬ P i
  | some b => b < N ∧ P b ∧ (∀ i, i < N → P i → v i ≤ v b) ∧ ∀ i, i < b → P i → v i < v b
def sStG (P : Nat → Prop) [DecidablePred P] (v : Nat → Nat) : Nat → Option Nat
  | 0 => none
  | k + 1 => if P k ∧ (∀ b, sStG P v k = some b → v b < v k) then some k else sStG P v k
theorem sStG_inv {P : Nat → Prop} [DecidablePred P] {v : Nat → Nat} : ∀ n, xFstG P v n (sStG P v n)
  | 0 => fun i h => absurd h (Nat.not_lt_zero _)
  | n + 1 => by
    have ih := sStG_inv (P := P) (v := v) n
    have ed : sStG P v (n + 1) = if P n ∧ (∀ b, sStG P v n = some b → v b < v n) then some n else sStG P v n := rfl
    by_cases c : P n ∧ (∀ b, sStG P v n = some b → v b < v n)
    · rw [if_pos c] at ed
      rw [ed]
      cases e : sStG P v n with
      | none =>
        rw [e] at ih
        refine ⟨Nat.lt_succ_self _, c.1, fun i hi hp => ?_, fun i hi hp => absurd hp (ih i hi)⟩
        by_cases e2 : i = n
        · subst e2; exact Nat.le_refl _
        · exact absurd hp (ih i (by omega))
      | some b =>
        rw [e] at ih
        obtain ⟨hb, hb2, h1, h2⟩ := ih
        have c2 := c.2 b e
        refine ⟨Nat.lt_succ_self _, c.1, fun i hi hp => ?_, fun i hi hp => ?_⟩
        · by_cases e2 : i = n
          · subst e2; exact Nat.le_refl _
          · have := h1 i (by omega) hp; omega
        · have := h1 i hi hp; omega
    · rw [if_neg c] at ed
      rw [ed]
      cases e : sStG P v n with
      | none =>
        rw [e] at ih
        intro i hi hp
        by_cases e2 : i = n
        · subst e2; exact c ⟨hp, fun b hb => by rw [e] at hb; cases hb⟩
        · exact ih i (by omega) hp
      | some b =>
        rw [e] at ih
        obtain ⟨hb, hb2, h1, h2⟩ := ih
        refine ⟨by omega, hb2, fun i hi hp => ?_, h2⟩
        by_cases e2 : i = n
        · subst e2
          refine Nat.not_lt.mp (fun h => c ⟨hp, fun b' hb' => ?_⟩)
          rw [e] at hb'; cases hb'; exact h
        · exact h1 i (by omega) hp
theorem xFstG_eq {P : Nat → Prop} {v : Nat → Nat} {N a b : Nat} (ha : xFstG P v N (some a)) (hb : xFstG P v N (some b)) : a = b := by
  obtain ⟨a1, a2, a3, a4⟩ := ha
  obtain ⟨b1, b2, b3, b4⟩ := hb
  rcases Nat.lt_trichotomy a b with h | h | h
  · have x := b4 a h a2
    have y := a3 b b1 b2
    omega
  · exact h
  · have x := a4 b h b2
    have y := b3 a a1 a2
    omega
theorem sOG_first {p : Nat → Nat} : ∀ n k, k < sOg p n → p k < p (sOg p n)
  | 0, k, h => absurd h (Nat.not_lt_zero _)
  | n + 1, k, h => by
    have ed : sOg p (n + 1) = if p (sOg p n) < p n then n else sOg p n := rfl
    by_cases c : p (sOg p n) < p n
    · rw [if_pos c] at ed
      rw [ed] at h ⊢
      have := sOg_max (p := p) n k h
      omega
    · rw [if_neg c] at ed
      rw [ed] at h ⊢
      exact sOG_first n k h
theorem sOG_congr {p p' : Nat → Nat} : ∀ n, (∀ k, k < n → p k = p' k) → sOg p n = sOg p' n
  | 0, _ => rfl
  | n + 1, h => by
    have ih := sOG_congr (p := p) (p' := p') n (fun k hk => h k (by omega))
    have hb : sOg p n < n + 1 := sOg_lt (Nat.lt_succ_self n)
    show (if p (sOg p n) < p n then n else sOg p n) = if p' (sOg p' n) < p' n then n else sOg p' n
    rw [← ih, h n (by omega), h _ hb]
theorem sStG_en {P : Nat → Prop} [DecidablePred P] {v p : Nat → Nat} {N n : Nat} {e : Nat → Nat} (h : xEn P N n e) (hp : ∀ k, k < n → p k = v (e k)) : sStG P v N = if n = 0 then none else some (e (sOg p n)) := by
  have hinv := sStG_inv (P := P) (v := v) N
  obtain ⟨h1, h2, h3⟩ := h
  by_cases c : n = 0
  · rw [if_pos c]
    cases e9 : sStG P v N with
    | none => rfl
    | some b =>
      rw [e9] at hinv
      obtain ⟨k, hk, -⟩ := h3 b hinv.1 hinv.2.1
      omega
  · rw [if_neg c]
    have hm := sOg_n (p := p) (show 0 < n by omega)
    have hw : xFstG P v N (some (e (sOg p n))) := by
      refine ⟨(h1 _ hm).1, (h1 _ hm).2, fun i hi hP => ?_, fun i hi hP => ?_⟩
      · obtain ⟨k, hk, rfl⟩ := h3 i hi hP
        rw [← hp k hk, ← hp _ hm]
        exact sOg_max n k hk
      · obtain ⟨k, hk, rfl⟩ := h3 i (by have := (h1 _ hm).1; omega) hP
        have hkm : k < sOg p n := by
          rcases Nat.lt_trichotomy k (sOg p n) with z | z | z
          · exact z
          · rw [z] at hi; omega
          · have := h2 _ _ z hk; omega
        rw [← hp k hk, ← hp _ hm]
        exact sOG_first n k hkm
    cases e9 : sStG P v N with
    | none => rw [e9] at hinv; exact absurd hw.2.1 (hinv _ hw.1)
    | some b => rw [e9] at hinv; rw [xFstG_eq hinv hw]

/-- the first with the least value among those of P below N -/
def xFstL (P : Nat → Prop) (v : Nat → Nat) (N : Nat) : Option Nat → Prop
  | none => ∀ i, i < N → ¬ P i
  | some b => b < N ∧ P b ∧ (∀ i, i < N → P i → v b ≤ v i) ∧ ∀ i, i < b → P i → v b < v i
def sStL (P : Nat → Prop) [DecidablePred P] (v : Nat → Nat) : Nat → Option Nat
  | 0 => none
  | k + 1 => if P k ∧ (∀ b, sStL P v k = some b → v k < v b) then some k else sStL P v k
theorem sStL_inv {P : Nat → Prop} [DecidablePred P] {v : Nat → Nat} : ∀ n, xFstL P v n (sStL P v n)
  | 0 => fun i h => absurd h (Nat.not_lt_zero _)
  | n + 1 => by
    have ih := sStL_inv (P := P) (v := v) n
    have ed : sStL P v (n + 1) = if P n ∧ (∀ b, sStL P v n = some b → v n < v b) then some n else sStL P v n := rfl
    by_cases c : P n ∧ (∀ b, sStL P v n = some b → v n < v b)
    · rw [if_pos c] at ed
      rw [ed]
      cases e : sStL P v n with
      | none =>
        rw [e] at ih
        refine ⟨Nat.lt_succ_self _, c.1, fun i hi hp => ?_, fun i hi hp => absurd hp (ih i hi)⟩
        by_cases e2 : i = n
        · subst e2; exact Nat.le_refl _
        · exact absurd hp (ih i (by omega))
      | some b =>
        rw [e] at ih
        obtain ⟨hb, hb2, h1, h2⟩ := ih
        have c2 := c.2 b e
        refine ⟨Nat.lt_succ_self _, c.1, fun i hi hp => ?_, fun i hi hp => ?_⟩
        · by_cases e2 : i = n
          · subst e2; exact Nat.le_refl _
          · have := h1 i (by omega) hp; omega
        · have := h1 i hi hp; omega
    · rw [if_neg c] at ed
      rw [ed]
      cases e : sStL P v n with
      | none =>
        rw [e] at ih
        intro i hi hp
        by_cases e2 : i = n
        · subst e2; exact c ⟨hp, fun b hb => by rw [e] at hb; cases hb⟩
        · exact ih i (by omega) hp
      | some b =>
        rw [e] at ih
        obtain ⟨hb, hb2, h1, h2⟩ := ih
        refine ⟨by omega, hb2, fun i hi hp => ?_, h2⟩
        by_cases e2 : i = n
        · subst e2
          refine Nat.not_lt.mp (fun h => c ⟨hp, fun b' hb' => ?_⟩)
          rw [e] at hb'; cases hb'; exact h
        · exact h1 i (by omega) hp
theorem xFstL_eq {P : Nat → Prop} {v : Nat → Nat} {N a b : Nat} (ha : xFstL P v N (some a)) (hb : xFstL P v N (some b)) : a = b := by
  obtain ⟨a1, a2, a3, a4⟩ := ha
  obtain ⟨b1, b2, b3, b4⟩ := hb
  rcases Nat.lt_trichotomy a b with h | h | h
  · have x := b4 a h a2
    have y := a3 b b1 b2
    omega
  · exact h
  · have x := a4 b h b2
    have y := b3 a a1 a2
    omega
theorem sOL_first {p : Nat → Nat} : ∀ n k, k < sOl p n → p (sOl p n) < p k
  | 0, k, h => absurd h (Nat.not_lt_zero _)
  | n + 1, k, h => by
    have ed : sOl p (n + 1) = if p n < p (sOl p n) then n else sOl p n := rfl
    by_cases c : p n < p (sOl p n)
    · rw [if_pos c] at ed
      rw [ed] at h ⊢
      have := sOl_min (p := p) n k h
      omega
    · rw [if_neg c] at ed
      rw [ed] at h ⊢
      exact sOL_first n k h
theorem sOL_congr {p p' : Nat → Nat} : ∀ n, (∀ k, k < n → p k = p' k) → sOl p n = sOl p' n
  | 0, _ => rfl
  | n + 1, h => by
    have ih := sOL_congr (p := p) (p' := p') n (fun k hk => h k (by omega))
    have hb : sOl p n < n + 1 := sOl_lt (Nat.lt_succ_self n)
    show (if p n < p (sOl p n) then n else sOl p n) = if p' n < p' (sOl p' n) then n else sOl p' n
    rw [← ih, h n (by omega), h _ hb]
theorem sStL_en {P : Nat → Prop} [DecidablePred P] {v p : Nat → Nat} {N n : Nat} {e : Nat → Nat} (h : xEn P N n e) (hp : ∀ k, k < n → p k = v (e k)) : sStL P v N = if n = 0 then none else some (e (sOl p n)) := by
  have hinv := sStL_inv (P := P) (v := v) N
  obtain ⟨h1, h2, h3⟩ := h
  by_cases c : n = 0
  · rw [if_pos c]
    cases e9 : sStL P v N with
    | none => rfl
    | some b =>
      rw [e9] at hinv
      obtain ⟨k, hk, -⟩ := h3 b hinv.1 hinv.2.1
      omega
  · rw [if_neg c]
    have hm := sOl_n (p := p) (show 0 < n by omega)
    have hw : xFstL P v N (some (e (sOl p n))) := by
      refine ⟨(h1 _ hm).1, (h1 _ hm).2, fun i hi hP => ?_, fun i hi hP => ?_⟩
      · obtain ⟨k, hk, rfl⟩ := h3 i hi hP
        rw [← hp k hk, ← hp _ hm]
        exact sOl_min n k hk
      · obtain ⟨k, hk, rfl⟩ := h3 i (by have := (h1 _ hm).1; omega) hP
        have hkm : k < sOl p n := by
          rcases Nat.lt_trichotomy k (sOl p n) with z | z | z
          · exact z
          · rw [z] at hi; omega
          · have := h2 _ _ z hk; omega
        rw [← hp k hk, ← hp _ hm]
        exact sOL_first n k hkm
    cases e9 : sStL P v N with
    | none => rw [e9] at hinv; exact absurd hw.2.1 (hinv _ hw.1)
    | some b => rw [e9] at hinv; rw [xFstL_eq hinv hw]

set_option maxHeartbeats 4000000 in
theorem k2_strongest {G : xG} {ad : Nat → Nat} {κ : xKp} {σ μ : xSg} {c t : xK} (hI : xIk κ) (R : xRl κ σ μ) (hB : xPb κ σ) {j : Nat} (hj : j < κ 1) : xM G yX2_strongest (ws_ yX2_strongest cX2_strongest 5 (some Jvm.ClassFile.FieldType.int)) 3 60 0 0 [.ref (ad (ro 16 0)), .int (nI j)] ad (xj c (xkM G.2.2.1 ad μ) t) (xPv (some (.int (oI (sStG (fun d => σ 4 d 0 = -1 ∧ μ 23 d 0 = 0) (fun d => (sDp σ d (σ 6 j 0)).toNatClampNeg) (κ 0))))) ad (xj c (xkM G.2.2.1 ad μ) t)) xN := by
  refine xM_of (cc := cX2_strongest) (by decide) rfl (fun F hF C => ?_)
  subst hF
  have h30 := hI.2.2.2.2.1
  have h14 := hI.2.2.2.2.2
  have T : μ 29 0 0 = μ 29 0 0 := rfl
  show xX F _ _ _ 0 0 0 [(0, .ref (ad (ro 16 0))), (1, .int (nI j))] []
  refine x_iconst (v := -1) C dX2_strongest_0 (by decide) ?_
  refine x_istore_n (lv' := [(2, .int ((-1))), (0, .ref (ad (ro 16 0))), (1, .int (nI j))]) C dX2_strongest_1 rfl (by decide) rfl ?_
  refine x_iconst (v := 0) C dX2_strongest_2 (by decide) ?_
  refine x_istore_n (lv' := [(3, .int 0), (2, .int ((-1))), (0, .ref (ad (ro 16 0))), (1, .int (nI j))]) C dX2_strongest_3 rfl (by decide) rfl ?_
  have loop : ∀ (n2 k : Nat), k + n2 = κ 0 → xX F (xQ F (xPv (some (.int (oI (sStG (fun d => σ 4 d 0 = -1 ∧ μ 23 d 0 = 0) (fun d => (sDp σ d (σ 6 j 0)).toNatClampNeg) (κ 0))))) ad (xj c (xkM F.1.2.2.1 ad μ) t)) xN 0 0) ad (xj c (xkM F.1.2.2.1 ad μ) t) 0 0 4 [(3, .int (nI k)), (2, .int (oI (sStG (fun d => σ 4 d 0 = -1 ∧ μ 23 d 0 = 0) (fun d => (sDp σ d (σ 6 j 0)).toNatClampNeg) k))), (0, .ref (ad (ro 16 0))), (1, .int (nI j))] [] := by
    intro n2
    induction n2 with
    | zero =>
      intro k hk
      obtain rfl : k = κ 0 := by omega
      refine x_iload_n C dX2_strongest_4 rfl 0 rfl ?_
      refine x_aload_n C dX2_strongest_5 rfl 2 rfl ?_
      refine x_get C fl_X2_90 (r := ro 16 0) rfl (xj_m (by decide) (by decide) rfl) (v := .int (μ 5 0 0)) rfl dX2_strongest_6 ?_
      refine x_top (y := nI (κ 0)) R.2.1.1 ?_
      refine x_icmp_ge (tgt := 72) C dX2_strongest_9 (by decide) (fun _ => ?_) (fun h => absurd (Int32.le_refl _) h)
      refine x_iload_n C dX2_strongest_72 rfl 1 rfl ?_
      exact x_iret C dX2_strongest_73 (Nat.le_of_ble_eq_true rfl) (Nat.le_of_ble_eq_true rfl) ⟨rfl, rfl, rfl⟩
    | succ n2 ih =>
      intro k hk
      have hd : k < κ 0 := by omega
      have ed : sStG (fun d => σ 4 d 0 = -1 ∧ μ 23 d 0 = 0) (fun d => (sDp σ d (σ 6 j 0)).toNatClampNeg) (k + 1) = if (σ 4 k 0 = -1 ∧ μ 23 k 0 = 0) ∧ (∀ b, sStG (fun d => σ 4 d 0 = -1 ∧ μ 23 d 0 = 0) (fun d => (sDp σ d (σ 6 j 0)).toNatClampNeg) k = some b → (sDp σ b (σ 6 j 0)).toNatClampNeg < (sDp σ k (σ 6 j 0)).toNatClampNeg) then some k else sStG (fun d => σ 4 d 0 = -1 ∧ μ 23 d 0 = 0) (fun d => (sDp σ d (σ 6 j 0)).toNatClampNeg) k := rfl
      have IH := ih (k + 1) (by omega)
      rw [ed] at IH
      have hinv := sStG_inv (P := (fun d => σ 4 d 0 = -1 ∧ μ 23 d 0 = 0)) (v := (fun d => (sDp σ d (σ 6 j 0)).toNatClampNeg)) k
      refine x_iload_n C dX2_strongest_4 rfl 0 rfl ?_
      refine x_aload_n C dX2_strongest_5 rfl 2 rfl ?_
      refine x_get C fl_X2_90 (r := ro 16 0) rfl (xj_m (by decide) (by decide) rfl) (v := .int (μ 5 0 0)) rfl dX2_strongest_6 ?_
      refine x_top (y := nI (κ 0)) R.2.1.1 ?_
      refine x_icmp_ge (tgt := 72) C dX2_strongest_9 (by decide) (fun h => absurd ((nI_le_iff (by omega) (by omega)).mp h) (by omega)) (fun _ => ?_)
      refine x_aload_n C dX2_strongest_12 rfl 2 rfl ?_
      refine x_iload_n C dX2_strongest_13 rfl 0 rfl ?_
      refine x_callV (rest := []) C (k2_isInVan hI R (d := k) (by omega)) cf_X2_138 ⟨rfl, hd_X2_isInVan⟩ ⟨Nat.le_of_ble_eq_true rfl, Nat.le_of_ble_eq_true rfl⟩ (xR_o xci4 rfl (xj_m (by decide) (by decide) rfl)) rfl (Nat.le_of_ble_eq_true rfl) ⟨Nat.le_of_ble_eq_true rfl, Nat.le_of_ble_eq_true rfl⟩ dX2_strongest_14 (xPv_i ?_) xN_e
      refine x_case (fun c1 => ?_) (fun c1 => ?_)
      · refine x_if_eq (tgt := 33) C dX2_strongest_17 (by decide) (fun h => absurd h (by decide)) (fun _ => ?_)
        refine x_aload_n C dX2_strongest_20 rfl 2 rfl ?_
        refine x_get C fl_X2_74 (r := ro 16 0) rfl (xj_m (by decide) (by decide) rfl) (v := .ref (ad (ro 17 23))) rfl dX2_strongest_21 ?_
        refine x_iload_n C dX2_strongest_24 rfl 0 rfl ?_
        refine m_rzld C 23 k rfl rfl rfl (show k < 30 by omega) rfl rfl dX2_strongest_25 ?_
        refine x_if_ne (tgt := 33) C dX2_strongest_26 (by decide) (fun c2 => ?_) (fun c2 => ?_)
        · refine x_iconst (v := 0) C dX2_strongest_33 (by decide) ?_
          refine x_istore (lv' := [(4, .int 0), (3, .int (nI k)), (2, .int (oI (sStG (fun d => σ 4 d 0 = -1 ∧ μ 23 d 0 = 0) (fun d => (sDp σ d (σ 6 j 0)).toNatClampNeg) k))), (0, .ref (ad (ro 16 0))), (1, .int (nI j))]) C dX2_strongest_34 (by decide) rfl ?_
          refine x_iload C dX2_strongest_36 0 rfl ?_
          refine x_if_eq (tgt := 64) C dX2_strongest_38 (by decide) (fun _ => ?_) (fun h => absurd (by decide) h)
          refine x_iload_n C dX2_strongest_64 rfl 2 rfl ?_
          refine x_istore_n (lv' := [(2, .int (oI (sStG (fun d => σ 4 d 0 = -1 ∧ μ 23 d 0 = 0) (fun d => (sDp σ d (σ 6 j 0)).toNatClampNeg) k))), (4, .int 0), (3, .int (nI k)), (0, .ref (ad (ro 16 0))), (1, .int (nI j))]) C dX2_strongest_65 rfl (by decide) rfl ?_
          refine x_iinc (k := 2) (v := nI (k + 1)) (lv' := [(3, .int (nI (k + 1))), (2, .int (oI (sStG (fun d => σ 4 d 0 = -1 ∧ μ 23 d 0 = 0) (fun d => (sDp σ d (σ 6 j 0)).toNatClampNeg) k))), (4, .int 0), (0, .ref (ad (ro 16 0))), (1, .int (nI j))]) C dX2_strongest_66 rfl (nI_1 k) (by decide) rfl ?_
          refine x_goto (tgt := 4) C dX2_strongest_69 (by decide) ?_
          refine x_lv (lv' := [(3, .int (nI (k + 1))), (2, .int (oI (sStG (fun d => σ 4 d 0 = -1 ∧ μ 23 d 0 = 0) (fun d => (sDp σ d (σ 6 j 0)).toNatClampNeg) k))), (0, .ref (ad (ro 16 0))), (1, .int (nI j))]) [0, 1, 3, 4] rfl ?_
          rw [if_neg (fun z => c2 z.1.2)] at IH
          exact IH
        · refine x_iconst (v := 1) C dX2_strongest_29 (by decide) ?_
          refine x_goto (tgt := 34) C dX2_strongest_30 (by decide) ?_
          refine x_istore (lv' := [(4, .int 1), (3, .int (nI k)), (2, .int (oI (sStG (fun d => σ 4 d 0 = -1 ∧ μ 23 d 0 = 0) (fun d => (sDp σ d (σ 6 j 0)).toNatClampNeg) k))), (0, .ref (ad (ro 16 0))), (1, .int (nI j))]) C dX2_strongest_34 (by decide) rfl ?_
          refine x_iload C dX2_strongest_36 0 rfl ?_
          refine x_if_eq (tgt := 64) C dX2_strongest_38 (by decide) (fun h => absurd h (by decide)) (fun _ => ?_)
          cases eL : sStG (fun d => σ 4 d 0 = -1 ∧ μ 23 d 0 = 0) (fun d => (sDp σ d (σ 6 j 0)).toNatClampNeg) k with
          | none =>
            rw [eL] at IH
            show xX F _ _ _ _ _ _ [(4, .int 1), (3, .int (nI k)), (2, .int ((-1))), (0, .ref (ad (ro 16 0))), (1, .int (nI j))] []
            refine x_iload_n C dX2_strongest_41 rfl 2 rfl ?_
            refine x_if_lt (tgt := 60) C dX2_strongest_42 (by decide) (fun _ => ?_) (fun h => absurd (by decide) h)
            refine x_iload_n C dX2_strongest_60 rfl 1 rfl ?_
            refine x_goto (tgt := 65) C dX2_strongest_61 (by decide) ?_
            refine x_istore_n (lv' := [(2, .int (nI k)), (4, .int 1), (3, .int (nI k)), (0, .ref (ad (ro 16 0))), (1, .int (nI j))]) C dX2_strongest_65 rfl (by decide) rfl ?_
            refine x_iinc (k := 2) (v := nI (k + 1)) (lv' := [(3, .int (nI (k + 1))), (2, .int (nI k)), (4, .int 1), (0, .ref (ad (ro 16 0))), (1, .int (nI j))]) C dX2_strongest_66 rfl (nI_1 k) (by decide) rfl ?_
            refine x_goto (tgt := 4) C dX2_strongest_69 (by decide) ?_
            refine x_lv (lv' := [(3, .int (nI (k + 1))), (2, .int (nI k)), (0, .ref (ad (ro 16 0))), (1, .int (nI j))]) [0, 1, 3, 4] rfl ?_
            rw [if_pos ⟨⟨c1, c2⟩, fun b hb => by cases hb⟩] at IH
            exact IH
          | some b =>
            rw [eL] at IH hinv
            have hb : b < κ 0 := by have := hinv.1; omega
            show xX F _ _ _ _ _ _ [(4, .int 1), (3, .int (nI k)), (2, .int (nI b)), (0, .ref (ad (ro 16 0))), (1, .int (nI j))] []
            obtain ⟨p1, hp1, e1⟩ := hB k hd (σ 6 j 0)
            obtain ⟨p2, hp2, e2⟩ := hB b hb (σ 6 j 0)
            refine x_iload_n C dX2_strongest_41 rfl 2 rfl ?_
            refine x_if_lt (tgt := 60) C dX2_strongest_42 (by decide) (fun h => absurd h (nI_not_neg (by omega))) (fun _ => ?_)
            refine x_aload_n C dX2_strongest_45 rfl 3 rfl ?_
            refine x_iload_n C dX2_strongest_46 rfl 4 rfl ?_
            refine x_iload_n C dX2_strongest_47 rfl 1 rfl ?_
            refine x_callV (rest := []) C (k2_pullAt hI R (j := j) (d := k) hj hd) cf_X2_112 ⟨rfl, hd_X2_pullAt⟩ ⟨Nat.le_of_ble_eq_true rfl, Nat.le_of_ble_eq_true rfl⟩ (xR_o xci4 rfl (xj_m (by decide) (by decide) rfl)) rfl (Nat.le_of_ble_eq_true rfl) ⟨Nat.le_of_ble_eq_true rfl, Nat.le_of_ble_eq_true rfl⟩ dX2_strongest_48 (xPv_i ?_) xN_e
            refine x_top (y := nI p1) (e1) ?_
            refine x_aload_n C dX2_strongest_51 rfl 3 rfl ?_
            refine x_iload_n C dX2_strongest_52 rfl 4 rfl ?_
            refine x_iload_n C dX2_strongest_53 rfl 2 rfl ?_
            refine x_callV (rest := [.int (nI p1)]) C (k2_pullAt hI R (j := j) (d := b) hj hb) cf_X2_112 ⟨rfl, hd_X2_pullAt⟩ ⟨Nat.le_of_ble_eq_true rfl, Nat.le_of_ble_eq_true rfl⟩ (xR_o xci4 rfl (xj_m (by decide) (by decide) rfl)) rfl (Nat.le_of_ble_eq_true rfl) ⟨Nat.le_of_ble_eq_true rfl, Nat.le_of_ble_eq_true rfl⟩ dX2_strongest_54 (xPv_i ?_) xN_e
            refine x_top (y := nI p2) (e2) ?_
            refine x_icmp_le (tgt := 64) C dX2_strongest_57 (by decide) (fun c3 => ?_) (fun c3 => ?_)
            · refine x_iload_n C dX2_strongest_64 rfl 2 rfl ?_
              refine x_istore_n (lv' := [(2, .int (nI b)), (4, .int 1), (3, .int (nI k)), (0, .ref (ad (ro 16 0))), (1, .int (nI j))]) C dX2_strongest_65 rfl (by decide) rfl ?_
              refine x_iinc (k := 2) (v := nI (k + 1)) (lv' := [(3, .int (nI (k + 1))), (2, .int (nI b)), (4, .int 1), (0, .ref (ad (ro 16 0))), (1, .int (nI j))]) C dX2_strongest_66 rfl (nI_1 k) (by decide) rfl ?_
              refine x_goto (tgt := 4) C dX2_strongest_69 (by decide) ?_
              refine x_lv (lv' := [(3, .int (nI (k + 1))), (2, .int (nI b)), (0, .ref (ad (ro 16 0))), (1, .int (nI j))]) [0, 1, 3, 4] rfl ?_
              rw [if_neg (fun z => by have z2 := z.2 b rfl; rw [e1, e2, nI_clamp (by omega), nI_clamp (by omega)] at z2; have := (nI_le_iff (by omega) (by omega)).mp c3; omega)] at IH
              exact IH
            · refine x_iload_n C dX2_strongest_60 rfl 1 rfl ?_
              refine x_goto (tgt := 65) C dX2_strongest_61 (by decide) ?_
              refine x_istore_n (lv' := [(2, .int (nI k)), (4, .int 1), (3, .int (nI k)), (0, .ref (ad (ro 16 0))), (1, .int (nI j))]) C dX2_strongest_65 rfl (by decide) rfl ?_
              refine x_iinc (k := 2) (v := nI (k + 1)) (lv' := [(3, .int (nI (k + 1))), (2, .int (nI k)), (4, .int 1), (0, .ref (ad (ro 16 0))), (1, .int (nI j))]) C dX2_strongest_66 rfl (nI_1 k) (by decide) rfl ?_
              refine x_goto (tgt := 4) C dX2_strongest_69 (by decide) ?_
              refine x_lv (lv' := [(3, .int (nI (k + 1))), (2, .int (nI k)), (0, .ref (ad (ro 16 0))), (1, .int (nI j))]) [0, 1, 3, 4] rfl ?_
              rw [if_pos ⟨⟨c1, c2⟩, fun b9 hb9 => by cases hb9; rw [e1, e2, nI_clamp (by omega), nI_clamp (by omega)]; exact Nat.not_le.mp (fun z => c3 ((nI_le_iff (by omega) (by omega)).mpr z))⟩] at IH
              exact IH
      · refine x_if_eq (tgt := 33) C dX2_strongest_17 (by decide) (fun _ => ?_) (fun h => absurd (by decide) h)
        refine x_iconst (v := 0) C dX2_strongest_33 (by decide) ?_
        refine x_istore (lv' := [(4, .int 0), (3, .int (nI k)), (2, .int (oI (sStG (fun d => σ 4 d 0 = -1 ∧ μ 23 d 0 = 0) (fun d => (sDp σ d (σ 6 j 0)).toNatClampNeg) k))), (0, .ref (ad (ro 16 0))), (1, .int (nI j))]) C dX2_strongest_34 (by decide) rfl ?_
        refine x_iload C dX2_strongest_36 0 rfl ?_
        refine x_if_eq (tgt := 64) C dX2_strongest_38 (by decide) (fun _ => ?_) (fun h => absurd (by decide) h)
        refine x_iload_n C dX2_strongest_64 rfl 2 rfl ?_
        refine x_istore_n (lv' := [(2, .int (oI (sStG (fun d => σ 4 d 0 = -1 ∧ μ 23 d 0 = 0) (fun d => (sDp σ d (σ 6 j 0)).toNatClampNeg) k))), (4, .int 0), (3, .int (nI k)), (0, .ref (ad (ro 16 0))), (1, .int (nI j))]) C dX2_strongest_65 rfl (by decide) rfl ?_
        refine x_iinc (k := 2) (v := nI (k + 1)) (lv' := [(3, .int (nI (k + 1))), (2, .int (oI (sStG (fun d => σ 4 d 0 = -1 ∧ μ 23 d 0 = 0) (fun d => (sDp σ d (σ 6 j 0)).toNatClampNeg) k))), (4, .int 0), (0, .ref (ad (ro 16 0))), (1, .int (nI j))]) C dX2_strongest_66 rfl (nI_1 k) (by decide) rfl ?_
        refine x_goto (tgt := 4) C dX2_strongest_69 (by decide) ?_
        refine x_lv (lv' := [(3, .int (nI (k + 1))), (2, .int (oI (sStG (fun d => σ 4 d 0 = -1 ∧ μ 23 d 0 = 0) (fun d => (sDp σ d (σ 6 j 0)).toNatClampNeg) k))), (0, .ref (ad (ro 16 0))), (1, .int (nI j))]) [0, 1, 3, 4] rfl ?_
        rw [if_neg (fun z => c1 z.1.1)] at IH
        exact IH
  refine x_lv (lv' := [(3, .int 0), (2, .int ((-1))), (0, .ref (ad (ro 16 0))), (1, .int (nI j))]) [0, 1, 2, 3] rfl ?_
  exact loop (κ 0) 0 (by omega)
set_option maxHeartbeats 4000000 in
theorem k2_weakest {G : xG} {ad : Nat → Nat} {κ : xKp} {σ μ : xSg} {c t : xK} (hI : xIk κ) (R : xRl κ σ μ) (hB : xPb κ σ) (hW : xIw κ σ) {j : Nat} (hj : j < κ 1) : xM G yX2_weakest (ws_ yX2_weakest cX2_weakest 4 (some Jvm.ClassFile.FieldType.int)) 5 100 0 0 [.ref (ad (ro 16 0)), .int (nI j)] ad (xj c (xkM G.2.2.1 ad μ) t) (xPv (some (.int (oI (sStL (fun s => μ 24 s 0 = 0) (sPh σ j) 10)))) ad (xj c (xkM G.2.2.1 ad μ) t)) xN := by
  refine xM_of (cc := cX2_weakest) (by decide) rfl (fun F hF C => ?_)
  subst hF
  have h30 := hI.2.2.2.2.1
  have h14 := hI.2.2.2.2.2
  have T : μ 29 0 0 = μ 29 0 0 := rfl
  show xX F _ _ _ 0 0 0 [(0, .ref (ad (ro 16 0))), (1, .int (nI j))] []
  refine x_iconst (v := -1) C dX2_weakest_0 (by decide) ?_
  refine x_istore_n (lv' := [(2, .int ((-1))), (0, .ref (ad (ro 16 0))), (1, .int (nI j))]) C dX2_weakest_1 rfl (by decide) rfl ?_
  refine x_iconst (v := 0) C dX2_weakest_2 (by decide) ?_
  refine x_istore_n (lv' := [(3, .int 0), (2, .int ((-1))), (0, .ref (ad (ro 16 0))), (1, .int (nI j))]) C dX2_weakest_3 rfl (by decide) rfl ?_
  have loop : ∀ (n2 k : Nat), k + n2 = 10 → xX F (xQ F (xPv (some (.int (oI (sStL (fun s => μ 24 s 0 = 0) (sPh σ j) 10)))) ad (xj c (xkM F.1.2.2.1 ad μ) t)) xN 0 0) ad (xj c (xkM F.1.2.2.1 ad μ) t) 0 0 4 [(3, .int (nI k)), (2, .int (oI (sStL (fun s => μ 24 s 0 = 0) (sPh σ j) k))), (0, .ref (ad (ro 16 0))), (1, .int (nI j))] [] := by
    intro n2
    induction n2 with
    | zero =>
      intro k hk
      obtain rfl : k = 10 := by omega
      refine x_iload_n C dX2_weakest_4 rfl 0 rfl ?_
      refine x_bipush (v := 10) C dX2_weakest_5 (by decide) ?_
      refine x_icmp_ge (tgt := 58) C dX2_weakest_7 (by decide) (fun _ => ?_) (fun h => absurd (by decide) h)
      refine x_iload_n C dX2_weakest_58 rfl 1 rfl ?_
      exact x_iret C dX2_weakest_59 (Nat.le_of_ble_eq_true rfl) (Nat.le_of_ble_eq_true rfl) ⟨rfl, rfl, rfl⟩
    | succ n2 ih =>
      intro k hk
      have hk9 : k < 10 := by omega
      have ed : sStL (fun s => μ 24 s 0 = 0) (sPh σ j) (k + 1) = if μ 24 k 0 = 0 ∧ (∀ b, sStL (fun s => μ 24 s 0 = 0) (sPh σ j) k = some b → sPh σ j k < sPh σ j b) then some k else sStL (fun s => μ 24 s 0 = 0) (sPh σ j) k := rfl
      have IH := ih (k + 1) (by omega)
      rw [ed] at IH
      have hinv := sStL_inv (P := (fun s => μ 24 s 0 = 0)) (v := sPh σ j) k
      refine x_iload_n C dX2_weakest_4 rfl 0 rfl ?_
      refine x_bipush (v := 10) C dX2_weakest_5 (by decide) ?_
      refine x_icmp_ge (tgt := 58) C dX2_weakest_7 (by decide) (fun h => absurd ((nI_le_iff (a := 10) (by omega) (by omega)).mp h) (by omega)) (fun _ => ?_)
      refine x_aload_n C dX2_weakest_10 rfl 2 rfl ?_
      refine x_get C fl_X2_77 (r := ro 16 0) rfl (xj_m (by decide) (by decide) rfl) (v := .ref (ad (ro 17 24))) rfl dX2_weakest_11 ?_
      refine x_iload_n C dX2_weakest_14 rfl 0 rfl ?_
      refine m_rzld C 24 k rfl rfl rfl hk9 rfl rfl dX2_weakest_15 ?_
      refine x_if_ne (tgt := 50) C dX2_weakest_16 (by decide) (fun c2 => ?_) (fun c2 => ?_)
      · refine x_iload_n C dX2_weakest_50 rfl 1 rfl ?_
        refine x_istore_n (lv' := [(2, .int (oI (sStL (fun s => μ 24 s 0 = 0) (sPh σ j) k))), (3, .int (nI k)), (0, .ref (ad (ro 16 0))), (1, .int (nI j))]) C dX2_weakest_51 rfl (by decide) rfl ?_
        refine x_iinc (k := 1) (v := nI (k + 1)) (lv' := [(3, .int (nI (k + 1))), (2, .int (oI (sStL (fun s => μ 24 s 0 = 0) (sPh σ j) k))), (0, .ref (ad (ro 16 0))), (1, .int (nI j))]) C dX2_weakest_52 rfl (nI_1 k) (by decide) rfl ?_
        refine x_goto (tgt := 4) C dX2_weakest_55 (by decide) ?_
        refine x_lv (lv' := [(3, .int (nI (k + 1))), (2, .int (oI (sStL (fun s => μ 24 s 0 = 0) (sPh σ j) k))), (0, .ref (ad (ro 16 0))), (1, .int (nI j))]) [0, 1, 2, 3] rfl ?_
        rw [if_neg (fun z => c2 z.1)] at IH
        exact IH
      · cases eL : sStL (fun s => μ 24 s 0 = 0) (sPh σ j) k with
        | none =>
          rw [eL] at IH
          show xX F _ _ _ _ _ _ [(3, .int (nI k)), (2, .int ((-1))), (0, .ref (ad (ro 16 0))), (1, .int (nI j))] []
          refine x_iload_n C dX2_weakest_19 rfl 1 rfl ?_
          refine x_if_lt (tgt := 46) C dX2_weakest_20 (by decide) (fun _ => ?_) (fun h => absurd (by decide) h)
          refine x_iload_n C dX2_weakest_46 rfl 0 rfl ?_
          refine x_goto (tgt := 51) C dX2_weakest_47 (by decide) ?_
          refine x_istore_n (lv' := [(2, .int (nI k)), (3, .int (nI k)), (0, .ref (ad (ro 16 0))), (1, .int (nI j))]) C dX2_weakest_51 rfl (by decide) rfl ?_
          refine x_iinc (k := 1) (v := nI (k + 1)) (lv' := [(3, .int (nI (k + 1))), (2, .int (nI k)), (0, .ref (ad (ro 16 0))), (1, .int (nI j))]) C dX2_weakest_52 rfl (nI_1 k) (by decide) rfl ?_
          refine x_goto (tgt := 4) C dX2_weakest_55 (by decide) ?_
          refine x_lv (lv' := [(3, .int (nI (k + 1))), (2, .int (nI k)), (0, .ref (ad (ro 16 0))), (1, .int (nI j))]) [0, 1, 2, 3] rfl ?_
          rw [if_pos ⟨c2, fun b hb => by cases hb⟩] at IH
          exact IH
        | some b =>
          rw [eL] at IH hinv
          have hb : b < 10 := by have := hinv.1; omega
          show xX F _ _ _ _ _ _ [(3, .int (nI k)), (2, .int (nI b)), (0, .ref (ad (ro 16 0))), (1, .int (nI j))] []
          obtain ⟨p1, hp1, e1, f1⟩ := sPo_b hB hW.s h30 hj hk9
          obtain ⟨p2, hp2, e2, f2⟩ := sPo_b hB hW.s h30 hj hb
          refine x_iload_n C dX2_weakest_19 rfl 1 rfl ?_
          refine x_if_lt (tgt := 46) C dX2_weakest_20 (by decide) (fun h => absurd h (nI_not_neg (by omega))) (fun _ => ?_)
          refine x_aload_n C dX2_weakest_23 rfl 2 rfl ?_
          refine x_bipush (v := 10) C dX2_weakest_24 (by decide) ?_
          refine x_iload_n C dX2_weakest_26 rfl 3 rfl ?_
          refine x_imul C dX2_weakest_27 ?_
          refine x_iload_n C dX2_weakest_28 rfl 0 rfl ?_
          refine x_iadd C dX2_weakest_29 ?_
          refine x_top (y := nI (10 * j + k)) (nI_at) ?_
          refine x_callV (rest := []) C (k2_pullOfSlot hI R hW (j := j) (s := k) (by omega) hk9) cf_X2_131 ⟨rfl, hd_X2_pullOfSlot⟩ ⟨Nat.le_of_ble_eq_true rfl, Nat.le_of_ble_eq_true rfl⟩ (xR_o xci4 rfl (xj_m (by decide) (by decide) rfl)) rfl (Nat.le_of_ble_eq_true rfl) ⟨Nat.le_of_ble_eq_true rfl, Nat.le_of_ble_eq_true rfl⟩ dX2_weakest_30 (xPv_i ?_) xN_e
          refine x_top (y := nI p1) (e1) ?_
          refine x_aload_n C dX2_weakest_33 rfl 2 rfl ?_
          refine x_bipush (v := 10) C dX2_weakest_34 (by decide) ?_
          refine x_iload_n C dX2_weakest_36 rfl 3 rfl ?_
          refine x_imul C dX2_weakest_37 ?_
          refine x_iload_n C dX2_weakest_38 rfl 1 rfl ?_
          refine x_iadd C dX2_weakest_39 ?_
          refine x_top (y := nI (10 * j + b)) (nI_at) ?_
          refine x_callV (rest := [.int (nI p1)]) C (k2_pullOfSlot hI R hW (j := j) (s := b) (by omega) hb) cf_X2_131 ⟨rfl, hd_X2_pullOfSlot⟩ ⟨Nat.le_of_ble_eq_true rfl, Nat.le_of_ble_eq_true rfl⟩ (xR_o xci4 rfl (xj_m (by decide) (by decide) rfl)) rfl (Nat.le_of_ble_eq_true rfl) ⟨Nat.le_of_ble_eq_true rfl, Nat.le_of_ble_eq_true rfl⟩ dX2_weakest_40 (xPv_i ?_) xN_e
          refine x_top (y := nI p2) (e2) ?_
          refine x_icmp_ge (tgt := 50) C dX2_weakest_43 (by decide) (fun c3 => ?_) (fun c3 => ?_)
          · refine x_iload_n C dX2_weakest_50 rfl 1 rfl ?_
            refine x_istore_n (lv' := [(2, .int (nI b)), (3, .int (nI k)), (0, .ref (ad (ro 16 0))), (1, .int (nI j))]) C dX2_weakest_51 rfl (by decide) rfl ?_
            refine x_iinc (k := 1) (v := nI (k + 1)) (lv' := [(3, .int (nI (k + 1))), (2, .int (nI b)), (0, .ref (ad (ro 16 0))), (1, .int (nI j))]) C dX2_weakest_52 rfl (nI_1 k) (by decide) rfl ?_
            refine x_goto (tgt := 4) C dX2_weakest_55 (by decide) ?_
            refine x_lv (lv' := [(3, .int (nI (k + 1))), (2, .int (nI b)), (0, .ref (ad (ro 16 0))), (1, .int (nI j))]) [0, 1, 2, 3] rfl ?_
            rw [if_neg (fun z => by have z2 := z.2 b rfl; rw [f1, f2] at z2; have := (nI_le_iff (by omega) (by omega)).mp c3; omega)] at IH
            exact IH
          · refine x_iload_n C dX2_weakest_46 rfl 0 rfl ?_
            refine x_goto (tgt := 51) C dX2_weakest_47 (by decide) ?_
            refine x_istore_n (lv' := [(2, .int (nI k)), (3, .int (nI k)), (0, .ref (ad (ro 16 0))), (1, .int (nI j))]) C dX2_weakest_51 rfl (by decide) rfl ?_
            refine x_iinc (k := 1) (v := nI (k + 1)) (lv' := [(3, .int (nI (k + 1))), (2, .int (nI k)), (0, .ref (ad (ro 16 0))), (1, .int (nI j))]) C dX2_weakest_52 rfl (nI_1 k) (by decide) rfl ?_
            refine x_goto (tgt := 4) C dX2_weakest_55 (by decide) ?_
            refine x_lv (lv' := [(3, .int (nI (k + 1))), (2, .int (nI k)), (0, .ref (ad (ro 16 0))), (1, .int (nI j))]) [0, 1, 2, 3] rfl ?_
            rw [if_pos ⟨c2, fun b9 hb9 => by cases hb9; rw [f1, f2]; exact Nat.not_le.mp (fun z => c3 ((nI_le_iff (by omega) (by omega)).mpr z))⟩] at IH
            exact IH
  refine x_lv (lv' := [(3, .int 0), (2, .int ((-1))), (0, .ref (ad (ro 16 0))), (1, .int (nI j))]) [0, 1, 2, 3] rfl ?_
  exact loop 10 0 (by omega)
set_option maxHeartbeats 4000000 in
theorem k2_bestWorth {G : xG} {ad : Nat → Nat} {κ : xKp} {σ μ : xSg} {c t : xK} (hI : xIk κ) (R : xRl κ σ μ) (hB : xPb κ σ) (hW : xIw κ σ) (b c9 : Int32) : xM G yX2_bestWorth (ws_ yX2_bestWorth cX2_bestWorth 8 (some Jvm.ClassFile.FieldType.int)) 8 300 0 0 [.ref (ad (ro 16 0)), .int b, .int c9] ad (xj c (xkM G.2.2.1 ad μ) t) (rP G ad c t (oBest κ σ b c9)) xN := by
  refine xM_of (cc := cX2_bestWorth) (by decide) rfl (fun F hF C => ?_)
  subst hF
  have h30 := hI.2.2.2.2.1
  have h14 := hI.2.2.2.2.2
  have T : μ 29 0 0 = μ 29 0 0 := rfl
  show xX F _ _ _ 0 0 0 [(0, .ref (ad (ro 16 0))), (1, .int b), (2, .int c9)] []
  refine x_aload_n C dX2_bestWorth_0 rfl 0 rfl ?_
  refine x_aload_n C dX2_bestWorth_1 rfl 0 rfl ?_
  refine x_iload_n C dX2_bestWorth_2 rfl 1 rfl ?_
  refine x_callV (rest := [.ref (ad (ro 16 0))]) C (k2_isBox hI R b) cf_X2_100 ⟨rfl, hd_X2_isBox⟩ ⟨Nat.le_of_ble_eq_true rfl, Nat.le_of_ble_eq_true rfl⟩ (xR_o xci4 rfl (xj_m (by decide) (by decide) rfl)) rfl (Nat.le_of_ble_eq_true rfl) ⟨Nat.le_of_ble_eq_true rfl, Nat.le_of_ble_eq_true rfl⟩ dX2_bestWorth_3 (xPv_i ?_) xN_e
  refine x_case (fun c1 => ?_) (fun c1 => ?_)
  · obtain ⟨j, hj, rfl⟩ := xIx_nI (by omega) c1
    have tj : (nI j).toNatClampNeg = j := nI_clamp (by omega)
    refine x_iconst (v := 1) C dX2_bestWorth_6 (by decide) ?_
    refine m_no1 (p := 1) C R (Nat.le_of_ble_eq_true rfl) ⟨Nat.le_of_ble_eq_true rfl, Nat.le_of_ble_eq_true rfl⟩ ⟨Nat.le_of_ble_eq_true rfl, Nat.le_of_ble_eq_true rfl⟩ dX2_bestWorth_7 (fun μ1 R1 T1 => ?_)
    refine x_if_ne (tgt := 27) C dX2_bestWorth_10 (by decide) (fun h => absurd rfl h) (fun _ => ?_)
    refine x_aload_n C dX2_bestWorth_13 rfl 0 rfl ?_
    refine x_iload_n C dX2_bestWorth_14 rfl 2 rfl ?_
    refine x_iconst (v := 0) C dX2_bestWorth_15 (by decide) ?_
    refine x_iconst (v := 3) C dX2_bestWorth_16 (by decide) ?_
    refine x_callS (rest := [.ref (ad (ro 16 0))]) C (k2_isIn c9 0 3) cf_X2_93 hd_X2_isIn ⟨Nat.le_of_ble_eq_true rfl, Nat.le_of_ble_eq_true rfl⟩ rfl (Nat.le_of_ble_eq_true rfl) ⟨Nat.le_of_ble_eq_true rfl, Nat.le_of_ble_eq_true rfl⟩ dX2_bestWorth_17 (xPv_i ?_) xN_e
    refine x_case (fun c2 => ?_) (fun c2 => ?_)
    · obtain ⟨N9, hN9, rfl⟩ := xIx_nI (n := 4) (by decide) c2
      have tN : (nI N9).toNatClampNeg = N9 := nI_clamp (by omega)
      refine x_iconst (v := 2) C dX2_bestWorth_20 (by decide) ?_
      refine m_no1 (p := 2) C R1 (Nat.le_of_ble_eq_true rfl) ⟨Nat.le_of_ble_eq_true rfl, Nat.le_of_ble_eq_true rfl⟩ ⟨Nat.le_of_ble_eq_true rfl, Nat.le_of_ble_eq_true rfl⟩ dX2_bestWorth_21 (fun μ2 R2 T2 => ?_)
      refine x_if_eq (tgt := 29) C dX2_bestWorth_24 (by decide) (fun _ => ?_) (fun h => absurd (by decide) h)
      refine x_iconst (v := 0) C dX2_bestWorth_29 (by decide) ?_
      refine x_istore_n (lv' := [(3, .int 0), (0, .ref (ad (ro 16 0))), (1, .int (nI j)), (2, .int (nI N9))]) C dX2_bestWorth_30 rfl (by decide) rfl ?_
      have main : ∀ (r i nt nh : Nat) (pt ph e h : Nat → Nat) (sm : Int32) (μ9 : xSg), i + r = N9 → sBest r nt pt nh ph sm = sBo κ σ j N9 → xEn (fun d => σ 4 d 0 = -1 ∧ μ9 23 d 0 = 0) (κ 0) nt e → (∀ k, k < nt → pt k = (fun d => (sDp σ d (σ 6 j 0)).toNatClampNeg) (e k)) → xEn (fun s => μ9 24 s 0 = 0) 10 nh h → (∀ k, k < nh → ph k = sPh σ j (h k)) → r ≤ nh → xRl κ σ μ9 → μ9 29 0 0 = 0 → xX F (xQ F (rP F.1 ad c t (oBest κ σ (nI j) (nI N9))) xN 0 0) ad (xj c (xkM F.1.2.2.1 ad μ9) t) 0 0 65 [(4, .int (nI i)), (3, .int sm), (0, .ref (ad (ro 16 0))), (1, .int (nI j)), (2, .int (nI N9))] [] := by
        intro r
        induction r with
        | zero =>
          intro i nt nh pt ph e h sm μ9 hi hv he hpt hh hph hr R9 T9
          obtain rfl : i = N9 := by omega
          refine x_iload C dX2_bestWorth_65 0 rfl ?_
          refine x_iload_n C dX2_bestWorth_67 rfl 4 rfl ?_
          refine x_icmp_ge (tgt := 147) C dX2_bestWorth_68 (by decide) (fun _ => ?_) (fun h => absurd (Int32.le_refl _) h)
          refine x_iload_n C dX2_bestWorth_147 rfl 1 rfl ?_
          exact x_iret C dX2_bestWorth_148 (Nat.le_of_ble_eq_true rfl) (Nat.le_of_ble_eq_true rfl) (rP_of (by unfold oBest; rw [if_pos c1, if_pos c2, tj, tN]) R9 T9 (fun _ => hv))
        | succ r ih =>
          intro i nt nh pt ph e h sm μ9 hi hv he hpt hh hph hr R9 T9
          refine x_iload C dX2_bestWorth_65 0 rfl ?_
          refine x_iload_n C dX2_bestWorth_67 rfl 4 rfl ?_
          refine x_icmp_ge (tgt := 147) C dX2_bestWorth_68 (by decide) (fun h => absurd ((nI_le_iff (by omega) (by omega)).mp h) (by omega)) (fun _ => ?_)
          refine x_aload_n C dX2_bestWorth_71 rfl 2 rfl ?_
          refine x_iload_n C dX2_bestWorth_72 rfl 3 rfl ?_
          refine x_callV (rest := []) C (k2_strongest hI R9 hB hj) cf_X2_141 ⟨rfl, hd_X2_strongest⟩ ⟨Nat.le_of_ble_eq_true rfl, Nat.le_of_ble_eq_true rfl⟩ (xR_o xci4 rfl (xj_m (by decide) (by decide) rfl)) rfl (Nat.le_of_ble_eq_true rfl) ⟨Nat.le_of_ble_eq_true rfl, Nat.le_of_ble_eq_true rfl⟩ dX2_bestWorth_73 (xPv_i ?_) xN_e
          rw [sStG_en he hpt]
          refine x_istore (lv' := [(5, .int (oI (if nt = 0 then none else some (e (sOg pt nt))))), (4, .int (nI i)), (3, .int sm), (0, .ref (ad (ro 16 0))), (1, .int (nI j)), (2, .int (nI N9))]) C dX2_bestWorth_76 (by decide) rfl ?_
          refine x_aload_n C dX2_bestWorth_78 rfl 3 rfl ?_
          refine x_iload_n C dX2_bestWorth_79 rfl 4 rfl ?_
          refine x_callV (rest := []) C (k2_weakest hI R9 hB hW hj) cf_X2_144 ⟨rfl, hd_X2_weakest⟩ ⟨Nat.le_of_ble_eq_true rfl, Nat.le_of_ble_eq_true rfl⟩ (xR_o xci4 rfl (xj_m (by decide) (by decide) rfl)) rfl (Nat.le_of_ble_eq_true rfl) ⟨Nat.le_of_ble_eq_true rfl, Nat.le_of_ble_eq_true rfl⟩ dX2_bestWorth_80 (xPv_i ?_) xN_e
          rw [sStL_en hh hph, if_neg (show ¬ nh = 0 by omega)]
          show xX F _ _ _ _ _ _ [(5, .int (oI (if nt = 0 then none else some (e (sOg pt nt))))), (4, .int (nI i)), (3, .int sm), (0, .ref (ad (ro 16 0))), (1, .int (nI j)), (2, .int (nI N9))] [.int (nI (h (sOl ph nh)))]
          rcases Nat.eq_zero_or_pos nt with hnt | hnt
          · subst hnt
            rw [if_pos rfl]
            show xX F _ _ _ _ _ _ [(5, .int ((-1))), (4, .int (nI i)), (3, .int sm), (0, .ref (ad (ro 16 0))), (1, .int (nI j)), (2, .int (nI N9))] [.int (nI (h (sOl ph nh)))]
            refine x_istore (lv' := [(6, .int (nI (h (sOl ph nh)))), (5, .int ((-1))), (4, .int (nI i)), (3, .int sm), (0, .ref (ad (ro 16 0))), (1, .int (nI j)), (2, .int (nI N9))]) C dX2_bestWorth_83 (by decide) rfl ?_
            refine x_iload C dX2_bestWorth_85 1 rfl ?_
            refine x_if_lt (tgt := 141) C dX2_bestWorth_87 (by decide) (fun _ => ?_) (fun h => absurd (by decide) h)
            refine x_iinc (k := 2) (v := nI (i + 1)) (lv' := [(4, .int (nI (i + 1))), (6, .int (nI (h (sOl ph nh)))), (5, .int ((-1))), (3, .int sm), (0, .ref (ad (ro 16 0))), (1, .int (nI j)), (2, .int (nI N9))]) C dX2_bestWorth_141 rfl (nI_1 i) (by decide) rfl ?_
            refine x_goto (tgt := 65) C dX2_bestWorth_144 (by decide) ?_
            refine x_lv (lv' := [(4, .int (nI (i + 1))), (3, .int sm), (0, .ref (ad (ro 16 0))), (1, .int (nI j)), (2, .int (nI N9))]) [0, 3, 4, 5, 6] rfl ?_
            rw [sBest_0] at hv
            exact ih (i + 1) 0 nh pt ph e h sm μ9 (by omega) ((sBest_0 r).trans hv) he hpt hh hph (by omega) R9 T9
          · have hm := sOg_n (p := pt) hnt
            have hl := sOl_n (p := ph) (show 0 < nh by omega)
            have ev : sBest (r + 1) nt pt nh ph sm = sBest r (nt - 1) (sRm pt (sOg pt nt)) (nh - 1) (sRm ph (sOl ph nh)) (sm + (if 0 < nI (pt (sOg pt nt)) - nI (ph (sOl ph nh)) then nI (pt (sOg pt nt)) - nI (ph (sOl ph nh)) else 0)) := if_neg (by omega)
            rw [ev] at hv
            rw [if_neg (show ¬ nt = 0 by omega)]
            have hE := he.rm hm
            have hH := hh.rm hl
            have hPT := sRm_map (v := (fun d => (sDp σ d (σ 6 j 0)).toNatClampNeg)) (p := pt) (e := e) hm hpt
            have hPH := sRm_map (v := sPh σ j) (p := ph) (e := h) hl hph
            have hd : e (sOg pt nt) < κ 0 := (he.1 _ hm).1
            have hs : h (sOl ph nh) < 10 := (hh.1 _ hl).1
            obtain ⟨p1, hp1, e1⟩ := hB _ hd (σ 6 j 0)
            obtain ⟨p2, hp2, e2, f2⟩ := sPo_b hB hW.s h30 hj hs
            have g1 : pt (sOg pt nt) = p1 := (hpt _ hm).trans (by show (sDp σ (e (sOg pt nt)) (σ 6 j 0)).toNatClampNeg = p1; rw [e1, nI_clamp (by omega)])
            have g2 : ph (sOl ph nh) = p2 := (hph _ hl).trans f2
            rw [g1, g2] at hv
            generalize e (sOg pt nt) = d at *
            generalize h (sOl ph nh) = s at *
            show xX F _ _ _ _ _ _ [(5, .int (nI d)), (4, .int (nI i)), (3, .int sm), (0, .ref (ad (ro 16 0))), (1, .int (nI j)), (2, .int (nI N9))] [.int (nI s)]
            refine x_istore (lv' := [(6, .int (nI s)), (5, .int (nI d)), (4, .int (nI i)), (3, .int sm), (0, .ref (ad (ro 16 0))), (1, .int (nI j)), (2, .int (nI N9))]) C dX2_bestWorth_83 (by decide) rfl ?_
            refine x_iload C dX2_bestWorth_85 1 rfl ?_
            refine x_if_lt (tgt := 141) C dX2_bestWorth_87 (by decide) (fun h => absurd h (nI_not_neg (by omega))) (fun _ => ?_)
            refine x_aload_n C dX2_bestWorth_90 rfl 4 rfl ?_
            refine x_iload_n C dX2_bestWorth_91 rfl 5 rfl ?_
            refine x_iload C dX2_bestWorth_92 1 rfl ?_
            refine x_callV (rest := []) C (k2_pullAt hI R9 (j := j) (d := d) hj hd) cf_X2_112 ⟨rfl, hd_X2_pullAt⟩ ⟨Nat.le_of_ble_eq_true rfl, Nat.le_of_ble_eq_true rfl⟩ (xR_o xci4 rfl (xj_m (by decide) (by decide) rfl)) rfl (Nat.le_of_ble_eq_true rfl) ⟨Nat.le_of_ble_eq_true rfl, Nat.le_of_ble_eq_true rfl⟩ dX2_bestWorth_94 (xPv_i ?_) xN_e
            refine x_top (y := nI p1) (e1) ?_
            refine x_aload_n C dX2_bestWorth_97 rfl 4 rfl ?_
            refine x_bipush (v := 10) C dX2_bestWorth_98 (by decide) ?_
            refine x_iload_n C dX2_bestWorth_100 rfl 5 rfl ?_
            refine x_imul C dX2_bestWorth_101 ?_
            refine x_iload C dX2_bestWorth_102 0 rfl ?_
            refine x_iadd C dX2_bestWorth_104 ?_
            refine x_top (y := nI (10 * j + s)) (nI_at) ?_
            refine x_callV (rest := [.int (nI p1)]) C (k2_pullOfSlot hI R9 hW (j := j) (s := s) (by omega) hs) cf_X2_131 ⟨rfl, hd_X2_pullOfSlot⟩ ⟨Nat.le_of_ble_eq_true rfl, Nat.le_of_ble_eq_true rfl⟩ (xR_o xci4 rfl (xj_m (by decide) (by decide) rfl)) rfl (Nat.le_of_ble_eq_true rfl) ⟨Nat.le_of_ble_eq_true rfl, Nat.le_of_ble_eq_true rfl⟩ dX2_bestWorth_105 (xPv_i ?_) xN_e
            refine x_top (y := nI p2) (e2) ?_
            refine x_isub C dX2_bestWorth_108 ?_
            refine x_istore (lv' := [(7, .int ((nI p1) - (nI p2))), (6, .int (nI s)), (5, .int (nI d)), (4, .int (nI i)), (3, .int sm), (0, .ref (ad (ro 16 0))), (1, .int (nI j)), (2, .int (nI N9))]) C dX2_bestWorth_109 (by decide) rfl ?_
            refine x_iload_n C dX2_bestWorth_111 rfl 4 rfl ?_
            refine x_iload C dX2_bestWorth_112 0 rfl ?_
            refine x_if_le (tgt := 122) C dX2_bestWorth_114 (by decide) (fun c4 => ?_) (fun c4 => ?_)
            · refine x_iconst (v := 0) C dX2_bestWorth_122 (by decide) ?_
              refine x_iadd C dX2_bestWorth_123 ?_
              refine x_istore_n (lv' := [(3, .int (sm + 0)), (7, .int ((nI p1) - (nI p2))), (6, .int (nI s)), (5, .int (nI d)), (4, .int (nI i)), (0, .ref (ad (ro 16 0))), (1, .int (nI j)), (2, .int (nI N9))]) C dX2_bestWorth_124 rfl (by decide) rfl ?_
              refine x_aload_n C dX2_bestWorth_125 rfl 5 rfl ?_
              refine x_get C fl_X2_74 (r := ro 16 0) rfl (xj_m (by decide) (by decide) rfl) (v := .ref (ad (ro 17 23))) rfl dX2_bestWorth_126 ?_
              refine x_iload C dX2_bestWorth_129 3 rfl ?_
              refine x_iconst (v := 1) C dX2_bestWorth_131 (by decide) ?_
              refine m_rzst C 23 d rfl rfl rfl (show d < 30 by omega) rfl rfl dX2_bestWorth_132 ?_
              refine x_aload_n C dX2_bestWorth_133 rfl 5 rfl ?_
              refine x_get C fl_X2_77 (r := ro 16 0) rfl (xj_m (by decide) (by decide) rfl) (v := .ref (ad (ro 17 24))) rfl dX2_bestWorth_134 ?_
              refine x_iload C dX2_bestWorth_137 2 rfl ?_
              refine x_iconst (v := 1) C dX2_bestWorth_139 (by decide) ?_
              refine m_rzst C 24 s rfl rfl rfl hs rfl rfl dX2_bestWorth_140 ?_
              refine x_iinc (k := 4) (v := nI (i + 1)) (lv' := [(4, .int (nI (i + 1))), (3, .int (sm + 0)), (7, .int ((nI p1) - (nI p2))), (6, .int (nI s)), (5, .int (nI d)), (0, .ref (ad (ro 16 0))), (1, .int (nI j)), (2, .int (nI N9))]) C dX2_bestWorth_141 rfl (nI_1 i) (by decide) rfl ?_
              refine x_goto (tgt := 65) C dX2_bestWorth_144 (by decide) ?_
              refine x_lv (lv' := [(4, .int (nI (i + 1))), (3, .int (sm + 0)), (0, .ref (ad (ro 16 0))), (1, .int (nI j)), (2, .int (nI N9))]) [0, 1, 5, 6, 7] rfl ?_
              rw [if_neg (Int32.not_lt.mpr c4)] at hv
              refine ih (i + 1) (nt - 1) (nh - 1) _ _ _ _ _ _ (by omega) hv (hE.congr (fun a ha => ?_)) hPT (hH.congr (fun a ha => ?_)) hPH (by omega) ((R9.o (by omega)).o (by omega)) ((xup_n (by omega)).trans ((xup_n (by omega)).trans T9))
              · rw [xup_n (f := 24) (by omega)]
                by_cases ea : a = d
                · subst ea; rw [xup_s]; exact ⟨fun z => absurd rfl z.2, fun z => absurd z.2 (by decide)⟩
                · rw [xup_n (by omega)]; exact ⟨fun z => z.1, fun z => ⟨z, ea⟩⟩
              · by_cases ea : a = s
                · subst ea; rw [xup_s]; exact ⟨fun z => absurd rfl z.2, fun z => absurd z (by decide)⟩
                · rw [xup_n (by omega), xup_n (by omega)]; exact ⟨fun z => z.1, fun z => ⟨z, ea⟩⟩
            · refine x_iload C dX2_bestWorth_117 0 rfl ?_
              refine x_goto (tgt := 123) C dX2_bestWorth_119 (by decide) ?_
              refine x_iadd C dX2_bestWorth_123 ?_
              refine x_istore_n (lv' := [(3, .int (sm + ((nI p1) - (nI p2)))), (7, .int ((nI p1) - (nI p2))), (6, .int (nI s)), (5, .int (nI d)), (4, .int (nI i)), (0, .ref (ad (ro 16 0))), (1, .int (nI j)), (2, .int (nI N9))]) C dX2_bestWorth_124 rfl (by decide) rfl ?_
              refine x_aload_n C dX2_bestWorth_125 rfl 5 rfl ?_
              refine x_get C fl_X2_74 (r := ro 16 0) rfl (xj_m (by decide) (by decide) rfl) (v := .ref (ad (ro 17 23))) rfl dX2_bestWorth_126 ?_
              refine x_iload C dX2_bestWorth_129 3 rfl ?_
              refine x_iconst (v := 1) C dX2_bestWorth_131 (by decide) ?_
              refine m_rzst C 23 d rfl rfl rfl (show d < 30 by omega) rfl rfl dX2_bestWorth_132 ?_
              refine x_aload_n C dX2_bestWorth_133 rfl 5 rfl ?_
              refine x_get C fl_X2_77 (r := ro 16 0) rfl (xj_m (by decide) (by decide) rfl) (v := .ref (ad (ro 17 24))) rfl dX2_bestWorth_134 ?_
              refine x_iload C dX2_bestWorth_137 2 rfl ?_
              refine x_iconst (v := 1) C dX2_bestWorth_139 (by decide) ?_
              refine m_rzst C 24 s rfl rfl rfl hs rfl rfl dX2_bestWorth_140 ?_
              refine x_iinc (k := 4) (v := nI (i + 1)) (lv' := [(4, .int (nI (i + 1))), (3, .int (sm + ((nI p1) - (nI p2)))), (7, .int ((nI p1) - (nI p2))), (6, .int (nI s)), (5, .int (nI d)), (0, .ref (ad (ro 16 0))), (1, .int (nI j)), (2, .int (nI N9))]) C dX2_bestWorth_141 rfl (nI_1 i) (by decide) rfl ?_
              refine x_goto (tgt := 65) C dX2_bestWorth_144 (by decide) ?_
              refine x_lv (lv' := [(4, .int (nI (i + 1))), (3, .int (sm + ((nI p1) - (nI p2)))), (0, .ref (ad (ro 16 0))), (1, .int (nI j)), (2, .int (nI N9))]) [0, 1, 5, 6, 7] rfl ?_
              rw [if_pos (Int32.not_le.mp c4)] at hv
              refine ih (i + 1) (nt - 1) (nh - 1) _ _ _ _ _ _ (by omega) hv (hE.congr (fun a ha => ?_)) hPT (hH.congr (fun a ha => ?_)) hPH (by omega) ((R9.o (by omega)).o (by omega)) ((xup_n (by omega)).trans ((xup_n (by omega)).trans T9))
              · rw [xup_n (f := 24) (by omega)]
                by_cases ea : a = d
                · subst ea; rw [xup_s]; exact ⟨fun z => absurd rfl z.2, fun z => absurd z.2 (by decide)⟩
                · rw [xup_n (by omega)]; exact ⟨fun z => z.1, fun z => ⟨z, ea⟩⟩
              · by_cases ea : a = s
                · subst ea; rw [xup_s]; exact ⟨fun z => absurd rfl z.2, fun z => absurd z (by decide)⟩
                · rw [xup_n (by omega), xup_n (by omega)]; exact ⟨fun z => z.1, fun z => ⟨z, ea⟩⟩
      have reset : ∀ (r k : Nat) (μ9 : xSg), k + r = 30 → xRl κ σ μ9 → μ9 29 0 0 = 0 → (∀ d, d < k → μ9 23 d 0 = 0) → (∀ s, s < 10 → s < k → μ9 24 s 0 = 0) → xX F (xQ F (rP F.1 ad c t (oBest κ σ (nI j) (nI N9))) xN 0 0) ad (xj c (xkM F.1.2.2.1 ad μ9) t) 0 0 31 [(3, .int (nI k)), (0, .ref (ad (ro 16 0))), (1, .int (nI j)), (2, .int (nI N9))] [] := by
        intro r
        induction r with
        | zero =>
          intro k μ9 hk R9 T9 h23 h24
          obtain rfl : k = 30 := by omega
          refine x_iload_n C dX2_bestWorth_31 rfl 0 rfl ?_
          refine x_bipush (v := 30) C dX2_bestWorth_32 (by decide) ?_
          refine x_icmp_ge (tgt := 60) C dX2_bestWorth_34 (by decide) (fun _ => ?_) (fun h => absurd (by decide) h)
          refine x_iconst (v := 0) C dX2_bestWorth_60 (by decide) ?_
          refine x_istore_n (lv' := [(3, .int 0), (0, .ref (ad (ro 16 0))), (1, .int (nI j)), (2, .int (nI N9))]) C dX2_bestWorth_61 rfl (by decide) rfl ?_
          refine x_iconst (v := 0) C dX2_bestWorth_62 (by decide) ?_
          refine x_istore (lv' := [(4, .int 0), (3, .int 0), (0, .ref (ad (ro 16 0))), (1, .int (nI j)), (2, .int (nI N9))]) C dX2_bestWorth_63 (by decide) rfl ?_
          refine x_lv (lv' := [(4, .int 0), (3, .int 0), (0, .ref (ad (ro 16 0))), (1, .int (nI j)), (2, .int (nI N9))]) [0, 1, 2, 3, 4] rfl ?_
          obtain ⟨e, he, hpt⟩ := sTh_en (σ := σ) (ta := σ 6 j 0) (κ 0)
          exact main N9 0 _ 10 _ (sPh σ j) e (fun k => k) 0 μ9 (by omega) rfl (he.congr (fun a ha => ⟨fun z => ⟨z, h23 a (by omega)⟩, fun z => z.1⟩)) hpt ⟨fun k hk => ⟨hk, h24 k hk (by omega)⟩, fun a b hab _ => hab, fun d hd _ => ⟨d, hd, rfl⟩⟩ (fun k hk => rfl) (by omega) R9 T9
        | succ r ih =>
          intro k μ9 hk R9 T9 h23 h24
          refine x_iload_n C dX2_bestWorth_31 rfl 0 rfl ?_
          refine x_bipush (v := 30) C dX2_bestWorth_32 (by decide) ?_
          refine x_icmp_ge (tgt := 60) C dX2_bestWorth_34 (by decide) (fun h => absurd ((nI_le_iff (a := 30) (by omega) (by omega)).mp h) (by omega)) (fun _ => ?_)
          refine x_aload_n C dX2_bestWorth_37 rfl 1 rfl ?_
          refine x_get C fl_X2_74 (r := ro 16 0) rfl (xj_m (by decide) (by decide) rfl) (v := .ref (ad (ro 17 23))) rfl dX2_bestWorth_38 ?_
          refine x_iload_n C dX2_bestWorth_41 rfl 0 rfl ?_
          refine x_iconst (v := 0) C dX2_bestWorth_42 (by decide) ?_
          refine m_rzst C 23 k rfl rfl rfl (show k < 30 by omega) rfl rfl dX2_bestWorth_43 ?_
          refine x_aload_n C dX2_bestWorth_44 rfl 1 rfl ?_
          refine x_get C fl_X2_77 (r := ro 16 0) rfl (xj_m (by decide) (by decide) rfl) (v := .ref (ad (ro 17 24))) rfl dX2_bestWorth_45 ?_
          refine x_iload_n C dX2_bestWorth_48 rfl 0 rfl ?_
          refine x_bipush (v := 10) C dX2_bestWorth_49 (by decide) ?_
          refine x_irem C dX2_bestWorth_51 (by decide) ?_
          refine x_top (y := nI (k % 10)) (nI_mod10 (by omega)) ?_
          refine x_iconst (v := 0) C dX2_bestWorth_52 (by decide) ?_
          refine m_rzst C 24 (k % 10) rfl rfl rfl (show k % 10 < 10 by omega) rfl rfl dX2_bestWorth_53 ?_
          refine x_iinc (k := 0) (v := nI (k + 1)) (lv' := [(3, .int (nI (k + 1))), (0, .ref (ad (ro 16 0))), (1, .int (nI j)), (2, .int (nI N9))]) C dX2_bestWorth_54 rfl (nI_1 k) (by decide) rfl ?_
          refine x_goto (tgt := 31) C dX2_bestWorth_57 (by decide) ?_
          refine x_lv (lv' := [(3, .int (nI (k + 1))), (0, .ref (ad (ro 16 0))), (1, .int (nI j)), (2, .int (nI N9))]) [0, 1, 2, 3] rfl ?_
          refine ih (k + 1) _ (by omega) ((R9.o (by omega)).o (by omega)) ((xup_n (by omega)).trans ((xup_n (by omega)).trans T9)) (fun d hd => ?_) (fun s hs hs2 => ?_)
          · rw [xup_n (by omega)]
            by_cases ed : d = k
            · subst ed; exact xup_s
            · rw [xup_n (by omega)]; exact h23 d (by omega)
          · by_cases es : s = k % 10
            · subst es; exact xup_s
            · rw [xup_n (by omega), xup_n (by omega)]; exact h24 s hs (by omega)
      refine x_lv (lv' := [(3, .int 0), (0, .ref (ad (ro 16 0))), (1, .int (nI j)), (2, .int (nI N9))]) [0, 1, 2, 3] rfl ?_
      exact reset 30 0 μ2 (by omega) R2 T2 (fun d hd => absurd hd (Nat.not_lt_zero _)) (fun s _ hs => absurd hs (Nat.not_lt_zero _))
    · refine x_iconst (v := 2) C dX2_bestWorth_20 (by decide) ?_
      refine m_no0 (p := 2) C R1 (Nat.le_of_ble_eq_true rfl) ⟨Nat.le_of_ble_eq_true rfl, Nat.le_of_ble_eq_true rfl⟩ ⟨Nat.le_of_ble_eq_true rfl, Nat.le_of_ble_eq_true rfl⟩ dX2_bestWorth_21 (fun μ2 R2 T2 => ?_)
      refine x_if_eq (tgt := 29) C dX2_bestWorth_24 (by decide) (fun h => absurd h (by decide)) (fun _ => ?_)
      refine x_iconst (v := 0) C dX2_bestWorth_27 (by decide) ?_
      exact x_iret C dX2_bestWorth_28 (Nat.le_of_ble_eq_true rfl) (Nat.le_of_ble_eq_true rfl) (rP_of ((if_pos c1).trans (if_neg c2)) R2 T2 (fun _ => rfl))
  · refine x_iconst (v := 1) C dX2_bestWorth_6 (by decide) ?_
    refine m_no0 (p := 1) C R (Nat.le_of_ble_eq_true rfl) ⟨Nat.le_of_ble_eq_true rfl, Nat.le_of_ble_eq_true rfl⟩ ⟨Nat.le_of_ble_eq_true rfl, Nat.le_of_ble_eq_true rfl⟩ dX2_bestWorth_7 (fun μ1 R1 T1 => ?_)
    refine x_if_ne (tgt := 27) C dX2_bestWorth_10 (by decide) (fun _ => ?_) (fun h => absurd h (by decide))
    refine x_iconst (v := 0) C dX2_bestWorth_27 (by decide) ?_
    exact x_iret C dX2_bestWorth_28 (Nat.le_of_ble_eq_true rfl) (Nat.le_of_ble_eq_true rfl) (rP_of (if_neg c1) R1 T1 (fun _ => rfl))
