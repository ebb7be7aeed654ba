/-! ===== THE WORLD OF THE CLAIM: role of kind k and index i ===== -/
def ro (k i : Nat) : Nat := 64 * i + k
theorem ro_inj {k i k' i' : Nat} (hk : k < 64) (hk' : k' < 64) (h : ro k i = ro k' i') : k = k' ∧ i = i' := by unfold ro at h; omega
theorem ro_k {k i : Nat} (hk : k < 64) : ro k i % 64 = k := by unfold ro; omega
theorem ro_i {k i : Nat} (hk : k < 64) : ro k i / 64 = i := by unfold ro; omega
theorem ro_self (r : Nat) : ro (r % 64) (r / 64) = r := by unfold ro; omega
abbrev xK : Type := Nat → Nat → Option va_E
def xj (c m t : xK) : xCt := fun r => if r % 64 < 16 then c (r % 64) (r / 64) else if r % 64 < 40 then m (r % 64) (r / 64) else t (r % 64) (r / 64)
def cu (c : xK) (k i : Nat) (e : va_E) : xK := fun k' i' => if k' = k ∧ i' = i then some e else c k' i'
def cd (c : xK) (k i : Nat) : xK := fun k' i' => if k' = k ∧ i' = i then none else c k' i'
theorem xj_c {c m t : xK} {k i : Nat} {o : Option va_E} (hk : k < 16) (h : c k i = o) : xj c m t (ro k i) = o := by
  unfold xj
  rw [ro_k (by omega), ro_i (by omega), if_pos hk]
  exact h
theorem xj_m {c m t : xK} {k i : Nat} {o : Option va_E} (hk : 16 ≤ k) (hk' : k < 40) (h : m k i = o) : xj c m t (ro k i) = o := by
  unfold xj
  rw [ro_k (by omega), ro_i (by omega), if_neg (by omega), if_pos hk']
  exact h
theorem xj_t {c m t : xK} {k i : Nat} {o : Option va_E} (hk : 40 ≤ k) (hk' : k < 64) (h : t k i = o) : xj c m t (ro k i) = o := by
  unfold xj
  rw [ro_k (by omega), ro_i (by omega), if_neg (by omega), if_neg (by omega)]
  exact h
theorem xj_uc {c m t : xK} {k i : Nat} {e : va_E} (hk : k < 16) : xu (xj c m t) (ro k i) e = xj (cu c k i e) m t := by
  funext r
  by_cases h : r = ro k i
  · subst h
    rw [xu_s, xj_c hk (if_pos ⟨rfl, rfl⟩)]
  · rw [xu_n h rfl]
    unfold xj
    by_cases h1 : r % 64 < 16
    · rw [if_pos h1, if_pos h1]
      refine (if_neg ?_).symm
      rintro ⟨a, b⟩
      apply h
      rw [← a, ← b, ro_self]
    · rw [if_neg h1, if_neg h1]
theorem xj_um {c m t : xK} {k i : Nat} {e : va_E} (hk : 16 ≤ k) (hk' : k < 40) : xu (xj c m t) (ro k i) e = xj c (cu m k i e) t := by
  funext r
  by_cases h : r = ro k i
  · subst h
    rw [xu_s, xj_m hk hk' (if_pos ⟨rfl, rfl⟩)]
  · rw [xu_n h rfl]
    unfold xj
    by_cases h1 : r % 64 < 16
    · rw [if_pos h1, if_pos h1]
    · rw [if_neg h1, if_neg h1]
      by_cases h2 : r % 64 < 40
      · rw [if_pos h2, if_pos h2]
        refine (if_neg ?_).symm
        rintro ⟨a, b⟩
        apply h
        rw [← a, ← b, ro_self]
      · rw [if_neg h2, if_neg h2]
theorem xj_ut {c m t : xK} {k i : Nat} {e : va_E} (hk : 40 ≤ k) (hk' : k < 64) : xu (xj c m t) (ro k i) e = xj c m (cu t k i e) := by
  funext r
  by_cases h : r = ro k i
  · subst h
    rw [xu_s, xj_t hk hk' (if_pos ⟨rfl, rfl⟩)]
  · rw [xu_n h rfl]
    unfold xj
    by_cases h1 : r % 64 < 16
    · rw [if_pos h1, if_pos h1]
    · rw [if_neg h1, if_neg h1]
      by_cases h2 : r % 64 < 40
      · rw [if_pos h2, if_pos h2]
      · rw [if_neg h2, if_neg h2]
        refine (if_neg ?_).symm
        rintro ⟨a, b⟩
        apply h
        rw [← a, ← b, ro_self]
/-- a reading of r in a world, by its kind -/
theorem xj_eq {c m t c' m' t' : xK} (h1 : ∀ k i, k < 16 → c k i = c' k i) (h2 : ∀ k i, 16 ≤ k → k < 40 → m k i = m' k i) (h3 : ∀ k i, 40 ≤ k → k < 64 → t k i = t' k i) : xj c m t = xj c' m' t' := by
  funext r
  unfold xj
  by_cases a : r % 64 < 16
  · rw [if_pos a, if_pos a]; exact h1 _ _ a
  · rw [if_neg a, if_neg a]
    by_cases b : r % 64 < 40
    · rw [if_pos b, if_pos b]; exact h2 _ _ (by omega) b
    · rw [if_neg b, if_neg b]; exact h3 _ _ (by omega) (by omega)
abbrev xSg : Type := Nat → Nat → Nat → Int32
def xup (σ : xSg) (f i j : Nat) (v : Int32) : xSg := fun f' i' j' => if f' = f ∧ i' = i ∧ j' = j then v else σ f' i' j'
/-- the lists' numbers: 0 discs, 1 boxes, 2 and 3 the arrays' lengths, 10 + j box j's queue, 20 + j its array's length -/
abbrev xKp : Type := Nat → Nat
def kup (κ : xKp) (f v : Nat) : xKp := fun f' => if f' = f then v else κ f'
/-- an ArrayList's object and its array: modCount, the array's length (0: the shared empty one), how many, the elements -/
def xL (g : Nat → Nat) (aA : Nat) (cap n : Nat) (md : Int32) : va_E := .inr (1, [.int md, .ref (if cap = 0 then g 301 else aA), .int (nI n)])
def xLa (g : Nat → Nat) (cap n : Nat) (el : Nat → Nat) : Option va_E := if cap = 0 then none else some (.inl (g 1004, cap, .inr (.inr (.inr (.inr (fun k => if k < n then some (el k) else none))))))
def xDisc (σ : xSg) (i : Nat) : va_E := .inr (2, [.int (σ 0 i 0), .int (σ 1 i 0), .int (σ 2 i 0), .int (σ 3 i 0), .int (σ 4 i 0)])
def xBox (ad : Nat → Nat) (σ : xSg) (j : Nat) : va_E := .inr (3, [.int (σ 5 j 0), .int (σ 6 j 0), .ref (ad (ro 6 j)), .ref (ad (ro 7 j)), .ref (ad (ro 8 j)), .ref (ad (ro 9 j)), .int (σ 8 j 0), .int (σ 9 j 0), .int (σ 10 j 0), .int (σ 7 j 0), .int (σ 11 j 0), .int (σ 12 j 0), .int (σ 13 j 0), .int (σ 14 j 0), .int (σ 15 j 0)])
/-- the machine's side: an object of SelectoRoute with all that it reaches -/
def xkC (g ad : Nat → Nat) (κ : xKp) (σ : xSg) : xK := fun k i => match k with
  | 0 => if i = 0 then some (.inr (0, [.ref (ad (ro 1 0)), .ref (ad (ro 3 0)), .int (σ 21 0 0), .int (σ 22 0 0), .int (σ 23 0 0), .int (σ 25 0 0), .long (σ 24 0 0).toInt64])) else none
  | 1 => if i = 0 then some (xL g (ad (ro 2 0)) (κ 2) (κ 0) (σ 26 0 0)) else none
  | 2 => if i = 0 then xLa g (κ 2) (κ 0) (fun k => ad (ro 11 k)) else none
  | 3 => if i = 0 then some (xL g (ad (ro 4 0)) (κ 3) (κ 1) (σ 27 0 0)) else none
  | 4 => if i = 0 then xLa g (κ 3) (κ 1) (fun k => ad (ro 5 k)) else none
  | 5 => if i < κ 1 then some (xBox ad σ i) else none
  | 6 => if i < κ 1 then some (.inl (g 1000, 10, .inl (fun s => σ 17 i s))) else none
  | 7 => if i < κ 1 then some (.inl (g 1000, 10, .inl (fun s => σ 18 i s))) else none
  | 8 => if i < κ 1 then some (.inl (g 1000, 100, .inl (fun s => σ 19 i s))) else none
  | 9 => if i < κ 1 then some (xL g (ad (ro 10 i)) (κ (20 + i)) (κ (10 + i)) (σ 28 i 0)) else none
  | 10 => if i < κ 1 then xLa g (κ (20 + i)) (κ (10 + i)) (fun k => g (128 + (σ 20 i k).toNatClampNeg)) else none
  | 11 => if i < κ 0 then some (xDisc σ i) else none
  | _ => none
def xmLen (f : Nat) : Nat := if f ≤ 4 then 30 else if f = 13 then 32 else if f ≤ 18 then 4 else if f ≤ 21 then 40 else if f = 22 then 400 else if f = 23 then 30 else 10
def xmArr (f : Nat) : Bool := f ≤ 24 && f != 5 && f != 19
def xmBool (f : Nat) : Bool := f == 17 || f == 18 || f == 23 || f == 24
/-- the reference's side -/
def xkM (g ad : Nat → Nat) (μ : xSg) : xK := fun k i => match k with
  | 16 => if i = 0 then some (.inr (4, [.ref (ad (ro 17 0)), .ref (ad (ro 17 1)), .ref (ad (ro 17 2)), .ref (ad (ro 17 3)), .ref (ad (ro 17 4)), .int (μ 5 0 0), .ref (ad (ro 17 6)), .ref (ad (ro 17 7)), .ref (ad (ro 17 8)), .ref (ad (ro 17 9)), .ref (ad (ro 17 10)), .ref (ad (ro 17 11)), .ref (ad (ro 17 12)), .ref (ad (ro 17 13)), .ref (ad (ro 17 14)), .ref (ad (ro 17 15)), .ref (ad (ro 17 16)), .ref (ad (ro 17 17)), .ref (ad (ro 17 18)), .int (μ 19 0 0), .ref (ad (ro 17 20)), .ref (ad (ro 17 21)), .ref (ad (ro 17 22)), .ref (ad (ro 17 23)), .ref (ad (ro 17 24)), .int (μ 25 0 0), .int (μ 26 0 0), .int (μ 27 0 0), .int (μ 28 0 0), .int (μ 29 0 0)])) else none
  | 17 => if xmArr i then some (.inl (if xmBool i then g 1001 else g 1000, xmLen i, .inl (fun a => μ i a 0))) else none
  | _ => none
theorem xup_s {σ : xSg} {f i j : Nat} {v : Int32} : xup σ f i j v f i j = v := if_pos ⟨rfl, rfl, rfl⟩
theorem xup_n {σ : xSg} {f i j f' i' j' : Nat} {v : Int32} (h : ¬ (f' = f ∧ i' = i ∧ j' = j)) : xup σ f i j v f' i' j' = σ f' i' j' := if_neg h
section XPUT
variable {F : xFr} {cc : ByteArray} {nL : Nat} {own : String} {ret : Option FieldType} {rm : Room} {nm : String} {tb : List ExceptionTableEntry} {Q : State → Prop} {ad : Nat → Nat} {ct : xCt} {cells slots pc : Nat} {lv : List (Nat × Value)} {rest st : List Value}
variable {c c' m m' t t' : xK} {k i : Nat} {e : va_E} {g : Nat → Nat} {κ : xKp} {σ μ : xSg}
theorem x_pc (hk : k < 16) (h : cu c k i e = c') (kk : xX F Q ad (xj c' m t) cells slots pc lv st) : xX F Q ad (xu (xj c m t) (ro k i) e) cells slots pc lv st := by rw [xj_uc hk, h]; exact kk
theorem x_pm (hk : 16 ≤ k) (hk' : k < 40) (h : cu m k i e = m') (kk : xX F Q ad (xj c m' t) cells slots pc lv st) : xX F Q ad (xu (xj c m t) (ro k i) e) cells slots pc lv st := by rw [xj_um hk hk', h]; exact kk
theorem x_pt (hk : 40 ≤ k) (hk' : k < 64) (h : cu t k i e = t') (kk : xX F Q ad (xj c m t') cells slots pc lv st) : xX F Q ad (xu (xj c m t) (ro k i) e) cells slots pc lv st := by rw [xj_ut hk hk', h]; exact kk
theorem x_eq {ct' : xCt} (h : ct = ct') (kk : xX F Q ad ct' cells slots pc lv st) : xX F Q ad ct cells slots pc lv st := h ▸ kk
theorem xkC_box (hj : i < κ 1) : xkC g ad κ σ 5 i = some (xBox ad σ i) := if_pos hj
theorem xkC_slots (hj : i < κ 1) : xkC g ad κ σ 6 i = some (.inl (g 1000, 10, .inl (fun s => σ 17 i s))) := if_pos hj
theorem xkC_wheels (hj : i < κ 1) : xkC g ad κ σ 7 i = some (.inl (g 1000, 10, .inl (fun s => σ 18 i s))) := if_pos hj
theorem xkC_asked (hj : i < κ 1) : xkC g ad κ σ 8 i = some (.inl (g 1000, 100, .inl (fun s => σ 19 i s))) := if_pos hj
theorem xkC_q (hj : i < κ 1) : xkC g ad κ σ 9 i = some (xL g (ad (ro 10 i)) (κ (20 + i)) (κ (10 + i)) (σ 28 i 0)) := if_pos hj
theorem xkC_qa (hj : i < κ 1) (hc : κ (20 + i) ≠ 0) : xkC g ad κ σ 10 i = some (.inl (g 1004, κ (20 + i), .inr (.inr (.inr (.inr (fun k => if k < κ (10 + i) then some (g (128 + (σ 20 i k).toNatClampNeg)) else none)))))) := (if_pos hj).trans (if_neg hc)
theorem xkC_disc (hj : i < κ 0) : xkC g ad κ σ 11 i = some (xDisc σ i) := if_pos hj
theorem xkC_da (hc : κ 2 ≠ 0) : xkC g ad κ σ 2 0 = some (.inl (g 1004, κ 2, .inr (.inr (.inr (.inr (fun k => if k < κ 0 then some (ad (ro 11 k)) else none)))))) := if_neg hc
theorem xkC_ba (hc : κ 3 ≠ 0) : xkC g ad κ σ 4 0 = some (.inl (g 1004, κ 3, .inr (.inr (.inr (.inr (fun k => if k < κ 1 then some (ad (ro 5 k)) else none)))))) := if_neg hc
/-- a writing of an object's own numbers -/
theorem pc_sr {σ' : xSg} (h : ∀ f i s, (f < 21 ∨ 25 < f) → σ' f i s = σ f i s) : cu (xkC g ad κ σ) 0 0 (.inr (0, [.ref (ad (ro 1 0)), .ref (ad (ro 3 0)), .int (σ' 21 0 0), .int (σ' 22 0 0), .int (σ' 23 0 0), .int (σ' 25 0 0), .long (σ' 24 0 0).toInt64])) = xkC g ad κ σ' := by
  funext k i
  unfold cu
  by_cases hh : k = 0 ∧ i = 0
  · obtain ⟨rfl, rfl⟩ := hh
    rw [if_pos ⟨rfl, rfl⟩]; rfl
  · rw [if_neg hh]
    have q : ∀ f, (f < 21 ∨ 25 < f) → σ' f = σ f := fun f hf => by funext i s; exact h f i s hf
    unfold xkC
    split
    · have : ¬ i = 0 := fun e => hh ⟨rfl, e⟩
      rw [if_neg this, if_neg this]
    all_goals simp only [xBox, xDisc, q 0 (by omega), q 1 (by omega), q 2 (by omega), q 3 (by omega), q 4 (by omega), q 5 (by omega), q 6 (by omega), q 7 (by omega), q 8 (by omega), q 9 (by omega), q 10 (by omega), q 11 (by omega), q 12 (by omega), q 13 (by omega), q 14 (by omega), q 15 (by omega), q 17 (by omega), q 18 (by omega), q 19 (by omega), q 20 (by omega), q 26 (by omega), q 27 (by omega), q 28 (by omega)]
theorem pc_gen {k0 i0 : Nat} {e0 : va_E} {σ' : xSg} (h0 : xkC g ad κ σ' k0 i0 = some e0) (h : ∀ k i, ¬ (k = k0 ∧ i = i0) → xkC g ad κ σ k i = xkC g ad κ σ' k i) : cu (xkC g ad κ σ) k0 i0 e0 = xkC g ad κ σ' := by
  funext k i
  unfold cu
  by_cases hh : k = k0 ∧ i = i0
  · obtain ⟨rfl, rfl⟩ := hh
    rw [if_pos ⟨rfl, rfl⟩]; exact h0.symm
  · rw [if_neg hh]; exact h k i hh
theorem pc_box {σ' : xSg} (hj : i < κ 1) (h : ∀ f j s, (f < 5 ∨ 15 < f ∨ j ≠ i) → σ' f j s = σ f j s) : cu (xkC g ad κ σ) 5 i (xBox ad σ' i) = xkC g ad κ σ' := by
  refine pc_gen (if_pos hj) (fun k j hh => ?_)
  have q : ∀ f, (f < 5 ∨ 15 < f) → σ' f = σ f := fun f hf => by funext i s; exact h f i s (by omega)
  have q2 : ∀ f j, j ≠ i → σ' f j = σ f j := fun f j hf => by funext s; exact h f j s (by omega)
  unfold xkC
  split
  case h_6 =>
    have : j ≠ i := fun e => hh ⟨rfl, e⟩
    simp only [xBox, q2 _ j this]
  all_goals simp only [xDisc, q 0 (by omega), q 1 (by omega), q 2 (by omega), q 3 (by omega), q 4 (by omega), q 17 (by omega), q 18 (by omega), q 19 (by omega), q 20 (by omega), q 21 (by omega), q 22 (by omega), q 23 (by omega), q 24 (by omega), q 25 (by omega), q 26 (by omega), q 27 (by omega), q 28 (by omega)]
theorem pc_disc {σ' : xSg} (hj : i < κ 0) (h : ∀ f j s, (4 < f ∨ j ≠ i) → σ' f j s = σ f j s) : cu (xkC g ad κ σ) 11 i (xDisc σ' i) = xkC g ad κ σ' := by
  refine pc_gen (if_pos hj) (fun k j hh => ?_)
  have q : ∀ f, (4 < f) → σ' f = σ f := fun f hf => by funext i s; exact h f i s (by omega)
  have q2 : ∀ f j, j ≠ i → σ' f j = σ f j := fun f j hf => by funext s; exact h f j s (by omega)
  unfold xkC
  split
  case h_12 =>
    have : j ≠ i := fun e => hh ⟨rfl, e⟩
    simp only [xDisc, q2 _ j this]
  all_goals simp only [xBox, q 5 (by omega), q 6 (by omega), q 7 (by omega), q 8 (by omega), q 9 (by omega), q 10 (by omega), q 11 (by omega), q 12 (by omega), q 13 (by omega), q 14 (by omega), q 15 (by omega), q 17 (by omega), q 18 (by omega), q 19 (by omega), q 20 (by omega), q 21 (by omega), q 22 (by omega), q 23 (by omega), q 24 (by omega), q 25 (by omega), q 26 (by omega), q 27 (by omega), q 28 (by omega)]
theorem pc_sr21 {v : Int32} : cu (xkC g ad κ σ) 0 0 (.inr (0, [.ref (ad (ro 1 0)), .ref (ad (ro 3 0)), .int v, .int (σ 22 0 0), .int (σ 23 0 0), .int (σ 25 0 0), .long (σ 24 0 0).toInt64])) = xkC g ad κ (xup σ 21 0 0 v) := by
  have h := pc_sr (g := g) (ad := ad) (κ := κ) (σ := σ) (σ' := xup σ 21 0 0 v) (fun f i s h => xup_n (by omega))
  simpa [xup] using h
theorem pc_sr22 {v : Int32} : cu (xkC g ad κ σ) 0 0 (.inr (0, [.ref (ad (ro 1 0)), .ref (ad (ro 3 0)), .int (σ 21 0 0), .int v, .int (σ 23 0 0), .int (σ 25 0 0), .long (σ 24 0 0).toInt64])) = xkC g ad κ (xup σ 22 0 0 v) := by
  have h := pc_sr (g := g) (ad := ad) (κ := κ) (σ := σ) (σ' := xup σ 22 0 0 v) (fun f i s h => xup_n (by omega))
  simpa [xup] using h
theorem pc_sr23 {v : Int32} : cu (xkC g ad κ σ) 0 0 (.inr (0, [.ref (ad (ro 1 0)), .ref (ad (ro 3 0)), .int (σ 21 0 0), .int (σ 22 0 0), .int v, .int (σ 25 0 0), .long (σ 24 0 0).toInt64])) = xkC g ad κ (xup σ 23 0 0 v) := by
  have h := pc_sr (g := g) (ad := ad) (κ := κ) (σ := σ) (σ' := xup σ 23 0 0 v) (fun f i s h => xup_n (by omega))
  simpa [xup] using h
theorem pc_sr25 {v : Int32} : cu (xkC g ad κ σ) 0 0 (.inr (0, [.ref (ad (ro 1 0)), .ref (ad (ro 3 0)), .int (σ 21 0 0), .int (σ 22 0 0), .int (σ 23 0 0), .int v, .long (σ 24 0 0).toInt64])) = xkC g ad κ (xup σ 25 0 0 v) := by
  have h := pc_sr (g := g) (ad := ad) (κ := κ) (σ := σ) (σ' := xup σ 25 0 0 v) (fun f i s h => xup_n (by omega))
  simpa [xup] using h
theorem pc_sr24 {v : Int32} : cu (xkC g ad κ σ) 0 0 (.inr (0, [.ref (ad (ro 1 0)), .ref (ad (ro 3 0)), .int (σ 21 0 0), .int (σ 22 0 0), .int (σ 23 0 0), .int (σ 25 0 0), .long v.toInt64])) = xkC g ad κ (xup σ 24 0 0 v) := by
  have h := pc_sr (g := g) (ad := ad) (κ := κ) (σ := σ) (σ' := xup σ 24 0 0 v) (fun f i s h => xup_n (by omega))
  simpa [xup] using h
theorem pc_box8 {v : Int32} (hj : i < κ 1) : cu (xkC g ad κ σ) 5 i (.inr (3, [.int (σ 5 i 0), .int (σ 6 i 0), .ref (ad (ro 6 i)), .ref (ad (ro 7 i)), .ref (ad (ro 8 i)), .ref (ad (ro 9 i)), .int v, .int (σ 9 i 0), .int (σ 10 i 0), .int (σ 7 i 0), .int (σ 11 i 0), .int (σ 12 i 0), .int (σ 13 i 0), .int (σ 14 i 0), .int (σ 15 i 0)])) = xkC g ad κ (xup σ 8 i 0 v) := by
  have h := pc_box (g := g) (ad := ad) (κ := κ) (σ := σ) (σ' := xup σ 8 i 0 v) hj (fun f i s h => xup_n (by omega))
  simpa [xup, xBox] using h
theorem pc_box9 {v : Int32} (hj : i < κ 1) : cu (xkC g ad κ σ) 5 i (.inr (3, [.int (σ 5 i 0), .int (σ 6 i 0), .ref (ad (ro 6 i)), .ref (ad (ro 7 i)), .ref (ad (ro 8 i)), .ref (ad (ro 9 i)), .int (σ 8 i 0), .int v, .int (σ 10 i 0), .int (σ 7 i 0), .int (σ 11 i 0), .int (σ 12 i 0), .int (σ 13 i 0), .int (σ 14 i 0), .int (σ 15 i 0)])) = xkC g ad κ (xup σ 9 i 0 v) := by
  have h := pc_box (g := g) (ad := ad) (κ := κ) (σ := σ) (σ' := xup σ 9 i 0 v) hj (fun f i s h => xup_n (by omega))
  simpa [xup, xBox] using h
theorem pc_box10 {v : Int32} (hj : i < κ 1) : cu (xkC g ad κ σ) 5 i (.inr (3, [.int (σ 5 i 0), .int (σ 6 i 0), .ref (ad (ro 6 i)), .ref (ad (ro 7 i)), .ref (ad (ro 8 i)), .ref (ad (ro 9 i)), .int (σ 8 i 0), .int (σ 9 i 0), .int v, .int (σ 7 i 0), .int (σ 11 i 0), .int (σ 12 i 0), .int (σ 13 i 0), .int (σ 14 i 0), .int (σ 15 i 0)])) = xkC g ad κ (xup σ 10 i 0 v) := by
  have h := pc_box (g := g) (ad := ad) (κ := κ) (σ := σ) (σ' := xup σ 10 i 0 v) hj (fun f i s h => xup_n (by omega))
  simpa [xup, xBox] using h
theorem pc_box7 {v : Int32} (hj : i < κ 1) : cu (xkC g ad κ σ) 5 i (.inr (3, [.int (σ 5 i 0), .int (σ 6 i 0), .ref (ad (ro 6 i)), .ref (ad (ro 7 i)), .ref (ad (ro 8 i)), .ref (ad (ro 9 i)), .int (σ 8 i 0), .int (σ 9 i 0), .int (σ 10 i 0), .int v, .int (σ 11 i 0), .int (σ 12 i 0), .int (σ 13 i 0), .int (σ 14 i 0), .int (σ 15 i 0)])) = xkC g ad κ (xup σ 7 i 0 v) := by
  have h := pc_box (g := g) (ad := ad) (κ := κ) (σ := σ) (σ' := xup σ 7 i 0 v) hj (fun f i s h => xup_n (by omega))
  simpa [xup, xBox] using h
theorem pc_box11 {v : Int32} (hj : i < κ 1) : cu (xkC g ad κ σ) 5 i (.inr (3, [.int (σ 5 i 0), .int (σ 6 i 0), .ref (ad (ro 6 i)), .ref (ad (ro 7 i)), .ref (ad (ro 8 i)), .ref (ad (ro 9 i)), .int (σ 8 i 0), .int (σ 9 i 0), .int (σ 10 i 0), .int (σ 7 i 0), .int v, .int (σ 12 i 0), .int (σ 13 i 0), .int (σ 14 i 0), .int (σ 15 i 0)])) = xkC g ad κ (xup σ 11 i 0 v) := by
  have h := pc_box (g := g) (ad := ad) (κ := κ) (σ := σ) (σ' := xup σ 11 i 0 v) hj (fun f i s h => xup_n (by omega))
  simpa [xup, xBox] using h
theorem pc_box12 {v : Int32} (hj : i < κ 1) : cu (xkC g ad κ σ) 5 i (.inr (3, [.int (σ 5 i 0), .int (σ 6 i 0), .ref (ad (ro 6 i)), .ref (ad (ro 7 i)), .ref (ad (ro 8 i)), .ref (ad (ro 9 i)), .int (σ 8 i 0), .int (σ 9 i 0), .int (σ 10 i 0), .int (σ 7 i 0), .int (σ 11 i 0), .int v, .int (σ 13 i 0), .int (σ 14 i 0), .int (σ 15 i 0)])) = xkC g ad κ (xup σ 12 i 0 v) := by
  have h := pc_box (g := g) (ad := ad) (κ := κ) (σ := σ) (σ' := xup σ 12 i 0 v) hj (fun f i s h => xup_n (by omega))
  simpa [xup, xBox] using h
theorem pc_box13 {v : Int32} (hj : i < κ 1) : cu (xkC g ad κ σ) 5 i (.inr (3, [.int (σ 5 i 0), .int (σ 6 i 0), .ref (ad (ro 6 i)), .ref (ad (ro 7 i)), .ref (ad (ro 8 i)), .ref (ad (ro 9 i)), .int (σ 8 i 0), .int (σ 9 i 0), .int (σ 10 i 0), .int (σ 7 i 0), .int (σ 11 i 0), .int (σ 12 i 0), .int v, .int (σ 14 i 0), .int (σ 15 i 0)])) = xkC g ad κ (xup σ 13 i 0 v) := by
  have h := pc_box (g := g) (ad := ad) (κ := κ) (σ := σ) (σ' := xup σ 13 i 0 v) hj (fun f i s h => xup_n (by omega))
  simpa [xup, xBox] using h
theorem pc_box14 {v : Int32} (hj : i < κ 1) : cu (xkC g ad κ σ) 5 i (.inr (3, [.int (σ 5 i 0), .int (σ 6 i 0), .ref (ad (ro 6 i)), .ref (ad (ro 7 i)), .ref (ad (ro 8 i)), .ref (ad (ro 9 i)), .int (σ 8 i 0), .int (σ 9 i 0), .int (σ 10 i 0), .int (σ 7 i 0), .int (σ 11 i 0), .int (σ 12 i 0), .int (σ 13 i 0), .int v, .int (σ 15 i 0)])) = xkC g ad κ (xup σ 14 i 0 v) := by
  have h := pc_box (g := g) (ad := ad) (κ := κ) (σ := σ) (σ' := xup σ 14 i 0 v) hj (fun f i s h => xup_n (by omega))
  simpa [xup, xBox] using h
theorem pc_box15 {v : Int32} (hj : i < κ 1) : cu (xkC g ad κ σ) 5 i (.inr (3, [.int (σ 5 i 0), .int (σ 6 i 0), .ref (ad (ro 6 i)), .ref (ad (ro 7 i)), .ref (ad (ro 8 i)), .ref (ad (ro 9 i)), .int (σ 8 i 0), .int (σ 9 i 0), .int (σ 10 i 0), .int (σ 7 i 0), .int (σ 11 i 0), .int (σ 12 i 0), .int (σ 13 i 0), .int (σ 14 i 0), .int v])) = xkC g ad κ (xup σ 15 i 0 v) := by
  have h := pc_box (g := g) (ad := ad) (κ := κ) (σ := σ) (σ' := xup σ 15 i 0 v) hj (fun f i s h => xup_n (by omega))
  simpa [xup, xBox] using h
theorem pc_disc3 {v : Int32} (hj : i < κ 0) : cu (xkC g ad κ σ) 11 i (.inr (2, [.int (σ 0 i 0), .int (σ 1 i 0), .int (σ 2 i 0), .int v, .int (σ 4 i 0)])) = xkC g ad κ (xup σ 3 i 0 v) := by
  have h := pc_disc (g := g) (ad := ad) (κ := κ) (σ := σ) (σ' := xup σ 3 i 0 v) hj (fun f i s h => xup_n (by omega))
  simpa [xup, xDisc] using h
theorem pc_disc4 {v : Int32} (hj : i < κ 0) : cu (xkC g ad κ σ) 11 i (.inr (2, [.int (σ 0 i 0), .int (σ 1 i 0), .int (σ 2 i 0), .int (σ 3 i 0), .int v])) = xkC g ad κ (xup σ 4 i 0 v) := by
  have h := pc_disc (g := g) (ad := ad) (κ := κ) (σ := σ) (σ' := xup σ 4 i 0 v) hj (fun f i s h => xup_n (by omega))
  simpa [xup, xDisc] using h
theorem pc_arr17 {v : Int32} {s : Nat} (hj : i < κ 1) : cu (xkC g ad κ σ) 6 i (.inl (g 1000, 10, .inl (upd (fun s => σ 17 i s) s v))) = xkC g ad κ (xup σ 17 i s v) := by
  refine pc_gen ((if_pos hj).trans ?_) (fun k j hh => ?_)
  · refine congrArg (fun z => some (Sum.inl (g 1000, 10, Sum.inl z))) ?_
    funext q
    by_cases hq : q = s
    · subst hq; simp [xup, upd]
    · simp [xup, upd, hq]
  · have q : ∀ f, f ≠ 17 → xup σ 17 i s v f = σ f := fun f hf => by funext i s; exact xup_n (by omega)
    unfold xkC
    split
    case h_7 =>
      have hne : j ≠ i := fun e => hh ⟨rfl, e⟩
      have q2 : (fun z => xup σ 17 i s v 17 j z) = fun z => σ 17 j z := by funext z; exact xup_n (by omega)
      rw [q2]
    all_goals simp only [xBox, xDisc, q 0 (by decide), q 1 (by decide), q 2 (by decide), q 3 (by decide), q 4 (by decide), q 5 (by decide), q 6 (by decide), q 7 (by decide), q 8 (by decide), q 9 (by decide), q 10 (by decide), q 11 (by decide), q 12 (by decide), q 13 (by decide), q 14 (by decide), q 15 (by decide), q 18 (by decide), q 19 (by decide), q 20 (by decide), q 21 (by decide), q 22 (by decide), q 23 (by decide), q 24 (by decide), q 25 (by decide), q 26 (by decide), q 27 (by decide), q 28 (by decide)]
theorem pc_arr18 {v : Int32} {s : Nat} (hj : i < κ 1) : cu (xkC g ad κ σ) 7 i (.inl (g 1000, 10, .inl (upd (fun s => σ 18 i s) s v))) = xkC g ad κ (xup σ 18 i s v) := by
  refine pc_gen ((if_pos hj).trans ?_) (fun k j hh => ?_)
  · refine congrArg (fun z => some (Sum.inl (g 1000, 10, Sum.inl z))) ?_
    funext q
    by_cases hq : q = s
    · subst hq; simp [xup, upd]
    · simp [xup, upd, hq]
  · have q : ∀ f, f ≠ 18 → xup σ 18 i s v f = σ f := fun f hf => by funext i s; exact xup_n (by omega)
    unfold xkC
    split
    case h_8 =>
      have hne : j ≠ i := fun e => hh ⟨rfl, e⟩
      have q2 : (fun z => xup σ 18 i s v 18 j z) = fun z => σ 18 j z := by funext z; exact xup_n (by omega)
      rw [q2]
    all_goals simp only [xBox, xDisc, q 0 (by decide), q 1 (by decide), q 2 (by decide), q 3 (by decide), q 4 (by decide), q 5 (by decide), q 6 (by decide), q 7 (by decide), q 8 (by decide), q 9 (by decide), q 10 (by decide), q 11 (by decide), q 12 (by decide), q 13 (by decide), q 14 (by decide), q 15 (by decide), q 17 (by decide), q 19 (by decide), q 20 (by decide), q 21 (by decide), q 22 (by decide), q 23 (by decide), q 24 (by decide), q 25 (by decide), q 26 (by decide), q 27 (by decide), q 28 (by decide)]
theorem pc_arr19 {v : Int32} {s : Nat} (hj : i < κ 1) : cu (xkC g ad κ σ) 8 i (.inl (g 1000, 100, .inl (upd (fun s => σ 19 i s) s v))) = xkC g ad κ (xup σ 19 i s v) := by
  refine pc_gen ((if_pos hj).trans ?_) (fun k j hh => ?_)
  · refine congrArg (fun z => some (Sum.inl (g 1000, 100, Sum.inl z))) ?_
    funext q
    by_cases hq : q = s
    · subst hq; simp [xup, upd]
    · simp [xup, upd, hq]
  · have q : ∀ f, f ≠ 19 → xup σ 19 i s v f = σ f := fun f hf => by funext i s; exact xup_n (by omega)
    unfold xkC
    split
    case h_9 =>
      have hne : j ≠ i := fun e => hh ⟨rfl, e⟩
      have q2 : (fun z => xup σ 19 i s v 19 j z) = fun z => σ 19 j z := by funext z; exact xup_n (by omega)
      rw [q2]
    all_goals simp only [xBox, xDisc, q 0 (by decide), q 1 (by decide), q 2 (by decide), q 3 (by decide), q 4 (by decide), q 5 (by decide), q 6 (by decide), q 7 (by decide), q 8 (by decide), q 9 (by decide), q 10 (by decide), q 11 (by decide), q 12 (by decide), q 13 (by decide), q 14 (by decide), q 15 (by decide), q 17 (by decide), q 18 (by decide), q 20 (by decide), q 21 (by decide), q 22 (by decide), q 23 (by decide), q 24 (by decide), q 25 (by decide), q 26 (by decide), q 27 (by decide), q 28 (by decide)]
theorem pm_5 {v : Int32} : cu (xkM g ad μ) 16 0 (.inr (4, [.ref (ad (ro 17 0)), .ref (ad (ro 17 1)), .ref (ad (ro 17 2)), .ref (ad (ro 17 3)), .ref (ad (ro 17 4)), .int v, .ref (ad (ro 17 6)), .ref (ad (ro 17 7)), .ref (ad (ro 17 8)), .ref (ad (ro 17 9)), .ref (ad (ro 17 10)), .ref (ad (ro 17 11)), .ref (ad (ro 17 12)), .ref (ad (ro 17 13)), .ref (ad (ro 17 14)), .ref (ad (ro 17 15)), .ref (ad (ro 17 16)), .ref (ad (ro 17 17)), .ref (ad (ro 17 18)), .int (μ 19 0 0), .ref (ad (ro 17 20)), .ref (ad (ro 17 21)), .ref (ad (ro 17 22)), .ref (ad (ro 17 23)), .ref (ad (ro 17 24)), .int (μ 25 0 0), .int (μ 26 0 0), .int (μ 27 0 0), .int (μ 28 0 0), .int (μ 29 0 0)])) = xkM g ad (xup μ 5 0 0 v) := by
  funext k i
  unfold cu
  by_cases hh : k = 16 ∧ i = 0
  · obtain ⟨rfl, rfl⟩ := hh
    rw [if_pos ⟨rfl, rfl⟩]
    simp [xkM, xup]
  · rw [if_neg hh]
    unfold xkM
    split
    · have : ¬ i = 0 := fun e => hh ⟨rfl, e⟩
      rw [if_neg this, if_neg this]
    · by_cases ha : xmArr i = true
      · rw [if_pos ha, if_pos ha]
        have hne : i ≠ 5 := fun e => by subst e; exact absurd ha (by decide)
        have q2 : (fun a => xup μ 5 0 0 v i a 0) = fun a => μ i a 0 := by funext a; exact xup_n (by omega)
        rw [q2]
      · rw [if_neg ha, if_neg ha]
    · rfl
theorem pm_19 {v : Int32} : cu (xkM g ad μ) 16 0 (.inr (4, [.ref (ad (ro 17 0)), .ref (ad (ro 17 1)), .ref (ad (ro 17 2)), .ref (ad (ro 17 3)), .ref (ad (ro 17 4)), .int (μ 5 0 0), .ref (ad (ro 17 6)), .ref (ad (ro 17 7)), .ref (ad (ro 17 8)), .ref (ad (ro 17 9)), .ref (ad (ro 17 10)), .ref (ad (ro 17 11)), .ref (ad (ro 17 12)), .ref (ad (ro 17 13)), .ref (ad (ro 17 14)), .ref (ad (ro 17 15)), .ref (ad (ro 17 16)), .ref (ad (ro 17 17)), .ref (ad (ro 17 18)), .int v, .ref (ad (ro 17 20)), .ref (ad (ro 17 21)), .ref (ad (ro 17 22)), .ref (ad (ro 17 23)), .ref (ad (ro 17 24)), .int (μ 25 0 0), .int (μ 26 0 0), .int (μ 27 0 0), .int (μ 28 0 0), .int (μ 29 0 0)])) = xkM g ad (xup μ 19 0 0 v) := by
  funext k i
  unfold cu
  by_cases hh : k = 16 ∧ i = 0
  · obtain ⟨rfl, rfl⟩ := hh
    rw [if_pos ⟨rfl, rfl⟩]
    simp [xkM, xup]
  · rw [if_neg hh]
    unfold xkM
    split
    · have : ¬ i = 0 := fun e => hh ⟨rfl, e⟩
      rw [if_neg this, if_neg this]
    · by_cases ha : xmArr i = true
      · rw [if_pos ha, if_pos ha]
        have hne : i ≠ 19 := fun e => by subst e; exact absurd ha (by decide)
        have q2 : (fun a => xup μ 19 0 0 v i a 0) = fun a => μ i a 0 := by funext a; exact xup_n (by omega)
        rw [q2]
      · rw [if_neg ha, if_neg ha]
    · rfl
theorem pm_25 {v : Int32} : cu (xkM g ad μ) 16 0 (.inr (4, [.ref (ad (ro 17 0)), .ref (ad (ro 17 1)), .ref (ad (ro 17 2)), .ref (ad (ro 17 3)), .ref (ad (ro 17 4)), .int (μ 5 0 0), .ref (ad (ro 17 6)), .ref (ad (ro 17 7)), .ref (ad (ro 17 8)), .ref (ad (ro 17 9)), .ref (ad (ro 17 10)), .ref (ad (ro 17 11)), .ref (ad (ro 17 12)), .ref (ad (ro 17 13)), .ref (ad (ro 17 14)), .ref (ad (ro 17 15)), .ref (ad (ro 17 16)), .ref (ad (ro 17 17)), .ref (ad (ro 17 18)), .int (μ 19 0 0), .ref (ad (ro 17 20)), .ref (ad (ro 17 21)), .ref (ad (ro 17 22)), .ref (ad (ro 17 23)), .ref (ad (ro 17 24)), .int v, .int (μ 26 0 0), .int (μ 27 0 0), .int (μ 28 0 0), .int (μ 29 0 0)])) = xkM g ad (xup μ 25 0 0 v) := by
  funext k i
  unfold cu
  by_cases hh : k = 16 ∧ i = 0
  · obtain ⟨rfl, rfl⟩ := hh
    rw [if_pos ⟨rfl, rfl⟩]
    simp [xkM, xup]
  · rw [if_neg hh]
    unfold xkM
    split
    · have : ¬ i = 0 := fun e => hh ⟨rfl, e⟩
      rw [if_neg this, if_neg this]
    · by_cases ha : xmArr i = true
      · rw [if_pos ha, if_pos ha]
        have hne : i ≠ 25 := fun e => by subst e; exact absurd ha (by decide)
        have q2 : (fun a => xup μ 25 0 0 v i a 0) = fun a => μ i a 0 := by funext a; exact xup_n (by omega)
        rw [q2]
      · rw [if_neg ha, if_neg ha]
    · rfl
theorem pm_26 {v : Int32} : cu (xkM g ad μ) 16 0 (.inr (4, [.ref (ad (ro 17 0)), .ref (ad (ro 17 1)), .ref (ad (ro 17 2)), .ref (ad (ro 17 3)), .ref (ad (ro 17 4)), .int (μ 5 0 0), .ref (ad (ro 17 6)), .ref (ad (ro 17 7)), .ref (ad (ro 17 8)), .ref (ad (ro 17 9)), .ref (ad (ro 17 10)), .ref (ad (ro 17 11)), .ref (ad (ro 17 12)), .ref (ad (ro 17 13)), .ref (ad (ro 17 14)), .ref (ad (ro 17 15)), .ref (ad (ro 17 16)), .ref (ad (ro 17 17)), .ref (ad (ro 17 18)), .int (μ 19 0 0), .ref (ad (ro 17 20)), .ref (ad (ro 17 21)), .ref (ad (ro 17 22)), .ref (ad (ro 17 23)), .ref (ad (ro 17 24)), .int (μ 25 0 0), .int v, .int (μ 27 0 0), .int (μ 28 0 0), .int (μ 29 0 0)])) = xkM g ad (xup μ 26 0 0 v) := by
  funext k i
  unfold cu
  by_cases hh : k = 16 ∧ i = 0
  · obtain ⟨rfl, rfl⟩ := hh
    rw [if_pos ⟨rfl, rfl⟩]
    simp [xkM, xup]
  · rw [if_neg hh]
    unfold xkM
    split
    · have : ¬ i = 0 := fun e => hh ⟨rfl, e⟩
      rw [if_neg this, if_neg this]
    · by_cases ha : xmArr i = true
      · rw [if_pos ha, if_pos ha]
        have hne : i ≠ 26 := fun e => by subst e; exact absurd ha (by decide)
        have q2 : (fun a => xup μ 26 0 0 v i a 0) = fun a => μ i a 0 := by funext a; exact xup_n (by omega)
        rw [q2]
      · rw [if_neg ha, if_neg ha]
    · rfl
theorem pm_27 {v : Int32} : cu (xkM g ad μ) 16 0 (.inr (4, [.ref (ad (ro 17 0)), .ref (ad (ro 17 1)), .ref (ad (ro 17 2)), .ref (ad (ro 17 3)), .ref (ad (ro 17 4)), .int (μ 5 0 0), .ref (ad (ro 17 6)), .ref (ad (ro 17 7)), .ref (ad (ro 17 8)), .ref (ad (ro 17 9)), .ref (ad (ro 17 10)), .ref (ad (ro 17 11)), .ref (ad (ro 17 12)), .ref (ad (ro 17 13)), .ref (ad (ro 17 14)), .ref (ad (ro 17 15)), .ref (ad (ro 17 16)), .ref (ad (ro 17 17)), .ref (ad (ro 17 18)), .int (μ 19 0 0), .ref (ad (ro 17 20)), .ref (ad (ro 17 21)), .ref (ad (ro 17 22)), .ref (ad (ro 17 23)), .ref (ad (ro 17 24)), .int (μ 25 0 0), .int (μ 26 0 0), .int v, .int (μ 28 0 0), .int (μ 29 0 0)])) = xkM g ad (xup μ 27 0 0 v) := by
  funext k i
  unfold cu
  by_cases hh : k = 16 ∧ i = 0
  · obtain ⟨rfl, rfl⟩ := hh
    rw [if_pos ⟨rfl, rfl⟩]
    simp [xkM, xup]
  · rw [if_neg hh]
    unfold xkM
    split
    · have : ¬ i = 0 := fun e => hh ⟨rfl, e⟩
      rw [if_neg this, if_neg this]
    · by_cases ha : xmArr i = true
      · rw [if_pos ha, if_pos ha]
        have hne : i ≠ 27 := fun e => by subst e; exact absurd ha (by decide)
        have q2 : (fun a => xup μ 27 0 0 v i a 0) = fun a => μ i a 0 := by funext a; exact xup_n (by omega)
        rw [q2]
      · rw [if_neg ha, if_neg ha]
    · rfl
theorem pm_28 {v : Int32} : cu (xkM g ad μ) 16 0 (.inr (4, [.ref (ad (ro 17 0)), .ref (ad (ro 17 1)), .ref (ad (ro 17 2)), .ref (ad (ro 17 3)), .ref (ad (ro 17 4)), .int (μ 5 0 0), .ref (ad (ro 17 6)), .ref (ad (ro 17 7)), .ref (ad (ro 17 8)), .ref (ad (ro 17 9)), .ref (ad (ro 17 10)), .ref (ad (ro 17 11)), .ref (ad (ro 17 12)), .ref (ad (ro 17 13)), .ref (ad (ro 17 14)), .ref (ad (ro 17 15)), .ref (ad (ro 17 16)), .ref (ad (ro 17 17)), .ref (ad (ro 17 18)), .int (μ 19 0 0), .ref (ad (ro 17 20)), .ref (ad (ro 17 21)), .ref (ad (ro 17 22)), .ref (ad (ro 17 23)), .ref (ad (ro 17 24)), .int (μ 25 0 0), .int (μ 26 0 0), .int (μ 27 0 0), .int v, .int (μ 29 0 0)])) = xkM g ad (xup μ 28 0 0 v) := by
  funext k i
  unfold cu
  by_cases hh : k = 16 ∧ i = 0
  · obtain ⟨rfl, rfl⟩ := hh
    rw [if_pos ⟨rfl, rfl⟩]
    simp [xkM, xup]
  · rw [if_neg hh]
    unfold xkM
    split
    · have : ¬ i = 0 := fun e => hh ⟨rfl, e⟩
      rw [if_neg this, if_neg this]
    · by_cases ha : xmArr i = true
      · rw [if_pos ha, if_pos ha]
        have hne : i ≠ 28 := fun e => by subst e; exact absurd ha (by decide)
        have q2 : (fun a => xup μ 28 0 0 v i a 0) = fun a => μ i a 0 := by funext a; exact xup_n (by omega)
        rw [q2]
      · rw [if_neg ha, if_neg ha]
    · rfl
theorem pm_29 {v : Int32} : cu (xkM g ad μ) 16 0 (.inr (4, [.ref (ad (ro 17 0)), .ref (ad (ro 17 1)), .ref (ad (ro 17 2)), .ref (ad (ro 17 3)), .ref (ad (ro 17 4)), .int (μ 5 0 0), .ref (ad (ro 17 6)), .ref (ad (ro 17 7)), .ref (ad (ro 17 8)), .ref (ad (ro 17 9)), .ref (ad (ro 17 10)), .ref (ad (ro 17 11)), .ref (ad (ro 17 12)), .ref (ad (ro 17 13)), .ref (ad (ro 17 14)), .ref (ad (ro 17 15)), .ref (ad (ro 17 16)), .ref (ad (ro 17 17)), .ref (ad (ro 17 18)), .int (μ 19 0 0), .ref (ad (ro 17 20)), .ref (ad (ro 17 21)), .ref (ad (ro 17 22)), .ref (ad (ro 17 23)), .ref (ad (ro 17 24)), .int (μ 25 0 0), .int (μ 26 0 0), .int (μ 27 0 0), .int (μ 28 0 0), .int v])) = xkM g ad (xup μ 29 0 0 v) := by
  funext k i
  unfold cu
  by_cases hh : k = 16 ∧ i = 0
  · obtain ⟨rfl, rfl⟩ := hh
    rw [if_pos ⟨rfl, rfl⟩]
    simp [xkM, xup]
  · rw [if_neg hh]
    unfold xkM
    split
    · have : ¬ i = 0 := fun e => hh ⟨rfl, e⟩
      rw [if_neg this, if_neg this]
    · by_cases ha : xmArr i = true
      · rw [if_pos ha, if_pos ha]
        have hne : i ≠ 29 := fun e => by subst e; exact absurd ha (by decide)
        have q2 : (fun a => xup μ 29 0 0 v i a 0) = fun a => μ i a 0 := by funext a; exact xup_n (by omega)
        rw [q2]
      · rw [if_neg ha, if_neg ha]
    · rfl
theorem xkM_arr {f : Nat} (h : xmArr f = true) (hb : xmBool f = false) : xkM g ad μ 17 f = some (.inl (g 1000, xmLen f, .inl (fun a => μ f a 0))) := by
  unfold xkM
  rw [if_pos h, hb]; rfl
theorem xkM_arrZ {f : Nat} (h : xmArr f = true) (hb : xmBool f = true) : xkM g ad μ 17 f = some (.inl (g 1001, xmLen f, .inl (fun a => μ f a 0))) := by
  unfold xkM
  rw [if_pos h, hb]; rfl
theorem pm_up {f s : Nat} {v : Int32} (h : xmArr f = true) : (xkM g ad μ 17 f = some e → e = .inl (if xmBool f then g 1001 else g 1000, xmLen f, .inl (fun a => μ f a 0))) ∧ cu (xkM g ad μ) 17 f (.inl (if xmBool f then g 1001 else g 1000, xmLen f, .inl (upd (fun a => μ f a 0) s v))) = xkM g ad (xup μ f s 0 v) := by
  refine ⟨fun he => ?_, ?_⟩
  · unfold xkM at he
    rw [if_pos h] at he
    exact (Option.some.inj he).symm
  funext k i
  unfold cu
  by_cases hh : k = 17 ∧ i = f
  · obtain ⟨rfl, rfl⟩ := hh
    rw [if_pos ⟨rfl, rfl⟩]
    unfold xkM
    rw [if_pos h]
    refine congrArg (fun z => some (Sum.inl (if xmBool i then g 1001 else g 1000, xmLen i, Sum.inl z))) ?_
    funext q
    by_cases hq : q = s
    · subst hq; simp [xup, upd]
    · simp [xup, upd, hq]
  · rw [if_neg hh]
    unfold xkM
    split
    · have q : ∀ x, xmArr x = false → xup μ f s 0 v x = μ x := fun x hx => by
        funext a b
        exact xup_n (fun e => by rw [e.1, h] at hx; cases hx)
      simp only [q 5 (by decide), q 19 (by decide), q 25 (by decide), q 26 (by decide), q 27 (by decide), q 28 (by decide), q 29 (by decide)]
    · by_cases ha : xmArr i = true
      · rw [if_pos ha, if_pos ha]
        have hne : i ≠ f := fun e => hh ⟨rfl, e⟩
        have q2 : (fun a => xup μ f s 0 v i a 0) = fun a => μ i a 0 := by funext a; exact xup_n (by omega)
        rw [q2]
      · rw [if_neg ha, if_neg ha]
    · rfl
theorem pm_arr {f s : Nat} {v : Int32} (h : xmArr f = true) (hb : xmBool f = false) : cu (xkM g ad μ) 17 f (.inl (g 1000, xmLen f, .inl (upd (fun a => μ f a 0) s v))) = xkM g ad (xup μ f s 0 v) := by
  have := (pm_up (g := g) (ad := ad) (μ := μ) (e := .inl (0, 0, .inl fun _ => 0)) (s := s) (v := v) h).2
  rw [hb] at this; exact this
theorem pm_arrZ {f s : Nat} {v : Int32} (h : xmArr f = true) (hb : xmBool f = true) : cu (xkM g ad μ) 17 f (.inl (g 1001, xmLen f, .inl (upd (fun a => μ f a 0) s v))) = xkM g ad (xup μ f s 0 v) := by
  have := (pm_up (g := g) (ad := ad) (μ := μ) (e := .inl (0, 0, .inl fun _ => 0)) (s := s) (v := v) h).2
  rw [hb] at this; exact this
/-! readings and writings of arrays at a place that is a number -/
theorem xi_in {i : Int32} {s n : Nat} (hi : i = nI s) (hs : s < n) (hn : Nat.ble n 2147483647 = true) : vp_in i n ∧ i.toNatClampNeg = s := by
  subst hi
  have h1 : n ≤ 2147483647 := Nat.le_of_ble_eq_true hn
  exact ⟨vp_in_nI hs (by omega), nI_clamp (by omega)⟩
theorem xi_ald (C : xC F cc nL own ret rm nm tb) (s : Nat) {r a : Nat} (ha : ad r = a) {n : Nat} {f : Nat → Int32} (h : ct r = some (.inl (F.1.2.2.1 1000, n, .inl f))) {i : Int32} (hi : i = nI s) (hs : s < n) (hn : Nat.ble n 2147483647 = true) (hdg : decode cc pc = .ok (.iaload, 1))
    (kk : xX F Q ad ct cells slots (pc + 1) lv (.int (f s) :: rest)) : xX F Q ad ct cells slots pc lv (.int i :: .ref a :: rest) := by
  obtain ⟨h1, h2⟩ := xi_in hi hs hn
  refine x_iald C ha h h1 hdg ?_
  rw [h2]; exact kk
theorem xi_zld (C : xC F cc nL own ret rm nm tb) (s : Nat) {r a : Nat} (ha : ad r = a) {n : Nat} {f : Nat → Int32} (h : ct r = some (.inl (F.1.2.2.1 1001, n, .inl f))) {i : Int32} (hi : i = nI s) (hs : s < n) (hn : Nat.ble n 2147483647 = true) (hdg : decode cc pc = .ok (.baload, 1))
    (kk : xX F Q ad ct cells slots (pc + 1) lv (.int (f s) :: rest)) : xX F Q ad ct cells slots pc lv (.int i :: .ref a :: rest) := by
  obtain ⟨h1, h2⟩ := xi_in hi hs hn
  refine x_zald C ha h h1 hdg ?_
  rw [h2]; exact kk
theorem xi_ast (C : xC F cc nL own ret rm nm tb) (s : Nat) {r a : Nat} (ha : ad r = a) {n : Nat} {f : Nat → Int32} (h : ct r = some (.inl (F.1.2.2.1 1000, n, .inl f))) {i x : Int32} (hi : i = nI s) (hs : s < n) (hn : Nat.ble n 2147483647 = true) (hdg : decode cc pc = .ok (.iastore, 1))
    (kk : xX F Q ad (xu ct r (.inl (F.1.2.2.1 1000, n, .inl (upd f s x)))) cells slots (pc + 1) lv rest) : xX F Q ad ct cells slots pc lv (.int x :: .int i :: .ref a :: rest) := by
  obtain ⟨h1, h2⟩ := xi_in hi hs hn
  refine x_iast C ha h h1 hdg ?_
  rw [h2]; exact kk
theorem xi_zst (C : xC F cc nL own ret rm nm tb) (s : Nat) {r a : Nat} (ha : ad r = a) {n : Nat} {f : Nat → Int32} (h : ct r = some (.inl (F.1.2.2.1 1001, n, .inl f))) {i x : Int32} (hi : i = nI s) (hs : s < n) (hn : Nat.ble n 2147483647 = true) (hx : vp_nar .boolean x = x) (hdg : decode cc pc = .ok (.bastore, 1))
    (kk : xX F Q ad (xu ct r (.inl (F.1.2.2.1 1001, n, .inl (upd f s x)))) cells slots (pc + 1) lv rest) : xX F Q ad ct cells slots pc lv (.int x :: .int i :: .ref a :: rest) := by
  obtain ⟨h1, h2⟩ := xi_in hi hs hn
  refine x_zast C ha h h1 hx hdg ?_
  rw [h2]; exact kk
theorem xi_aldR (C : xC F cc nL own ret rm nm tb) (s : Nat) {r a b : Nat} (ha : ad r = a) {n : Nat} {f : Nat → Option Nat} (h : ct r = some (.inl (F.1.2.2.1 1004, n, .inr (.inr (.inr (.inr f)))))) {i : Int32} (hi : i = nI s) (hs : s < n) (hn : Nat.ble n 2147483647 = true) (ho : f s = some b) (hdg : decode cc pc = .ok (.aaload, 1))
    (kk : xX F Q ad ct cells slots (pc + 1) lv (.ref b :: rest)) : xX F Q ad ct cells slots pc lv (.int i :: .ref a :: rest) := by
  obtain ⟨h1, h2⟩ := xi_in hi hs hn
  exact x_aald C 4 rfl ha h h1 (o := some b) (by rw [h2]; exact ho) hdg kk
end XPUT
