/-! ===== THE REFERENCE, told by the machine ===== -/
/-- which array or number of the reference holds which of the machine -/
def xmp : List (Nat × Nat) := [(0, 0), (1, 1), (2, 2), (3, 3), (4, 4), (6, 5), (7, 6), (8, 7), (9, 8), (10, 9), (11, 10), (14, 11), (15, 12), (16, 13), (17, 14), (18, 15), (25, 24), (26, 21), (27, 22), (28, 23)]
theorem xmp_inj : ∀ p ∈ xmp, ∀ q ∈ xmp, (p.1 = q.1 ↔ p.2 = q.2) := by decide
theorem xmp_l : ∀ p ∈ xmp, (p.1 ≠ 5 ∧ p.1 ≠ 19 ∧ p.1 ≠ 12 ∧ p.1 ≠ 13 ∧ p.1 ≠ 20 ∧ p.1 ≠ 21 ∧ p.1 ≠ 22 ∧ p.1 ≠ 23 ∧ p.1 ≠ 24 ∧ p.1 ≠ 29) ∧ (p.2 ≠ 17 ∧ p.2 ≠ 18 ∧ p.2 ≠ 19 ∧ p.2 ≠ 20 ∧ p.2 ≠ 25 ∧ p.2 ≠ 26 ∧ p.2 ≠ 27 ∧ p.2 ≠ 28) := by decide
/-- the reference's state and the machine's agree -/
def xRl (κ : xKp) (σ μ : xSg) : Prop := (∀ p ∈ xmp, ∀ i, μ p.1 i 0 = σ p.2 i 0) ∧ (μ 5 0 0 = nI (κ 0) ∧ μ 19 0 0 = nI (κ 1)) ∧ (∀ j s, s < 10 → μ 20 (10 * j + s) 0 = σ 17 j s + 1 ∧ μ 21 (10 * j + s) 0 = σ 18 j s) ∧ (∀ j q, q < 100 → μ 22 (100 * j + q) 0 = σ 19 j q) ∧ (∀ j, j < 4 → μ 12 j 0 = nI (κ (10 + j))) ∧ ∀ j k, j < 4 → k < κ (10 + j) → k < 8 → μ 13 (8 * j + k) 0 = σ 20 j k
theorem xRl.m {κ : xKp} {σ μ : xSg} {f f' i : Nat} {v : Int32} (R : xRl κ σ μ) (hm : (f, f') ∈ xmp) : xRl κ (xup σ f' i 0 v) (xup μ f i 0 v) := by
  obtain ⟨h1, h2, h3, h4, h5, h6⟩ := R
  obtain ⟨⟨a1, a2, a3, a4, a5, a6, a7, a8, a9, a10⟩, b1, b2, b3, b4, b5, b6, b7, b8⟩ := xmp_l _ hm
  refine ⟨fun p hp i' => ?_, ⟨(xup_n (by omega)).trans h2.1, (xup_n (by omega)).trans h2.2⟩, fun j s hs => ⟨?_, ?_⟩, fun j q hq => ?_, fun j hj => (xup_n (by omega)).trans (h5 j hj), fun j k hj hk hk8 => ?_⟩
  · have e := xmp_inj p hp _ hm
    unfold xup
    by_cases c : p.1 = f ∧ i' = i
    · have c2 : p.2 = f' := e.mp c.1
      rw [if_pos ⟨c.1, c.2, rfl⟩, if_pos ⟨c2, c.2, rfl⟩]
    · have c2 : ¬ (p.2 = f' ∧ i' = i) := fun z => c ⟨e.mpr z.1, z.2⟩
      rw [if_neg (fun z => c ⟨z.1, z.2.1⟩), if_neg (fun z => c2 ⟨z.1, z.2.1⟩)]
      exact h1 p hp i'
  · rw [xup_n (by omega), xup_n (by omega)]; exact (h3 j s hs).1
  · rw [xup_n (by omega), xup_n (by omega)]; exact (h3 j s hs).2
  · rw [xup_n (by omega), xup_n (by omega)]; exact h4 j q hq
  · rw [xup_n (by omega), xup_n (by omega)]; exact h6 j k hj hk hk8
theorem xRl.s20 {κ : xKp} {σ μ : xSg} {j s : Nat} {w : Int32} (R : xRl κ σ μ) (hs : s < 10) : xRl κ (xup σ 17 j s w) (xup μ 20 (10 * j + s) 0 (w + 1)) := by
  obtain ⟨h1, h2, h3, h4, h5, h6⟩ := R
  refine ⟨fun p hp i' => ?_, ⟨(xup_n (by omega)).trans h2.1, (xup_n (by omega)).trans h2.2⟩, fun j' s' hs' => ⟨?_, ?_⟩, fun j q hq => ?_, fun j hj => (xup_n (by omega)).trans (h5 j hj), fun j k hj hk hk8 => ?_⟩
  · have := xmp_l p hp
    rw [xup_n (by omega), xup_n (by omega)]; exact h1 p hp i'
  · by_cases c : j' = j ∧ s' = s
    · obtain ⟨rfl, rfl⟩ := c
      rw [xup_s, xup_s]
    · rw [xup_n (by omega), xup_n (by omega)]; exact (h3 j' s' hs').1
  · rw [xup_n (by omega), xup_n (by omega)]; exact (h3 j' s' hs').2
  · rw [xup_n (by omega), xup_n (by omega)]; exact h4 j q hq
  · rw [xup_n (by omega), xup_n (by omega)]; exact h6 j k hj hk hk8
theorem xRl.s21 {κ : xKp} {σ μ : xSg} {j s : Nat} {w : Int32} (R : xRl κ σ μ) (hs : s < 10) : xRl κ (xup σ 18 j s w) (xup μ 21 (10 * j + s) 0 w) := by
  obtain ⟨h1, h2, h3, h4, h5, h6⟩ := R
  refine ⟨fun p hp i' => ?_, ⟨(xup_n (by omega)).trans h2.1, (xup_n (by omega)).trans h2.2⟩, fun j' s' hs' => ⟨?_, ?_⟩, fun j q hq => ?_, fun j hj => (xup_n (by omega)).trans (h5 j hj), fun j k hj hk hk8 => ?_⟩
  · have := xmp_l p hp
    rw [xup_n (by omega), xup_n (by omega)]; exact h1 p hp i'
  · rw [xup_n (by omega), xup_n (by omega)]; exact (h3 j' s' hs').1
  · by_cases c : j' = j ∧ s' = s
    · obtain ⟨rfl, rfl⟩ := c
      rw [xup_s, xup_s]
    · rw [xup_n (by omega), xup_n (by omega)]; exact (h3 j' s' hs').2
  · rw [xup_n (by omega), xup_n (by omega)]; exact h4 j q hq
  · rw [xup_n (by omega), xup_n (by omega)]; exact h6 j k hj hk hk8
theorem xRl.s22 {κ : xKp} {σ μ : xSg} {j q : Nat} {w : Int32} (R : xRl κ σ μ) (hq : q < 100) : xRl κ (xup σ 19 j q w) (xup μ 22 (100 * j + q) 0 w) := by
  obtain ⟨h1, h2, h3, h4, h5, h6⟩ := R
  refine ⟨fun p hp i' => ?_, ⟨(xup_n (by omega)).trans h2.1, (xup_n (by omega)).trans h2.2⟩, fun j' s' hs' => ⟨?_, ?_⟩, fun j' q' hq' => ?_, fun j hj => (xup_n (by omega)).trans (h5 j hj), fun j k hj hk hk8 => ?_⟩
  · have := xmp_l p hp
    rw [xup_n (by omega), xup_n (by omega)]; exact h1 p hp i'
  · rw [xup_n (by omega), xup_n (by omega)]; exact (h3 j' s' hs').1
  · rw [xup_n (by omega), xup_n (by omega)]; exact (h3 j' s' hs').2
  · by_cases c : j' = j ∧ q' = q
    · obtain ⟨rfl, rfl⟩ := c
      rw [xup_s, xup_s]
    · rw [xup_n (by omega), xup_n (by omega)]; exact h4 j' q' hq'
  · rw [xup_n (by omega), xup_n (by omega)]; exact h6 j k hj hk hk8
theorem xRl.o {κ : xKp} {σ μ : xSg} {f i : Nat} {v : Int32} (R : xRl κ σ μ) (hf : f = 23 ∨ f = 24 ∨ f = 29) : xRl κ σ (xup μ f i 0 v) := by
  obtain ⟨h1, h2, h3, h4, h5, h6⟩ := R
  refine ⟨fun p hp i' => ?_, ⟨(xup_n (by omega)).trans h2.1, (xup_n (by omega)).trans h2.2⟩, fun j' s' hs' => ⟨?_, ?_⟩, fun j' q' hq' => ?_, fun j hj => (xup_n (by omega)).trans (h5 j hj), fun j k hj hk hk8 => ?_⟩
  · have := xmp_l p hp
    rw [xup_n (by omega)]; exact h1 p hp i'
  · rw [xup_n (by omega)]; exact (h3 j' s' hs').1
  · rw [xup_n (by omega)]; exact (h3 j' s' hs').2
  · rw [xup_n (by omega)]; exact h4 j' q' hq'
  · rw [xup_n (by omega)]; exact h6 j k hj hk hk8
/-- what the reference doesn't keep -/
theorem xRl.c {κ : xKp} {σ μ : xSg} {f i k : Nat} {v : Int32} (R : xRl κ σ μ) (hf : f = 25 ∨ f = 26 ∨ f = 27 ∨ f = 28) : xRl κ (xup σ f i k v) μ := by
  obtain ⟨h1, h2, h3, h4, h5, h6⟩ := R
  refine ⟨fun p hp i' => ?_, h2, fun j' s' hs' => ⟨?_, ?_⟩, fun j' q' hq' => ?_, h5, fun j k hj hk hk8 => ?_⟩
  · have := xmp_l p hp
    rw [xup_n (by omega)]; exact h1 p hp i'
  · rw [xup_n (by omega)]; exact (h3 j' s' hs').1
  · rw [xup_n (by omega)]; exact (h3 j' s' hs').2
  · rw [xup_n (by omega)]; exact h4 j' q' hq'
  · rw [xup_n (by omega)]; exact h6 j k hj hk hk8
/-- an outcome: the code (0: it answers), the answer, the machine behind it -/
abbrev xO : Type := Int32 × Int32 × xKp × xSg
def rP (G : xG) (ad : Nat → Nat) (c t : xK) (O : xO) : Option Value → (Nat → Nat) → xCt → Prop := fun v ad' ct' => ad' = ad ∧ ∃ μ', ct' = xj c (xkM G.2.2.1 ad μ') t ∧ xRl O.2.2.1 O.2.2.2 μ' ∧ μ' 29 0 0 = O.1 ∧ ∃ b, v = some (.int b) ∧ (O.1 = 0 → b = O.2.1)
theorem rP_of {G : xG} {ad : Nat → Nat} {c t : xK} {O : xO} {cd w b : Int32} {κ' : xKp} {σ' μ' : xSg} (hO : O = (cd, w, κ', σ')) (R : xRl κ' σ' μ') (T : μ' 29 0 0 = cd) (hv : cd = 0 → b = w) : rP G ad c t O (some (.int b)) ad (xj c (xkM G.2.2.1 ad μ') t) := by
  subst hO
  exact ⟨rfl, μ', rfl, R, T, b, rfl, hv⟩
section MROWS
variable {F : xFr} {cc : ByteArray} {nL : Nat} {own : String} {ret : Option FieldType} {rm : Room} {nm : String} {tb : List ExceptionTableEntry} {Q : State → Prop} {ad : Nat → Nat} {κ : xKp} {σ μ : xSg} {c t : xK} {cells slots pc : Nat} {lv : List (Nat × Value)} {rest : List Value} {cd : Int32}
theorem x_case {ct : xCt} {P : Prop} [Decidable P] (h1 : P → xX F Q ad ct cells slots pc lv (.int 1 :: rest)) (h0 : ¬ P → xX F Q ad ct cells slots pc lv (.int 0 :: rest)) : xX F Q ad ct cells slots pc lv (.int (if P then 1 else 0) :: rest) := by
  by_cases h : P
  · rw [if_pos h]; exact h1 h
  · rw [if_neg h]; exact h0 h
theorem m_ld (C : xC F cc nL own ret rm nm tb) (R : xRl κ σ μ) {f f' i : Nat} {x : Int32} (hm : (f, f') ∈ xmp) (hf : xmArr f = true) (hb : xmBool f = false) (hi : x = nI i) (hl : i < xmLen f) (hn : Nat.ble (xmLen f) 2147483647 = true) (hdg : decode cc pc = .ok (.iaload, 1))
    (kk : xX F Q ad (xj c (xkM F.1.2.2.1 ad μ) t) cells slots (pc + 1) lv (.int (σ f' i 0) :: rest)) : xX F Q ad (xj c (xkM F.1.2.2.1 ad μ) t) cells slots pc lv (.int x :: .ref (ad (ro 17 f)) :: rest) := by
  refine xi_ald C i rfl (xj_m (by decide) (by decide) (xkM_arr hf hb)) hi hl hn hdg ?_
  rw [← R.1 (f, f') hm i] at kk
  exact kk
theorem m_zld (C : xC F cc nL own ret rm nm tb) (R : xRl κ σ μ) {f f' i : Nat} {x : Int32} (hm : (f, f') ∈ xmp) (hf : xmArr f = true) (hb : xmBool f = true) (hi : x = nI i) (hl : i < xmLen f) (hn : Nat.ble (xmLen f) 2147483647 = true) (hdg : decode cc pc = .ok (.baload, 1))
    (kk : xX F Q ad (xj c (xkM F.1.2.2.1 ad μ) t) cells slots (pc + 1) lv (.int (σ f' i 0) :: rest)) : xX F Q ad (xj c (xkM F.1.2.2.1 ad μ) t) cells slots pc lv (.int x :: .ref (ad (ro 17 f)) :: rest) := by
  refine xi_zld C i rfl (xj_m (by decide) (by decide) (xkM_arrZ hf hb)) hi hl hn hdg ?_
  rw [← R.1 (f, f') hm i] at kk
  exact kk
theorem m_ld20 (C : xC F cc nL own ret rm nm tb) (R : xRl κ σ μ) {j s : Nat} {x : Int32} (hi : x = nI (10 * j + s)) (hj : j < 4) (hs : s < 10) (hdg : decode cc pc = .ok (.iaload, 1))
    (kk : xX F Q ad (xj c (xkM F.1.2.2.1 ad μ) t) cells slots (pc + 1) lv (.int (σ 17 j s + 1) :: rest)) : xX F Q ad (xj c (xkM F.1.2.2.1 ad μ) t) cells slots pc lv (.int x :: .ref (ad (ro 17 20)) :: rest) := by
  refine xi_ald C (10 * j + s) rfl (xj_m (by decide) (by decide) (xkM_arr rfl rfl)) hi (show _ < 40 by omega) rfl hdg ?_
  rw [← (R.2.2.1 j s hs).1] at kk
  exact kk
theorem m_ld21 (C : xC F cc nL own ret rm nm tb) (R : xRl κ σ μ) {j s : Nat} {x : Int32} (hi : x = nI (10 * j + s)) (hj : j < 4) (hs : s < 10) (hdg : decode cc pc = .ok (.iaload, 1))
    (kk : xX F Q ad (xj c (xkM F.1.2.2.1 ad μ) t) cells slots (pc + 1) lv (.int (σ 18 j s) :: rest)) : xX F Q ad (xj c (xkM F.1.2.2.1 ad μ) t) cells slots pc lv (.int x :: .ref (ad (ro 17 21)) :: rest) := by
  refine xi_ald C (10 * j + s) rfl (xj_m (by decide) (by decide) (xkM_arr rfl rfl)) hi (show _ < 40 by omega) rfl hdg ?_
  rw [← (R.2.2.1 j s hs).2] at kk
  exact kk
theorem m_ld22 (C : xC F cc nL own ret rm nm tb) (R : xRl κ σ μ) {j q : Nat} {x : Int32} (hi : x = nI (100 * j + q)) (hj : j < 4) (hq : q < 100) (hdg : decode cc pc = .ok (.iaload, 1))
    (kk : xX F Q ad (xj c (xkM F.1.2.2.1 ad μ) t) cells slots (pc + 1) lv (.int (σ 19 j q) :: rest)) : xX F Q ad (xj c (xkM F.1.2.2.1 ad μ) t) cells slots pc lv (.int x :: .ref (ad (ro 17 22)) :: rest) := by
  refine xi_ald C (100 * j + q) rfl (xj_m (by decide) (by decide) (xkM_arr rfl rfl)) hi (show _ < 400 by omega) rfl hdg ?_
  rw [← R.2.2.2.1 j q hq] at kk
  exact kk
theorem m_ld12 (C : xC F cc nL own ret rm nm tb) (R : xRl κ σ μ) {j : Nat} {x : Int32} (hi : x = nI j) (hj : j < 4) (hdg : decode cc pc = .ok (.iaload, 1))
    (kk : xX F Q ad (xj c (xkM F.1.2.2.1 ad μ) t) cells slots (pc + 1) lv (.int (nI (κ (10 + j))) :: rest)) : xX F Q ad (xj c (xkM F.1.2.2.1 ad μ) t) cells slots pc lv (.int x :: .ref (ad (ro 17 12)) :: rest) := by
  refine xi_ald C j rfl (xj_m (by decide) (by decide) (xkM_arr rfl rfl)) hi hj rfl hdg ?_
  rw [← R.2.2.2.2.1 j hj] at kk
  exact kk
theorem m_st (C : xC F cc nL own ret rm nm tb) (R : xRl κ σ μ) (T : μ 29 0 0 = cd) {f f' i : Nat} {x v : Int32} (hm : (f, f') ∈ xmp) (hf : xmArr f = true) (hb : xmBool f = false) (hi : x = nI i) (hl : i < xmLen f) (hn : Nat.ble (xmLen f) 2147483647 = true) (hdg : decode cc pc = .ok (.iastore, 1))
    (kk : ∀ μ', xRl κ (xup σ f' i 0 v) μ' → μ' 29 0 0 = cd → xX F Q ad (xj c (xkM F.1.2.2.1 ad μ') t) cells slots (pc + 1) lv rest) : xX F Q ad (xj c (xkM F.1.2.2.1 ad μ) t) cells slots pc lv (.int v :: .int x :: .ref (ad (ro 17 f)) :: rest) := by
  refine xi_ast C i rfl (xj_m (by decide) (by decide) (xkM_arr hf hb)) hi hl hn hdg ?_
  refine x_pm (by decide) (by decide) (pm_arr hf hb) (kk _ (R.m hm) ((xup_n ?_).trans T))
  have := xmp_l _ hm
  omega
theorem m_zst (C : xC F cc nL own ret rm nm tb) (R : xRl κ σ μ) (T : μ 29 0 0 = cd) {f f' i : Nat} {x v : Int32} (hm : (f, f') ∈ xmp) (hf : xmArr f = true) (hb : xmBool f = true) (hi : x = nI i) (hl : i < xmLen f) (hn : Nat.ble (xmLen f) 2147483647 = true) (hv : vp_nar .boolean v = v) (hdg : decode cc pc = .ok (.bastore, 1))
    (kk : ∀ μ', xRl κ (xup σ f' i 0 v) μ' → μ' 29 0 0 = cd → xX F Q ad (xj c (xkM F.1.2.2.1 ad μ') t) cells slots (pc + 1) lv rest) : xX F Q ad (xj c (xkM F.1.2.2.1 ad μ) t) cells slots pc lv (.int v :: .int x :: .ref (ad (ro 17 f)) :: rest) := by
  refine xi_zst C i rfl (xj_m (by decide) (by decide) (xkM_arrZ hf hb)) hi hl hn hv hdg ?_
  refine x_pm (by decide) (by decide) (pm_arrZ hf hb) (kk _ (R.m hm) ((xup_n ?_).trans T))
  have := xmp_l _ hm
  omega
theorem m_st20 (C : xC F cc nL own ret rm nm tb) (R : xRl κ σ μ) (T : μ 29 0 0 = cd) {j s : Nat} {x v w : Int32} (hi : x = nI (10 * j + s)) (hj : j < 4) (hs : s < 10) (hw : v = w + 1) (hdg : decode cc pc = .ok (.iastore, 1))
    (kk : ∀ μ', xRl κ (xup σ 17 j s w) μ' → μ' 29 0 0 = cd → xX F Q ad (xj c (xkM F.1.2.2.1 ad μ') t) cells slots (pc + 1) lv rest) : xX F Q ad (xj c (xkM F.1.2.2.1 ad μ) t) cells slots pc lv (.int v :: .int x :: .ref (ad (ro 17 20)) :: rest) := by
  subst hw
  refine xi_ast C (10 * j + s) rfl (xj_m (by decide) (by decide) (xkM_arr rfl rfl)) hi (show _ < 40 by omega) rfl hdg ?_
  exact x_pm (by decide) (by decide) (pm_arr rfl rfl) (kk _ (R.s20 hs) ((xup_n (by omega)).trans T))
theorem m_st21 (C : xC F cc nL own ret rm nm tb) (R : xRl κ σ μ) (T : μ 29 0 0 = cd) {j s : Nat} {x v w : Int32} (hi : x = nI (10 * j + s)) (hj : j < 4) (hs : s < 10) (hw : v = w) (hdg : decode cc pc = .ok (.iastore, 1))
    (kk : ∀ μ', xRl κ (xup σ 18 j s w) μ' → μ' 29 0 0 = cd → xX F Q ad (xj c (xkM F.1.2.2.1 ad μ') t) cells slots (pc + 1) lv rest) : xX F Q ad (xj c (xkM F.1.2.2.1 ad μ) t) cells slots pc lv (.int v :: .int x :: .ref (ad (ro 17 21)) :: rest) := by
  subst hw
  refine xi_ast C (10 * j + s) rfl (xj_m (by decide) (by decide) (xkM_arr rfl rfl)) hi (show _ < 40 by omega) rfl hdg ?_
  exact x_pm (by decide) (by decide) (pm_arr rfl rfl) (kk _ (R.s21 hs) ((xup_n (by omega)).trans T))
theorem m_st22 (C : xC F cc nL own ret rm nm tb) (R : xRl κ σ μ) (T : μ 29 0 0 = cd) {j s : Nat} {x v w : Int32} (hi : x = nI (100 * j + s)) (hj : j < 4) (hs : s < 100) (hw : v = w) (hdg : decode cc pc = .ok (.iastore, 1))
    (kk : ∀ μ', xRl κ (xup σ 19 j s w) μ' → μ' 29 0 0 = cd → xX F Q ad (xj c (xkM F.1.2.2.1 ad μ') t) cells slots (pc + 1) lv rest) : xX F Q ad (xj c (xkM F.1.2.2.1 ad μ) t) cells slots pc lv (.int v :: .int x :: .ref (ad (ro 17 22)) :: rest) := by
  subst hw
  refine xi_ast C (100 * j + s) rfl (xj_m (by decide) (by decide) (xkM_arr rfl rfl)) hi (show _ < 400 by omega) rfl hdg ?_
  exact x_pm (by decide) (by decide) (pm_arr rfl rfl) (kk _ (R.s22 hs) ((xup_n (by omega)).trans T))
theorem m_put {f f' : Nat} {e : va_E} {v : Int32} (hm : (f, f') ∈ xmp) (h29 : f ≠ 29) (hp : cu (xkM F.1.2.2.1 ad μ) 16 0 e = xkM F.1.2.2.1 ad (xup μ f 0 0 v)) (R : xRl κ σ μ) (T : μ 29 0 0 = cd)
    (kk : ∀ μ', xRl κ (xup σ f' 0 0 v) μ' → μ' 29 0 0 = cd → xX F Q ad (xj c (xkM F.1.2.2.1 ad μ') t) cells slots pc lv rest) : xX F Q ad (xu (xj c (xkM F.1.2.2.1 ad μ) t) (ro 16 0) e) cells slots pc lv rest :=
  x_pm (by decide) (by decide) hp (kk _ (R.m hm) ((xup_n (by omega)).trans T))
end MROWS
set_option maxHeartbeats 4000000 in
theorem k2_no {G : xG} {ad : Nat → Nat} {μ : xSg} {c t : xK} (b p : Int32) : xM G yX2_no (ws_ yX2_no cX2_no 3 (some Jvm.ClassFile.FieldType.boolean)) 1 0 0 0 [.ref (ad (ro 16 0)), .int b, .int p] ad (xj c (xkM G.2.2.1 ad μ) t) (xPv (some (.int (if b = 0 then 1 else 0))) ad (xj c (xkM G.2.2.1 ad (xup μ 29 0 0 (if b = 0 then p else 0))) t)) xN := by
  refine xM_of (cc := cX2_no) (by decide) rfl (fun F hF C => ?_)
  subst hF
  show xX F _ _ _ 0 0 0 [(0, .ref (ad (ro 16 0))), (1, .int b), (2, .int p)] []
  refine x_aload_n C dX2_no_0 rfl 0 rfl ?_
  refine x_iload_n C dX2_no_1 rfl 1 rfl ?_
  refine x_if_eq (tgt := 9) C dX2_no_2 (by decide) (fun c1 => ?_) (fun c1 => ?_)
  · refine x_iload_n C dX2_no_9 rfl 2 rfl ?_
    refine x_put C fl_X2_87 (r := ro 16 0) rfl (xj_m (by decide) (by decide) rfl) rfl rfl (Nat.le_of_ble_eq_true rfl) dX2_no_10 ?_
    refine x_pm (by decide) (by decide) pm_29 ?_
    refine x_iload_n C dX2_no_13 rfl 1 rfl ?_
    refine x_if_ne (tgt := 21) C dX2_no_14 (by decide) (fun h => absurd c1 h) (fun _ => ?_)
    refine x_iconst (v := 1) C dX2_no_17 (by decide) ?_
    refine x_goto (tgt := 22) C dX2_no_18 (by decide) ?_
    exact x_zret C rfl dX2_no_22 (Nat.le_of_ble_eq_true rfl) (Nat.le_of_ble_eq_true rfl) ⟨by rw [if_pos c1], rfl, by rw [if_pos c1]⟩
  · refine x_iconst (v := 0) C dX2_no_5 (by decide) ?_
    refine x_goto (tgt := 10) C dX2_no_6 (by decide) ?_
    refine x_put C fl_X2_87 (r := ro 16 0) rfl (xj_m (by decide) (by decide) rfl) rfl rfl (Nat.le_of_ble_eq_true rfl) dX2_no_10 ?_
    refine x_pm (by decide) (by decide) pm_29 ?_
    refine x_iload_n C dX2_no_13 rfl 1 rfl ?_
    refine x_if_ne (tgt := 21) C dX2_no_14 (by decide) (fun _ => ?_) (fun h => absurd h c1)
    refine x_iconst (v := 0) C dX2_no_21 (by decide) ?_
    exact x_zret C rfl dX2_no_22 (Nat.le_of_ble_eq_true rfl) (Nat.le_of_ble_eq_true rfl) ⟨by rw [if_neg c1], rfl, by rw [if_neg c1]⟩
section MNO
variable {F : xFr} {cc : ByteArray} {nL : Nat} {ret : Option FieldType} {rm : Room} {nm : String} {tb : List ExceptionTableEntry} {Q : State → Prop} {ad : Nat → Nat} {κ : xKp} {σ μ : xSg} {c t : xK} {cells slots pc : Nat} {lv : List (Nat × Value)} {rest : List Value} {p : Int32}
theorem m_no1 (C : xC F cc nL "SelectoRouteModel" ret rm nm tb) (R : xRl κ σ μ) (hw : (rest.map fun v => v.category).sum ≤ 8) (hR : 2 ≤ rm.frames ∧ 30 ≤ rm.locals) (hf : cells ≤ rm.cells ∧ slots ≤ rm.slots) (hdg : decode cc pc = .ok (.invokevirtual 104, 3))
    (kk : ∀ μ', xRl κ σ μ' → μ' 29 0 0 = 0 → xX F Q ad (xj c (xkM F.1.2.2.1 ad μ') t) cells slots (pc + 3) lv (.int 0 :: rest)) : xX F Q ad (xj c (xkM F.1.2.2.1 ad μ) t) cells slots pc lv (.int p :: .int 1 :: .ref (ad (ro 16 0)) :: rest) := by
  refine x_callV (rest := rest) C (k2_no 1 p) cf_X2_104 ⟨rfl, hd_X2_no⟩ ⟨hR.1, show 8 + (3 + 11) + 0 ≤ _ by have := hR.2; omega⟩ (xR_o xci4 rfl (xj_m (by decide) (by decide) rfl)) rfl hw hf hdg (xPv_i ?_) xN_e
  exact kk _ (R.o (by omega)) (xup_s.trans (if_neg (by decide)))
theorem m_no0 (C : xC F cc nL "SelectoRouteModel" ret rm nm tb) (R : xRl κ σ μ) (hw : (rest.map fun v => v.category).sum ≤ 8) (hR : 2 ≤ rm.frames ∧ 30 ≤ rm.locals) (hf : cells ≤ rm.cells ∧ slots ≤ rm.slots) (hdg : decode cc pc = .ok (.invokevirtual 104, 3))
    (kk : ∀ μ', xRl κ σ μ' → μ' 29 0 0 = p → xX F Q ad (xj c (xkM F.1.2.2.1 ad μ') t) cells slots (pc + 3) lv (.int 1 :: rest)) : xX F Q ad (xj c (xkM F.1.2.2.1 ad μ) t) cells slots pc lv (.int p :: .int 0 :: .ref (ad (ro 16 0)) :: rest) := by
  refine x_callV (rest := rest) C (k2_no 0 p) cf_X2_104 ⟨rfl, hd_X2_no⟩ ⟨hR.1, show 8 + (3 + 11) + 0 ≤ _ by have := hR.2; omega⟩ (xR_o xci4 rfl (xj_m (by decide) (by decide) rfl)) rfl hw hf hdg (xPv_i ?_) xN_e
  exact kk _ (R.o (by omega)) (xup_s.trans (if_pos rfl))
end MNO
set_option maxHeartbeats 4000000 in
theorem k2_isIn {G : xG} {ad : Nat → Nat} {ct : xCt} (v lo hi : Int32) : xM G yX2_isIn (ws_ yX2_isIn cX2_isIn 3 (some Jvm.ClassFile.FieldType.boolean)) 1 0 0 0 [.int v, .int lo, .int hi] ad ct (xPv (some (.int (if lo ≤ v ∧ v ≤ hi then 1 else 0))) ad ct) xN := by
  refine xM_of (cc := cX2_isIn) (by decide) rfl (fun F hF C => ?_)
  subst hF
  show xX F _ _ _ 0 0 0 [(0, .int v), (1, .int lo), (2, .int hi)] []
  refine x_iload_n C dX2_isIn_0 rfl 0 rfl ?_
  refine x_iload_n C dX2_isIn_1 rfl 1 rfl ?_
  refine x_icmp_lt (tgt := 14) C dX2_isIn_2 (by decide) (fun c1 => ?_) (fun c1 => ?_)
  · refine x_iconst (v := 0) C dX2_isIn_14 (by decide) ?_
    exact x_zret C rfl dX2_isIn_15 (Nat.le_of_ble_eq_true rfl) (Nat.le_of_ble_eq_true rfl) ⟨by rw [if_neg (fun z => absurd z.1 (Int32.not_le.mpr c1))], rfl, rfl⟩
  · refine x_iload_n C dX2_isIn_5 rfl 0 rfl ?_
    refine x_iload_n C dX2_isIn_6 rfl 2 rfl ?_
    refine x_icmp_gt (tgt := 14) C dX2_isIn_7 (by decide) (fun c2 => ?_) (fun c2 => ?_)
    · refine x_iconst (v := 0) C dX2_isIn_14 (by decide) ?_
      exact x_zret C rfl dX2_isIn_15 (Nat.le_of_ble_eq_true rfl) (Nat.le_of_ble_eq_true rfl) ⟨by rw [if_neg (fun z => absurd z.2 (Int32.not_le.mpr c2))], rfl, rfl⟩
    · refine x_iconst (v := 1) C dX2_isIn_10 (by decide) ?_
      refine x_goto (tgt := 15) C dX2_isIn_11 (by decide) ?_
      exact x_zret C rfl dX2_isIn_15 (Nat.le_of_ble_eq_true rfl) (Nat.le_of_ble_eq_true rfl) ⟨by rw [if_pos ⟨Int32.not_lt.mp c1, Int32.not_lt.mp c2⟩], rfl, rfl⟩
set_option maxHeartbeats 4000000 in
theorem k2_isBox {G : xG} {ad : Nat → Nat} {κ : xKp} {σ μ : xSg} {c t : xK} (hI : xIk κ) (R : xRl κ σ μ) (b : Int32) : xM G yX2_isBox (ws_ yX2_isBox cX2_isBox 2 (some Jvm.ClassFile.FieldType.boolean)) 2 40 0 0 [.ref (ad (ro 16 0)), .int b] ad (xj c (xkM G.2.2.1 ad μ) t) (xPv (some (.int (if xIx b (κ 1) then 1 else 0))) ad (xj c (xkM G.2.2.1 ad μ) t)) xN := by
  refine xM_of (cc := cX2_isBox) (by decide) rfl (fun F hF C => ?_)
  subst hF
  have h30 := hI.2.2.2.2.1
  have h14 := hI.2.2.2.2.2
  have T : μ 29 0 0 = μ 29 0 0 := rfl
  show xX F _ _ _ 0 0 0 [(0, .ref (ad (ro 16 0))), (1, .int b)] []
  refine x_iload_n C dX2_isBox_0 rfl 1 rfl ?_
  refine x_iconst (v := 0) C dX2_isBox_1 (by decide) ?_
  refine x_aload_n C dX2_isBox_2 rfl 0 rfl ?_
  refine x_get C fl_X2_97 (r := ro 16 0) rfl (xj_m (by decide) (by decide) rfl) (v := .int (μ 19 0 0)) rfl dX2_isBox_3 ?_
  refine x_top (y := nI (κ 1)) R.2.1.2 ?_
  refine x_iconst (v := 1) C dX2_isBox_6 (by decide) ?_
  refine x_isub C dX2_isBox_7 ?_
  refine x_callS (rest := []) C (k2_isIn b 0 ((nI (κ 1)) - 1)) cf_X2_93 hd_X2_isIn ⟨Nat.le_of_ble_eq_true rfl, Nat.le_of_ble_eq_true rfl⟩ rfl (Nat.le_of_ble_eq_true rfl) ⟨Nat.le_of_ble_eq_true rfl, Nat.le_of_ble_eq_true rfl⟩ dX2_isBox_8 (xPv_i ?_) xN_e
  exact x_zret C (by split <;> rfl) dX2_isBox_11 (Nat.le_of_ble_eq_true rfl) (Nat.le_of_ble_eq_true rfl) ⟨rfl, rfl, rfl⟩
set_option maxHeartbeats 4000000 in
theorem k2_isDisc {G : xG} {ad : Nat → Nat} {κ : xKp} {σ μ : xSg} {c t : xK} (hI : xIk κ) (R : xRl κ σ μ) (b : Int32) : xM G yX2_isDisc (ws_ yX2_isDisc cX2_isDisc 2 (some Jvm.ClassFile.FieldType.boolean)) 2 40 0 0 [.ref (ad (ro 16 0)), .int b] ad (xj c (xkM G.2.2.1 ad μ) t) (xPv (some (.int (if xIx b (κ 0) then 1 else 0))) ad (xj c (xkM G.2.2.1 ad μ) t)) xN := by
  refine xM_of (cc := cX2_isDisc) (by decide) rfl (fun F hF C => ?_)
  subst hF
  have h30 := hI.2.2.2.2.1
  have h14 := hI.2.2.2.2.2
  have T : μ 29 0 0 = μ 29 0 0 := rfl
  show xX F _ _ _ 0 0 0 [(0, .ref (ad (ro 16 0))), (1, .int b)] []
  refine x_iload_n C dX2_isDisc_0 rfl 1 rfl ?_
  refine x_iconst (v := 0) C dX2_isDisc_1 (by decide) ?_
  refine x_aload_n C dX2_isDisc_2 rfl 0 rfl ?_
  refine x_get C fl_X2_90 (r := ro 16 0) rfl (xj_m (by decide) (by decide) rfl) (v := .int (μ 5 0 0)) rfl dX2_isDisc_3 ?_
  refine x_top (y := nI (κ 0)) R.2.1.1 ?_
  refine x_iconst (v := 1) C dX2_isDisc_6 (by decide) ?_
  refine x_isub C dX2_isDisc_7 ?_
  refine x_callS (rest := []) C (k2_isIn b 0 ((nI (κ 0)) - 1)) cf_X2_93 hd_X2_isIn ⟨Nat.le_of_ble_eq_true rfl, Nat.le_of_ble_eq_true rfl⟩ rfl (Nat.le_of_ble_eq_true rfl) ⟨Nat.le_of_ble_eq_true rfl, Nat.le_of_ble_eq_true rfl⟩ dX2_isDisc_8 (xPv_i ?_) xN_e
  exact x_zret C (by split <;> rfl) dX2_isDisc_11 (Nat.le_of_ble_eq_true rfl) (Nat.le_of_ble_eq_true rfl) ⟨rfl, rfl, rfl⟩
set_option maxHeartbeats 4000000 in
theorem k2_isSlot {G : xG} {ad : Nat → Nat} {κ : xKp} {σ μ : xSg} {c t : xK} (hI : xIk κ) (R : xRl κ σ μ) (b s : Int32) : xM G yX2_isSlot (ws_ yX2_isSlot cX2_isSlot 3 (some Jvm.ClassFile.FieldType.boolean)) 3 80 0 0 [.ref (ad (ro 16 0)), .int b, .int s] ad (xj c (xkM G.2.2.1 ad μ) t) (xPv (some (.int (if xIx b (κ 1) ∧ xIx s 10 then 1 else 0))) ad (xj c (xkM G.2.2.1 ad μ) t)) xN := by
  refine xM_of (cc := cX2_isSlot) (by decide) rfl (fun F hF C => ?_)
  subst hF
  have h30 := hI.2.2.2.2.1
  have h14 := hI.2.2.2.2.2
  have T : μ 29 0 0 = μ 29 0 0 := rfl
  show xX F _ _ _ 0 0 0 [(0, .ref (ad (ro 16 0))), (1, .int b), (2, .int s)] []
  refine x_aload_n C dX2_isSlot_0 rfl 0 rfl ?_
  refine x_iload_n C dX2_isSlot_1 rfl 1 rfl ?_
  refine x_callV (rest := []) C (k2_isBox hI R b) cf_X2_100 ⟨rfl, hd_X2_isBox⟩ ⟨Nat.le_of_ble_eq_true rfl, Nat.le_of_ble_eq_true rfl⟩ (xR_o xci4 rfl (xj_m (by decide) (by decide) rfl)) rfl (Nat.le_of_ble_eq_true rfl) ⟨Nat.le_of_ble_eq_true rfl, Nat.le_of_ble_eq_true rfl⟩ dX2_isSlot_2 (xPv_i ?_) xN_e
  refine x_case (fun c1 => ?_) (fun c1 => ?_)
  · refine x_if_eq (tgt := 22) C dX2_isSlot_5 (by decide) (fun h => absurd h (by decide)) (fun _ => ?_)
    refine x_iload_n C dX2_isSlot_8 rfl 2 rfl ?_
    refine x_iconst (v := 0) C dX2_isSlot_9 (by decide) ?_
    refine x_bipush (v := 9) C dX2_isSlot_10 (by decide) ?_
    refine x_callS (rest := []) C (k2_isIn s 0 9) cf_X2_93 hd_X2_isIn ⟨Nat.le_of_ble_eq_true rfl, Nat.le_of_ble_eq_true rfl⟩ rfl (Nat.le_of_ble_eq_true rfl) ⟨Nat.le_of_ble_eq_true rfl, Nat.le_of_ble_eq_true rfl⟩ dX2_isSlot_12 (xPv_i ?_) xN_e
    refine x_case (fun c2 => ?_) (fun c2 => ?_)
    · refine x_if_eq (tgt := 22) C dX2_isSlot_15 (by decide) (fun h => absurd h (by decide)) (fun _ => ?_)
      refine x_iconst (v := 1) C dX2_isSlot_18 (by decide) ?_
      refine x_goto (tgt := 23) C dX2_isSlot_19 (by decide) ?_
      exact x_zret C rfl dX2_isSlot_23 (Nat.le_of_ble_eq_true rfl) (Nat.le_of_ble_eq_true rfl) ⟨by rw [if_pos ⟨c1, c2⟩], rfl, rfl⟩
    · refine x_if_eq (tgt := 22) C dX2_isSlot_15 (by decide) (fun _ => ?_) (fun h => absurd (by decide) h)
      refine x_iconst (v := 0) C dX2_isSlot_22 (by decide) ?_
      exact x_zret C rfl dX2_isSlot_23 (Nat.le_of_ble_eq_true rfl) (Nat.le_of_ble_eq_true rfl) ⟨by rw [if_neg (fun z => c2 z.2)], rfl, rfl⟩
  · refine x_if_eq (tgt := 22) C dX2_isSlot_5 (by decide) (fun _ => ?_) (fun h => absurd (by decide) h)
    refine x_iconst (v := 0) C dX2_isSlot_22 (by decide) ?_
    exact x_zret C rfl dX2_isSlot_23 (Nat.le_of_ble_eq_true rfl) (Nat.le_of_ble_eq_true rfl) ⟨by rw [if_neg (fun z => c1 z.1)], rfl, rfl⟩
set_option maxHeartbeats 4000000 in
theorem k2_isInVan {G : xG} {ad : Nat → Nat} {κ : xKp} {σ μ : xSg} {c t : xK} (hI : xIk κ) (R : xRl κ σ μ) {d : Nat} (hd : d < κ 0) : xM G yX2_isInVan (ws_ yX2_isInVan cX2_isInVan 2 (some Jvm.ClassFile.FieldType.boolean)) 1 0 0 0 [.ref (ad (ro 16 0)), .int (nI d)] ad (xj c (xkM G.2.2.1 ad μ) t) (xPv (some (.int (if σ 4 d 0 = -1 then 1 else 0))) ad (xj c (xkM G.2.2.1 ad μ) t)) xN := by
  refine xM_of (cc := cX2_isInVan) (by decide) rfl (fun F hF C => ?_)
  subst hF
  have h30 := hI.2.2.2.2.1
  have h14 := hI.2.2.2.2.2
  have T : μ 29 0 0 = μ 29 0 0 := rfl
  show xX F _ _ _ 0 0 0 [(0, .ref (ad (ro 16 0))), (1, .int (nI d))] []
  refine x_aload_n C dX2_isInVan_0 rfl 0 rfl ?_
  refine x_get C fl_X2_22 (r := ro 16 0) rfl (xj_m (by decide) (by decide) rfl) (v := .ref (ad (ro 17 4))) rfl dX2_isInVan_1 ?_
  refine x_iload_n C dX2_isInVan_4 rfl 1 rfl ?_
  refine m_ld C R (f := 4) (f' := 4) (i := d) (by decide) rfl rfl rfl (show d < 30 by omega) (by decide) dX2_isInVan_5 ?_
  refine x_iconst (v := -1) C dX2_isInVan_6 (by decide) ?_
  refine x_icmp_ne (tgt := 14) C dX2_isInVan_7 (by decide) (fun c1 => ?_) (fun c1 => ?_)
  · refine x_iconst (v := 0) C dX2_isInVan_14 (by decide) ?_
    exact x_zret C rfl dX2_isInVan_15 (Nat.le_of_ble_eq_true rfl) (Nat.le_of_ble_eq_true rfl) ⟨by rw [if_neg c1], rfl, rfl⟩
  · refine x_iconst (v := 1) C dX2_isInVan_10 (by decide) ?_
    refine x_goto (tgt := 15) C dX2_isInVan_11 (by decide) ?_
    exact x_zret C rfl dX2_isInVan_15 (Nat.le_of_ble_eq_true rfl) (Nat.le_of_ble_eq_true rfl) ⟨by rw [if_pos c1], rfl, rfl⟩
