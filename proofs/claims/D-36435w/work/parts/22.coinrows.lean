/-! ===== THE COINS ===== -/
section XCOIN
variable {F : xFr} {cc : ByteArray} {nL : Nat} {own : String} {ret : Option FieldType} {rm : Room} {nm : String} {tb : List ExceptionTableEntry} {Q : State → Prop} {ad : Nat → Nat} {ct : xCt} {cells slots pc : Nat} {lv : List (Nat × Value)} {rest st : List Value}
variable {y : MethodName} {bytes : ByteArray} {maxL : Nat} {ret' : Option FieldType} {fr lo mc ms : Nat} {As : List Value} {b : Nat} {Post : Option Value → (Nat → Nat) → xCt → Prop} {PX : String → (Nat → Nat) → xCt → Prop}
/-- an overriding method of a class that is not said to be initialised: its body -/
theorem x_callUB (C : xC F cc nL own ret rm nm tb) {Cn : String} {x : MethodName} {idx : Nat} {b0 : ByteArray} {m0 : Nat} {r0 : Option FieldType} (hy : plainName y.cls = true) (hlen9 : Nat.ble (lg_sl (.ref b :: As)).length maxL = true)
    (hbody : ∀ F' : xFr, F'.1 = F.1 → xC F' bytes maxL y.cls ret' ({ frames := fr, cells := mc, slots := ms, locals := lo } : Room) y.name [] → xX F' (xQ F' Post PX mc ms) ad ct 0 0 0 (lv_args 0 (.ref b :: As)) [])
    (w1 : Cond.methodLink own idx x ∈ lw_all) (w2 : Cond.sameMethod x.cls x.cls x.name x.desc ∈ lw_all) (w3 : Cond.instanceMethod ⟨x.cls, x.name, x.desc⟩ ∈ lw_all) (w4 : Cond.code ⟨x.cls, x.name, x.desc⟩ b0 m0 r0 ∈ lw_all) (w5 : Cond.selects Cn x y ∈ lw_all) (w6 : Cond.instanceMethod y ∈ lw_all) (w7 : Cond.code y bytes maxL ret' ∈ lw_all)
    (hd : x.cls ≠ "java/lang/invoke/MethodHandle" ∧ x.cls ≠ "java/lang/invoke/VarHandle" ∧ (parseMethodDescriptor x.desc).map (fun d => d.parameters.length) = some As.length) (hR : fr + 1 ≤ rm.frames ∧ 8 + (maxL + 11) + lo ≤ rm.locals)
    (hrc : xR F.1 ad ct Cn b) (hst : st = As.reverse ++ .ref b :: rest) (hw : (rest.map fun v => v.category).sum ≤ 8) (hf : cells + mc ≤ rm.cells ∧ slots + ms ≤ rm.slots) (hdg : decode cc pc = .ok (.invokevirtual idx, 3))
    (kn : ∀ v ad' ct', Post v ad' ct' → xX F Q ad' ct' (cells + mc) (slots + ms) (pc + 3) lv (v.toList ++ rest)) (kx : ∀ E ad' ct', PX E ad' ct' → xT F Q ad' ct' (cells + mc) (slots + ms) pc lv E) : xX F Q ad ct cells slots pc lv st := by
  refine x_of_run (a := (Value.ref b :: As).toArray) (fun H locs ls w hS h0 => ?_) kn kx
  have hK : vx_Back F.1.1 F.2.1.2.2 F.2.1.1 F.2.1.2.1 F.2.2.1.2.2.2 F.2.2.1.1 F.2.2.1.2.2.1 y 3 8 (PreOf F.2.1.2.2 mc ms (xPc F.1 (.ref b :: As) ad ct)) (PostOf (xQc F.1 Post) mc ms (xA F.1)) (vx_Post (xXc F.1 PX) mc ms (xA F.1)) := by
    refine xb_back0 (ws := ws_ y bytes maxL ret') (rm := ({ frames := fr, cells := mc, slots := ms, locals := lo } : Room)) (bytes := bytes) (maxL := maxL) (ret := ret') hy ?_ xPc_blind rfl rfl (by rw [C.hR]; exact hR.1) (by rw [C.hR]; exact hR.2) (pay_in C.hts (lw_meth w7)) List.mem_cons_self
    intro s' m' args' below' meth' c' hn hm hb hml hret hlk htb hww hv
    obtain ⟨rfl, hw', hS', hB', hst'⟩ := hv
    have hl := lv_entry (Value.ref b :: As) (n := maxL) (Nat.le_of_ble_eq_true hlen9)
    rw [lg_entry_eq]
    refine hbody (F.1, (F.2.1.1, F.2.1.2.1, ({ frames := fr, cells := mc, slots := ms, locals := lo } : Room)), (s', m', (Value.ref b :: As).toArray, below'), (meth', c')) rfl ⟨⟨C.hx, hb, hml, findClass_of_methodNamed hn, fun w h => hww w (List.mem_cons_of_mem _ h)⟩, ⟨hlk, hret, rfl, (name_of_methodNamed hn hm).1, htb⟩, hS', hB', hst'⟩ s'.heap [] _ hw' va_S.rf ?_
    show lv_has _ c'.maxLocals _
    rw [hml]
    exact hl
  obtain ⟨cellB, hcB, hoB, hclB⟩ := xR_recv C w hS hrc
  have hPc := xPc_here (av := Value.ref b :: As) C w hS
  have hd0 : va_Decl F.2.2.1.1 ⟨x.cls, x.name, x.desc⟩ := va_Decl.of (C.hts _ w3) (C.hts _ w4)
  intro T hT X
  rcases vx_callVU X C.hx (C := Cn) (owner := x.cls) (x := x) (bytes := bytes) (maxL := maxL) (ret := ret') C.hown (C.hts _ w1) (C.hts _ w2) hd0 ⟨hd.1, hd.2.1⟩ (C.hts _ w5) (C.hts _ w6) (C.hts _ w7) hK (by rw [hT]; exact hcB) hoB hclB (g := F0 F.2.2.1.2.1 pc ls st) rfl (h0.1) (argsL := As) (rest := rest) (fun sig h => by have h2 := hd.2.2; rw [h] at h2; exact (Option.some.inj h2).symm) hst (lv_room hw) (by rw [C.hb]; exact hdg)
    (fun vm₁ hW₁ => ⟨by rw [C.hR]; exact hf.1, by rw [C.hR]; exact hf.2, hPc (T.setVm vm₁) hT hW₁⟩) with ⟨v, vm₁, ⟨U', l2, c2, s2⟩, hW₁, X', ⟨g', mk, t, L, e1, e2, hq, h1, hL, h2, h3⟩, stp⟩ | ⟨q, vm₁, ⟨U', l2, c2, s2⟩, hW₁, X', ⟨g', mk, t, L, E, ce, e1, e2, hq, hce, hcv, hcl, h1, hL, h2, h3⟩, stp⟩
  · dsimp only [Pt.U, Pt.locs, Pt.cells, Pt.slots] at X' e1 e2 h1 h2 h3 stp
    subst h1; subst h2; subst h3
    exact Or.inl ⟨v, (T.setVm vm₁).calling g' mk (Value.ref b :: As).toArray, t, U', L, hT, X', hL, e1, e2, hq, stp⟩
  · dsimp only [Pt.U, Pt.locs, Pt.cells, Pt.slots] at X' e1 e2 h1 h2 h3 stp hcl
    subst h1; subst h2; subst h3
    exact Or.inr ⟨q, (T.setVm vm₁).calling g' mk (Value.ref b :: As).toArray, t, U', L, E, ce, hT, X', hL, e1, e2, hq, hce, hcv, vx_cls hW₁ hcl, stp⟩
/-- super.m() -/
theorem x_callSup (C : xC F cc nL own ret rm nm tb) {Cn : String} {idx : Nat} (hM : xM F.1 y (ws_ y bytes maxL ret') fr lo mc ms (.ref b :: As) ad ct Post PX) (hT : GoodIn lw_all (va_wsSU own idx y (ws_ y bytes maxL ret')))
    (hd : y.name ≠ "<init>" ∧ (parseMethodDescriptor y.desc).map (fun d => d.parameters.length) = some As.length) (hR : fr + 1 ≤ rm.frames ∧ 8 + (maxL + 11) + lo ≤ rm.locals)
    (hrc : xR F.1 ad ct Cn b) (hst : st = As.reverse ++ .ref b :: rest) (hw : (rest.map fun v => v.category).sum ≤ 8) (hf : cells + mc ≤ rm.cells ∧ slots + ms ≤ rm.slots) (hdg : decode cc pc = .ok (.invokespecial idx, 3))
    (kn : ∀ v ad' ct', Post v ad' ct' → xX F Q ad' ct' (cells + mc) (slots + ms) (pc + 3) lv (v.toList ++ rest)) (kx : ∀ E ad' ct', PX E ad' ct' → xT F Q ad' ct' (cells + mc) (slots + ms) pc lv E) : xX F Q ad ct cells slots pc lv st := by
  refine x_of_run (a := (Value.ref b :: As).toArray) (fun H locs ls w hS h0 => ?_) kn kx
  obtain ⟨cellB, hcB, hoB, hclB⟩ := xR_recv C w hS hrc
  obtain ⟨kB, hkB, -⟩ := Vm.findClass_spec hclB
  have hPc := xPc_here (av := Value.ref b :: As) C w hS
  obtain ⟨⟨hrc, hrs, hfr, hlo, hws, hcw⟩, hl1, hl2, hl3, hl4, hini, hcode, hno, hlen⟩ : va_CS F.2.1.2.2 F.2.2.1.1 F.2.2.1.2.2.1 own idx y bytes maxL ret' (ws_ y bytes maxL ret') ({ frames := fr, cells := mc, slots := ms, locals := lo } : Room) mc ms As.length := va_cwSU As.length C.hts hT rfl rfl rfl hd (by rw [C.hR]; exact hR)
  have hK : vx_Back F.1.1 F.2.1.2.2 F.2.1.1 F.2.1.2.1 F.2.2.1.2.2.2 F.2.2.1.1 F.2.2.1.2.2.1 y 3 8 (PreOf F.2.1.2.2 mc ms (xPc F.1 (.ref b :: As) ad ct)) (PostOf (xQc F.1 Post) mc ms (xA F.1)) (vx_Post (xXc F.1 PX) mc ms (xA F.1)) := vx_back (bytes := bytes) (maxL := maxL) (ret := ret') hM xPc_blind hrc hrs hfr hlo hws hcw (fun a' U hW => word_at hW (Or.inl (by first | rfl | simp [Cond.onTables, Cond.keeps, Cond.steady])) hini)
  intro T hT9 X
  rcases vx_callSU X C.hx (bytes := bytes) (maxL := maxL) (ret := ret') C.hown hl1 hl2 hl3 hl4 hcode hno hK (by rw [hT9]; exact hcB) hoB hkB (g := F0 F.2.2.1.2.1 pc ls st) rfl h0.1 (argsL := As) (rest := rest) (fun sig h => hlen sig h) hst (lv_room hw) (by rw [C.hb]; exact hdg)
    (fun vm₁ hW₁ => ⟨by rw [C.hR]; exact hf.1, by rw [C.hR]; exact hf.2, hPc (T.setVm vm₁) hT9 hW₁⟩) with ⟨v, vm₁, ⟨U', l2, c2, s2⟩, hW₁, X', ⟨g', mk, t, L, e1, e2, hq, h1, hL, h2, h3⟩, stp⟩ | ⟨q, vm₁, ⟨U', l2, c2, s2⟩, hW₁, X', ⟨g', mk, t, L, E, ce, e1, e2, hq, hce, hcv, hcl, h1, hL, h2, h3⟩, stp⟩
  · dsimp only [Pt.U, Pt.locs, Pt.cells, Pt.slots] at X' e1 e2 h1 h2 h3 stp
    subst h1; subst h2; subst h3
    exact Or.inl ⟨v, (T.setVm vm₁).calling g' mk (Value.ref b :: As).toArray, t, U', L, hT9, X', hL, e1, e2, hq, stp⟩
  · dsimp only [Pt.U, Pt.locs, Pt.cells, Pt.slots] at X' e1 e2 h1 h2 h3 stp hcl
    subst h1; subst h2; subst h3
    exact Or.inr ⟨q, (T.setVm vm₁).calling g' mk (Value.ref b :: As).toArray, t, U', L, E, ce, hT9, X', hL, e1, e2, hq, hce, hcv, vx_cls hW₁ hcl, stp⟩
theorem x_coinL (C : xC F cc nL own ret rm nm tb) {idx i : Nat} (hi : i < 4) (hl : Cond.fieldLink own idx "SelectoRoute$Coin" "letter" "C" ∈ lw_all) (hdg : decode cc pc = .ok (.getfield idx, 3)) (kk : xX F Q ad ct cells slots (pc + 3) lv (.int (xcoinL i) :: rest)) : xX F Q ad ct cells slots pc lv (.ref (F.1.2.2.1 (310 + i)) :: rest) := by
  intro H locs ls w hS h0
  obtain ⟨cf, k, fi, f, cell, h1, h2, h3, h4, h5, h6⟩ := ((C.S.2.2.2.2.2.2.2.2.2.1 i hi).2.1).kept hS.2.1
  exact W.getf C.hx C.hb C.hown (C.hts _ hl) h1 h2 h3 h4 h5 rfl rfl hdg (kk H locs ls w hS h0)
theorem x_coinP (C : xC F cc nL own ret rm nm tb) {idx i : Nat} (hi : i < 4) (hl : Cond.fieldLink own idx "SelectoRoute$Coin" "cents" "I" ∈ lw_all) (hdg : decode cc pc = .ok (.getfield idx, 3)) (kk : xX F Q ad ct cells slots (pc + 3) lv (.int (xcoinP i) :: rest)) : xX F Q ad ct cells slots pc lv (.ref (F.1.2.2.1 (310 + i)) :: rest) := by
  intro H locs ls w hS h0
  obtain ⟨cf, k, fi, f, cell, h1, h2, h3, h4, h5, h6⟩ := ((C.S.2.2.2.2.2.2.2.2.2.1 i hi).2.2).kept hS.2.1
  exact W.getf C.hx C.hb C.hown (C.hts _ hl) h1 h2 h3 h4 h5 rfl rfl hdg (kk H locs ls w hS h0)
/-- the component reads a coin's cents (a nest mate's field) -/
theorem x_coinPN (C : xC F cc nL "SelectoRoute" ret rm nm tb) {i : Nat} (hi : i < 4) (hdg : decode cc pc = .ok (.getfield 113, 3)) (kk : xX F Q ad ct cells slots (pc + 3) lv (.int (xcoinP i) :: rest)) : xX F Q ad ct cells slots pc lv (.ref (F.1.2.2.1 (310 + i)) :: rest) := by
  intro H locs ls w hS h0
  obtain ⟨cf, k, fi, f, cell, h1, h2, h3, h4, h5, h6⟩ := ((C.S.2.2.2.2.2.2.2.2.2.1 i hi).2.2).kept hS.2.1
  exact va_Wgetf C.hx C.hb C.hown (va_Nw.use rfl (C.S.1.2.2.2.2.1 ("SelectoRoute", 113, "SelectoRoute$Coin", "cents", "I", "SelectoRoute") (by decide))) h1 h2 h3 h4 h5 rfl rfl hdg (kk H locs ls w hS h0)
theorem x_quarter (C : xC F cc nL "SelectoRoute$Coin$2" ret rm nm tb) (hdg : decode cc pc = .ok (.getstatic 7, 3)) (kk : xX F Q ad ct cells slots (pc + 3) lv (.ref (F.1.2.2.1 312) :: rest)) : xX F Q ad ct cells slots pc lv rest :=
  fun H locs ls w hS h0 => va_gets C.hx C.hb C.S.2.2.2.2.2.2.2.2.2.2.1 hS C.hown (C.hts _ q688) (u_same (C.hts _ q689)) hdg (kk H locs ls w hS h0)
theorem x_values (C : xC F cc nL "SelectoRoute$Coin" ret rm nm tb) (hdg : decode cc pc = .ok (.getstatic 16, 3)) (kk : xX F Q ad ct cells slots (pc + 3) lv (.ref (F.1.2.2.1 320) :: rest)) : xX F Q ad ct cells slots pc lv rest :=
  fun H locs ls w hS h0 => va_gets C.hx C.hb C.S.2.2.2.2.2.2.2.2.2.2.2.1 hS C.hown (C.hts _ q646) (fun _ h => h) hdg (kk H locs ls w hS h0)
abbrev xCoins (F : xFr) : va_E := .inl (F.1.2.2.1 1005, 4, .inr (.inr (.inr (.inr (fun k => if k < 4 then some (F.1.2.2.1 (310 + k)) else none)))))
theorem x_cloneV (C : xC F cc nL "SelectoRoute$Coin" ret rm nm tb) {r : Nat} (hr : ct r = none) (hR : 1 ≤ rm.frames ∧ (rest.map fun v => v.category).sum + 14 ≤ rm.locals) (hcs : cells + 1 ≤ rm.cells ∧ slots + 4 ≤ rm.slots) (hdg : decode cc pc = .ok (.invokevirtual 20, 3))
    (kk : ∀ ad' : Nat → Nat, (∀ x, x ≠ r → ad' x = ad x) → xX F Q ad' (xu ct r (xCoins F)) (cells + 1) (slots + 4) (pc + 3) lv (.ref (ad' r) :: rest)) : xX F Q ad ct cells slots pc lv (.ref (F.1.2.2.1 320) :: rest) := by
  obtain ⟨G, ⟨p, e, R⟩, ⟨s, m, args, below⟩, meth, c⟩ := F
  intro H locs ls w hS h0 T hT X
  dsimp only at *
  obtain ⟨ws, hP, hD, hws⟩ := xw_list w
  obtain ⟨cell, y1, y2, y3, y4, y5, y6, y7⟩ := xvals.kept C.S.2.2.2.2.2.2.2.2.2.2.2.2 hS.2.1
  obtain ⟨hAr, hRA⟩ := C.K.2 5 (G.2.2.1 1005, .object "SelectoRoute$Coin") rfl
  obtain ⟨kS, compS, hkS, hkindS, -, hfc⟩ := hRA
  have hcc : cell.cls = G.2.2.1 1005 := Option.some.inj (y5.symm.trans hfc)
  obtain ⟨c0, t0', f1, f2, f3⟩ := Cond.castable_spec (va_Nw.use (A := args) rfl (C.S.1.2.2.2.2.2.2.1 ("[LSelectoRoute$Coin;", "java/lang/Cloneable") (by decide)))
  cases y5.symm.trans f1
  have hkT : ∃ kA, T.vm.classes[cell.cls]? = some kA ∧ kA.kind = .array compS (.object "SelectoRoute$Coin") := by
    obtain ⟨k', hk', he⟩ := X.warmed.alike.2.2 _ _ (hcc ▸ hkS)
    exact ⟨k', hk', by rw [he]; exact hkindS⟩
  obtain ⟨kA, hkA, hkindA⟩ := hkT
  have hsz : cell.slots.size = 4 := by rw [y6]; exact arrV_size _ _ _
  obtain ⟨vm', X', st⟩ := X.cloneArray C.hx C.hown (C.hts _ q648) (C.hts _ q649) (C.hts _ q650) (C.hts _ q651) (C.hts _ q652) (a := G.2.2.1 320) (cell := cell) (by rw [hT]; exact y1) (fun k h => by rw [h] at y4; cases y4) y3 y5 f2 f3
    (fun i v hv => by
      have hfit : fits (.object "SelectoRoute$Coin") v = true := by
        rw [y6] at hv
        by_cases hi : i < 4
        · rw [arrV_read _ _ hi] at hv
          cases hv; rfl
        · rw [Array.getElem?_eq_none (by rw [arrV_size]; omega)] at hv
          cases hv
      have hv0 : cell.vm = .none ∨ True := Or.inr trivial
      simpa [State.fitsSlot, State.slotType?, hkA, hkindA] using hfit)
    (g := F0 m pc ls (.ref (G.2.2.1 320) :: rest)) rfl h0.1 rfl (by rw [C.hb]; exact hdg) (by rw [show R = rm from C.hR]; exact hR.1) (by rw [show R = rm from C.hR]; show 2 * 0 + (rest.map fun v => v.category).sum + 14 ≤ _; have := hR.2; omega) (by rw [show R = rm from C.hR]; exact hcs.1) (by rw [hsz, show R = rm from C.hR]; exact hcs.2) (hloader := Vm.clonesLoader_of_array (hcc ▸ hkS) hkindS)
  have hnew : ({ cls := cell.cls, slots := cell.slots } : Cell) = vp_cell (G.2.2.1 1005) (4, .inr (.inr (.inr (.inr (fun k => if k < 4 then some (G.2.2.1 (310 + k)) else none))))) := by
    rw [y6, hcc]
    have hs : (arrV (G.2.2.1 1005) 4 (fun k => Value.ref (G.2.2.1 (310 + k)))).slots = (arrV (G.2.2.1 1005) 4 (fun k => va_rf (if k < 4 then some (G.2.2.1 (310 + k)) else none))).slots := by
      refine Array.ext_getElem? (fun j => ?_)
      by_cases hj : j < 4
      · rw [arrV_read _ _ hj, arrV_read _ _ hj, if_pos hj]; rfl
      · rw [Array.getElem?_eq_none (by rw [arrV_size]; omega), Array.getElem?_eq_none (by rw [arrV_size]; omega)]
    show ({ cls := G.2.2.1 1005, slots := (arrV (G.2.2.1 1005) 4 (fun k => Value.ref (G.2.2.1 (310 + k)))).slots } : Cell) = arrV (G.2.2.1 1005) 4 (fun k => va_rf (if k < 4 then some (G.2.2.1 (310 + k)) else none))
    rw [hs]; rfl
  rw [hnew, hsz] at X'
  generalize hH1 : H.push (vp_cell (G.2.2.1 1005) (4, .inr (.inr (.inr (.inr (fun k => if k < 4 then some (G.2.2.1 (310 + k)) else none)))))) = H1
  have z1 : H1.size = H.size + 1 := by rw [← hH1, Array.size_push]
  have e1 : H1[H.size]? = some (vp_cell (G.2.2.1 1005) (4, .inr (.inr (.inr (.inr (fun k => if k < 4 then some (G.2.2.1 (310 + k)) else none)))))) := by rw [← hH1, Array.getElem?_push_size]
  have o1 : ∀ q : Nat, q < H.size → H1[q]? = H[q]? := fun q hq => by rw [← hH1, Array.getElem?_push, if_neg (Nat.ne_of_lt hq)]
  have hk : ∀ (k : Nat) (y : Nat × va_E), ws[k]? = some y → H1[y.1]? = H[y.1]? := fun k y hy => o1 y.1 ((hP k y hy).lt)
  have hP1 : va_P G.2.1 xcl (ws ++ [(H.size, xCoins (G, (p, e, R), (s, m, args, below), meth, c))]) H1 := (hP.kept hk).app (fun k y hy => by
    have hz : k < 1 := (List.getElem?_eq_some_iff.mp hy).1
    rw [show k = 0 by omega] at hy
    cases hy
    exact e1)
  have hD1 : va_D (xA G) (ws ++ [(H.size, xCoins (G, (p, e, R), (s, m, args, below), meth, c))]) := hD.push hP rfl (C.hA _ hS.1)
  have hh := kk (xa ad r H.size) (fun x hx => xa_n hx)
  rw [xa_s] at hh
  obtain ⟨t, b1, b2⟩ := hh H1 locs ls (xw_push w hws hr hP1 hD1) ⟨Nat.le_trans hS.1 (by omega), fun y h1 h2 => (o1 y (Nat.lt_of_lt_of_le h1 hS.1)).trans (hS.2.1 y h1 h2), hS.2.2⟩ h0
    ((T.setVm vm').pushCell (vp_cell (G.2.2.1 1005) (4, .inr (.inr (.inr (.inr (fun k => if k < 4 then some (G.2.2.1 (310 + k)) else none))))))) (by rw [← hH1, ← hT]; rfl) X'
  refine ⟨t, st t ?_, b2⟩
  rw [hnew, hT]
  exact b1
end XCOIN
