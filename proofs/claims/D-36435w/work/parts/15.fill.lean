/-! ===== EXCEPTIONS THAT ARE MADE BY THEIR CONSTRUCTORS: a new object's monitor is free; fillInStackTrace() keeps the object ===== -/
def xMon (a : Nat) (H : Heap) : Prop := ∃ cell : Cell, H[a]? = some cell ∧ cell.monitor.owner = none ∧ cell.monitor.count = 0
def xPm (G : xG) (av : List Value) (ad : Nat → Nat) (ct : xCt) (a : Nat) : Array Value → State → Prop := fun b U => xPc G av ad ct b U ∧ xMon a U.heap
/-- the contract of a constructor: its object's monitor is free at the start -/
def xMm (G : xG) (y : MethodName) (ws : List Cond) (fr lo mc ms : Nat) (av : List Value) (ad : Nat → Nat) (ct : xCt) (a : Nat) (Post : Option Value → (Nat → Nat) → xCt → Prop) (PX : String → (Nat → Nat) → xCt → Prop) : Prop :=
  vx_Met G.1 y ws ({ frames := fr, cells := mc, slots := ms, locals := lo } : Room) (xPm G av ad ct a) (xQc G Post) (xXc G PX) mc ms (xA G)
theorem xMm_of {G : xG} {y : MethodName} {cc : ByteArray} {maxL : Nat} {ret : Option FieldType} {fr lo mc ms : Nat} {av : List Value} {ad : Nat → Nat} {ct : xCt} {a : Nat} {Post : Option Value → (Nat → Nat) → xCt → Prop} {PX : String → (Nat → Nat) → xCt → Prop}
    (hy : plainName y.cls = true) (hlen : Nat.ble (lg_sl av).length maxL = true)
    (body : ∀ F : xFr, F.1 = G → xC F cc maxL y.cls ret ({ frames := fr, cells := mc, slots := ms, locals := lo } : Room) y.name [] → xMon a F.2.2.1.1.heap → xX F (xQ F Post PX mc ms) ad ct 0 0 0 (lv_args 0 av) []) : xMm G y (ws_ y cc maxL ret) fr lo mc ms av ad ct a Post PX := by
  refine vx_ofW (cc := cc) (maxL := maxL) (ret := ret) hy rfl ?_
  intro p e s m args below meth c s₁ B hml htb hv
  obtain ⟨⟨rfl, hw, hS, hB, hst⟩, hmon⟩ := hv
  have hts := atoms_spec (ws := ws_ y cc maxL ret) B.pre
  have hts : ∀ w ∈ lw_all, w.before _ s = true := fun w h => hts w (List.mem_cons_of_mem _ h)
  have hown : s.vm.findClass y.cls = some m.cls := findClass_of_methodNamed B.named
  have hnm : meth.name = y.name := (name_of_methodNamed B.named B.method).1
  have hl := lv_entry av (n := maxL) (Nat.le_of_ble_eq_true hlen)
  rw [lg_entry_eq]
  have htb' : c.exceptionTable.toList = [] := List.eq_nil_iff_forall_not_mem.mpr fun x hx => htb x hx
  refine body (G, (p, e, _), (s, m, av.toArray, below), (meth, c)) rfl ⟨⟨B.exec, B.bytes, hml, hown, hts⟩, ⟨B.notSynchronized, B.returns, rfl, hnm, htb'⟩, hS, hB, hst⟩ hmon s.heap [] _ hw va_S.rf ?_
  show lv_has _ c.maxLocals _
  rw [hml]
  exact hl
theorem xMon.stand {p : Program} {l : Launch} {e : Env} {R : Room} {s T : State} {m : MethodId} {args : Array Value} {below : List Frame} {meth : Method} {c : Code} {locs : List Loc} {cells slots a : Nat} (X : Stand p l e R s m args below meth c T locs cells slots) (h : xMon a s.heap) : xMon a T.heap := by
  obtain ⟨cell, h1, h2, h3⟩ := h
  obtain ⟨c', n1, n2, -⟩ := X.same.2.2.2.2.2 a cell h1
  refine ⟨c', n1, ?_, ?_⟩
  · rw [n2]; exact h2
  · rw [n2]; exact h3
theorem xPm_blind {G : xG} {av : List Value} {ad : Nat → Nat} {ct : xCt} {a : Nat} : FrameBlind (xPm G av ad ct a) := fun b U g mk q => ⟨xPc_blind b U g mk q.1, q.2⟩
section XMADE
variable {F : xFr} {cc : ByteArray} {nL : Nat} {own : String} {ret : Option FieldType} {rm : Room} {nm : String} {tb : List ExceptionTableEntry} {Q : State → Prop} {ad : Nat → Nat} {ct : xCt} {cells slots pc : Nat} {lv : List (Nat × Value)} {rest st : List Value}
variable {y : MethodName} {bytes : ByteArray} {maxL : Nat} {fr lo mc ms : Nat} {As : List Value} {b : Nat} {Post : Option Value → (Nat → Nat) → xCt → Prop} {PX : String → (Nat → Nat) → xCt → Prop}
/-- the call of a constructor with such a contract, where the heap is known to have the monitor free -/
theorem x_callMW (C : xC F cc nL own ret rm nm tb) {idx : Nat} (hM : xMm F.1 y (ws_ y bytes maxL none) fr lo mc ms (.ref b :: As) ad ct b Post PX) (hcode : Cond.code y bytes maxL none ∈ lw_all) (hini : Cond.initialized y.cls ∈ lw_all) (hl : Cond.methodLink own idx y ∈ lw_all) (hin : Cond.instanceMethod y ∈ lw_all) (hy1 : y.name = "<init>")
    (hd : y.cls ≠ "java/lang/invoke/MethodHandle" ∧ y.cls ≠ "java/lang/invoke/VarHandle" ∧ (parseMethodDescriptor y.desc).map (fun d => d.parameters.length) = some As.length) (hR : fr + 1 ≤ rm.frames ∧ 8 + (maxL + 11) + lo ≤ rm.locals)
    (hst : st = As.reverse ++ .ref b :: rest) (hw : (rest.map fun v => v.category).sum ≤ 8) (hf : cells + mc ≤ rm.cells ∧ slots + ms ≤ rm.slots) (hdg : decode cc pc = .ok (.invokespecial idx, 3))
    (kn : ∀ v ad' ct', Post v ad' ct' → xX F Q ad' ct' (cells + mc) (slots + ms) (pc + 3) lv (v.toList ++ rest)) (kx : ∀ E ad' ct', PX E ad' ct' → xT F Q ad' ct' (cells + mc) (slots + ms) pc lv E)
    {H : Heap} {locs : List Loc} {ls : Array Slot} (w : xw F.1 ad ct H) (hS : va_S (xA F.1) F.2.2.1.1.heap H locs) (h0 : lv_has ls F.2.2.2.2.maxLocals lv) (hm : xMon b H) :
    W F.2.1.1 F.1.1 F.2.1.2.1 F.2.1.2.2 F.2.2.1.1 F.2.2.1.2.1 F.2.2.1.2.2.1 F.2.2.1.2.2.2 F.2.2.2.1 F.2.2.2.2 H locs cells slots Q (F0 F.2.2.1.2.1 pc ls st) := by
  intro T hT X
  have hr : vx_Run F.2.1.1 F.1.1 F.2.1.2.1 F.2.1.2.2 F.2.2.1.1 F.2.2.1.2.1 F.2.2.1.2.2.1 F.2.2.1.2.2.2 F.2.2.2.1 F.2.2.2.2 H locs cells slots mc ms (F0 F.2.2.1.2.1 pc ls st) rest (xQc F.1 Post (Value.ref b :: As).toArray) (xXc F.1 PX) (xA F.1) := vx_runI C.fix hM (cwI As.length C.hts (lw_meth hcode) rfl rfl rfl (C.hts _ hini) (C.hts _ hl) (C.hts _ hin) hy1 hd (by rw [C.hR]; exact hR)) ⟨xPm_blind, fun U hU hW => ⟨xPc_here C w hS U hU hW, by rw [hU]; exact hm⟩⟩ rfl rfl (h0.1.trans C.hml) hst (lv_room hw) hdg (by rw [C.hR]; exact hf)
  rcases hr T hT X with ⟨v, st₀, t, T', L, h9, X', hL, e1, e2, ⟨⟨v', ad', ct', hv, hp, hw⟩, hF⟩, stp⟩ | ⟨q, st₀, t, T', L, E, ce, h9, X', hL, e1, e2, ⟨⟨ad', ct', hp, hw⟩, hF⟩, hce, hcv, hcl, stp⟩
  · cases hv
    obtain ⟨k1, k2, k3⟩ := vx_keep h9 e1 hS (fun q _ h => h) (fun q h => h) hL hF
    obtain ⟨t2, a1, b1⟩ := kn v ad' ct' hp T'.heap (locs ++ L) ls (by rw [e1]; exact hw) k3 h0 T' rfl X'
    exact ⟨t2, stp t2 a1, b1⟩
  · obtain ⟨k1, k2, k3⟩ := vx_keep h9 e1 hS (fun q _ h => h) (fun q h => h) hL hF
    obtain ⟨t2, a1, b1⟩ := kx E ad' ct' hp T'.heap (locs ++ L) ls q ce rest (by rw [e1]; exact hw) k3 h0 (by rw [e1]; exact hce) hcv hcl T' rfl X'
    exact ⟨t2, stp.trans a1, b1⟩
theorem x_callM (C : xC F cc nL own ret rm nm tb) (hm : xMon b F.2.2.1.1.heap) {idx : Nat} (hM : xMm F.1 y (ws_ y bytes maxL none) fr lo mc ms (.ref b :: As) ad ct b Post PX) (hcode : Cond.code y bytes maxL none ∈ lw_all) (hini : Cond.initialized y.cls ∈ lw_all) (hl : Cond.methodLink own idx y ∈ lw_all) (hin : Cond.instanceMethod y ∈ lw_all) (hy1 : y.name = "<init>")
    (hd : y.cls ≠ "java/lang/invoke/MethodHandle" ∧ y.cls ≠ "java/lang/invoke/VarHandle" ∧ (parseMethodDescriptor y.desc).map (fun d => d.parameters.length) = some As.length) (hR : fr + 1 ≤ rm.frames ∧ 8 + (maxL + 11) + lo ≤ rm.locals)
    (hst : st = As.reverse ++ .ref b :: rest) (hw : (rest.map fun v => v.category).sum ≤ 8) (hf : cells + mc ≤ rm.cells ∧ slots + ms ≤ rm.slots) (hdg : decode cc pc = .ok (.invokespecial idx, 3))
    (kn : ∀ v ad' ct', Post v ad' ct' → xX F Q ad' ct' (cells + mc) (slots + ms) (pc + 3) lv (v.toList ++ rest)) (kx : ∀ E ad' ct', PX E ad' ct' → xT F Q ad' ct' (cells + mc) (slots + ms) pc lv E) : xX F Q ad ct cells slots pc lv st := by
  intro H locs ls w hS h0 T hT X
  exact x_callMW C hM hcode hini hl hin hy1 hd hR hst hw hf hdg kn kx w hS h0 (by rw [← hT]; exact hm.stand X) T hT X
end XMADE
theorem x_tat : ∀ w ∈ Bundle.throwableAtoms.filter vx_no, w ∈ lw_all := by
  intro w hw
  obtain ⟨-, -, -, -, h5, -⟩ := xth_UOE
  refine h5 w (List.mem_filter.mpr ⟨?_, ?_⟩)
  · obtain ⟨h1, h2⟩ := List.mem_filter.mp hw
    exact List.mem_filter.mpr ⟨by unfold Bundle.ownAtoms0; exact List.mem_append_left _ (List.mem_append_left _ h1), h2⟩
  · exact (show ∀ w ∈ Bundle.throwableAtoms.filter vx_no, goodWord w = true by decide +kernel) w hw
section XFILL
variable {F : xFr} {cc : ByteArray} {nL : Nat} {ret : Option FieldType} {rm : Room} {nm : String} {tb : List ExceptionTableEntry} {Q : State → Prop} {ad : Nat → Nat} {ct : xCt} {cells slots pc : Nat} {lv : List (Nat × Value)} {rest : List Value}
set_option maxHeartbeats 1000000 in
theorem x_fill (C : xC F cc nL "java/lang/Throwable" ret rm nm tb) {r ci : Nat} {Cn : String} {T0 : u_T} {ty : Nat → FieldType} (hc : xCi ci Cn T0 6 ty) (h1 : T0 1 = ("java/lang/Throwable", "stackTrace", "[Ljava/lang/StackTraceElement;", false)) (h4 : T0 4 = ("java/lang/Throwable", "backtrace", "Ljava/lang/Object;", false))
    (hse : Cond.selects Cn Bundle.tFill Bundle.tFill ∈ lw_all) (hs0 : Cond.selects Cn Bundle.tFill0 Bundle.tFill0 ∈ lw_all)
    {v0 v2 v3 v5 : Value} (u : RefV) (h : ct r = some (.inr (ci, [v0, u.v, v2, v3, .null, v5]))) (hm : xMon (ad r) F.2.2.1.1.heap) (hu : va_Z "java/lang/Throwable" "UNASSIGNED_STACK" "[Ljava/lang/StackTraceElement;" u.v (xA F.1) F.2.2.1.1 F.2.2.1.1.heap)
    (hR : 2 < rm.frames ∧ (rest.map fun v => v.category).sum + 60 ≤ rm.locals) (hdg : decode cc pc = .ok (.invokevirtual 27, 3))
    (kk : xX F Q ad ct cells slots (pc + 3) lv (.ref (ad r) :: rest)) : xX F Q ad ct cells slots pc lv (.ref (ad r) :: rest) := by
  obtain ⟨G, ⟨p, e, R⟩, ⟨s, m, args, below⟩, meth, c⟩ := F
  intro H locs ls w hS h0 T hT X
  dsimp only at *
  have hexec : p.tables.exec = Jvm.exec := C.hx
  have howns : e.platform.frameOwnsMonitors = true := by rw [X.admits.platform]
  have hfin : e.platform.finalization = false := by rw [X.admits.platform]
  have hpl : e.platform.magicAccessors = ({} : Platform).magicAccessors := by rw [X.admits.platform]
  have htr : e.platform.stackTraces = false := (show e.platform.stackTraces = G.1.stackTraces by rw [X.admits.platform]).trans C.hl
  have hS1 := C.S.2.1
  have hS2 := C.S.2.2.1
  have hat : ∀ x ∈ Bundle.throwableAtoms, x.before args s = true := vx_own (fun x hx => C.hts x (x_tat x hx)) (vx_isRefq hS1.1) (vx_isRefq hS2.1) hS1.2.word hS2.2.word
  obtain ⟨Tc, Z, L, -, Y⟩ := ThrowableC.of_atoms (args := args) howns hfin hpl hat
  obtain ⟨rr, e1, cell, q1, q2, q3, q4⟩ := (w.2.1 r _ h).1
  have hrr : rr = (Cn, T0, 6) := Option.some.inj (e1.symm.trans hc.1)
  subst hrr
  have q4 : ∀ k, k < 6 → cell.slots[G.2.1.2 ci k]? = some (vp_V [v0, u.v, v2, v3, .null, v5] k) := q4
  obtain ⟨hSl', hfc, kC, hkC, hkind⟩ := C.K.1 ci _ hc.1
  have hSl : ∀ k, k < 6 → SlotIs s (T0 k).1 (T0 k).2.1 (T0 k).2.2.1 (G.2.1.2 ci k) := hSl'
  obtain ⟨cf1, kf1, fi1, f1, hi1, hsl1⟩ := hSl 1 (by decide)
  obtain ⟨cf4, kf4, fi4, f4, hi4, hsl4⟩ := hSl 4 (by decide)
  have hlay : (u_lay Cn T0 1).before args s = true := C.hts _ (hc.2.1 _ (u_in_lay (k := 1) (by decide)))
  unfold u_lay at hlay
  rw [h1] at hi1 hlay
  rw [h4] at hi4
  rw [if_neg (by decide)] at hlay
  have hst := Y.stack
  cases Option.some.inj (hi1.symm.trans hst)
  have hvS : cell.slots[Tc.fStack.slot]? = some u.v := by rw [hsl1, q4 1 (by decide)]; rfl
  obtain ⟨ci198, i198, fB, hk198, hg198, ha198, hsB, -, hnB, htB, hffB⟩ := Cond.ownField (t := .object "java/lang/Object") Y.found L.cls (by decide +kernel) (C.hts _ q234) (C.hts _ q198) e.platform hpl
  cases Option.some.inj (hi4.symm.trans hffB)
  have hvB : cell.slots[f4.slot]? = some .null := by rw [hsl4, q4 4 (by decide)]; rfl
  have htS : Takes s cell Tc.fStack u.v := ⟨(Array.getElem?_eq_some_iff.mp hvS).1, by
    have h6 := u_store hfc hkC hkind hlay hi1 (ty := .array (.object "java/lang/StackTraceElement")) (by decide +kernel) (v := u.v) (narrow_refV _ u) (fits_refV_array _ u)
    rw [q2, q3]; exact h6.2.2⟩
  obtain ⟨cm, m1, m2, m3⟩ := hm.stand X
  rw [hT] at m1
  cases Option.some.inj (q1.symm.trans m1)
  obtain ⟨cfu, kfu, fiu, fu, au, cellS0, z1, z2, z3, z4, z5, z6, z7, z8⟩ := hu
  cases Option.some.inj (z1.symm.trans Y.unassigned)
  cases Option.some.inj (z4.symm.trans L.statics)
  have hcS : H[Tc.aS]? = some cellS0 := by rw [hS.2.1 _ (Array.getElem?_eq_some_iff.mp z5).1 z8]; exact z5
  have hneS : Tc.aS ≠ ad r := fun e => z8 (by rw [e]; exact (w.2.1 r _ h).2)
  have hknownS : cellS0.vm ≠ .unknown := fun e => by rw [e] at z6; cases z6
  have hsel : selectMethod e.platform s.vm cell.cls Tc.fill = .method Tc.fill := by
    obtain ⟨c2, r2, m2, w1, w2, w3, w4, -⟩ := Cond.selects_spec (C.hts _ hse)
    cases Option.some.inj (w1.symm.trans hfc)
    cases Option.some.inj (w2.symm.trans (State.methodFound?_of_named Y.fill (by decide)))
    cases Option.some.inj (w3.symm.trans Y.fill)
    rw [Launch.admits_selectMethod X.admits, q2]; exact w4
  have hsel0 : selectMethod e.platform s.vm cell.cls Tc.fill0 = .method Tc.fill0 := by
    obtain ⟨c2, r2, m2, w1, w2, w3, w4, -⟩ := Cond.selects_spec (C.hts _ hs0)
    cases Option.some.inj (w1.symm.trans hfc)
    cases Option.some.inj (w2.symm.trans (State.methodFound?_of_named Y.fill0 (by decide)))
    cases Option.some.inj (w3.symm.trans Y.fill0)
    rw [Launch.admits_selectMethod X.admits, q2]; exact w4
  have hmc : m.cls = Tc.cT := Option.some.inj (C.hown.symm.trans Y.found)
  subst hT
  have hA : At T m c below := X.here
  have hnst : ∀ k, cell.vm ≠ .statics k := fun k e => by rw [q3] at e; cases e
  have hkn : cell.vm ≠ .unknown := fun e => by rw [q3] at e; cases e
  have hdg' : decode c.code pc = .ok (.invokevirtual 27, 3) := by rw [C.hb]; exact hdg
  obtain ⟨vm1, hW1, st1⟩ := Steps.invokeVirtualCold (tb := p.tables) (e := e) (below := below) (s₀ := s) (U := T) (c := c) (f := F0 m pc ls (.ref (ad r) :: rest)) (args := []) (rest := rest) (a := ad r) (cell := cell) (r := Tc.fill) (m := Tc.fill) hA hexec hdg' X.warmed
    (by show s.vm.MethodLinks e.platform m.cls 27 _ _; rw [hmc]; exact L.mlink27) (by show s.rightAt m.cls 27 _ = true; rw [hmc]; exact L.mright27) L.notHandle (by show s.vm.classes[m.cls]? = _; rw [hmc]; exact L.cls) L.file L.pool27 L.cls L.notInterface (L.method L.fillAt) L.fillStatic (by rw [L.fillParams]; rfl) rfl q1 hnst hsel (L.method L.fillAt) L.fillAbstract L.cls L.notInterface
  have X1 := X.noted hW1
  have hfr := X1.framesAbove (n := 2) (by rw [show R = rm from C.hR]; exact hR.1)
  have hwd := X1.stackAbove (g := F0 m pc ls rest) (h0.1) (K := 60) (by rw [show R = rm from C.hR]; show 2 * 0 + (rest.map fun v => v.category).sum + 60 ≤ _; have := hR.2; omega)
  have htop : (T.setVm vm1).topJava?.isSome := X1.here.top
  obtain ⟨g₀, hg⟩ := Option.isSome_iff_exists.mp htop
  obtain ⟨tl, htl⟩ := State.topJava?_eq_some.mp hg
  have hlen : (T.setVm vm1).frames.length = (Frame.java (F0 m pc ls rest) :: (T.setVm vm1).frames.tail).length := by rw [htl]; rfl
  have hroomF : e.platform.stackFull ((((T.setVm vm1).setTop (F0 m pc ls rest)).threads[((T.setVm vm1).setTop (F0 m pc ls rest)).cur]?).getD { frames := [] }) ((T.setVm vm1).setTop (F0 m pc ls rest)).frames (1 + 2) = false :=
    roomAbove (pushed := []) (base := .java (F0 m pc ls rest) :: (T.setVm vm1).frames.tail) (free := 60) (lim := e.platform.stackLimits (T.setVm vm1).me) (by rw [State.frames_setTop _ htl, htl]; rfl) (State.stackLimits_setTop _ htop _) (by rw [← hlen]; simp only [List.length_nil]; omega) hwd (by simp only [stackUse_nil]; omega)
  obtain ⟨vm2, hW2, st2⟩ := Steps.fillColdAnyV p (e := e) (below := below) (s₀ := s) (V := T.setVm vm1) (self := ad r) (g := F0 m pc ls rest) (c := c) X1.here hexec Tc L hW1 (Nn := fun u => u) heapOnly_id (fun _ _ => rfl) (fun _ => rfl) (fun u x y => setCell_twice _ _ _ _)
    (cell := cell) (cellS := cellS0) (cN := cell.withEntry (T.setVm vm1).cur) (u0 := u) (ig := .invokevirtual 27) (len := 3) [] q1 hnst hkn (Or.inl m2) hvS hsel0 hcS hneS hknownS z7 (fun _ hu => hu) (fun _ hu => hu) rfl rfl rfl rfl htS hdg'
    (fun _ vm3 hW3 hAt t' hs => by
      have htop3 : ((T.setVm vm1).setVm vm3).topJava?.isSome := htop
      have htopE : (((T.setVm vm1).setVm vm3).setCell (ad r) (cell.withEntry ((T.setVm vm1).setVm vm3).cur)).topJava?.isSome := htop
      have hfF : (fillInside ((T.setVm vm1).setVm vm3) (F0 m pc ls rest) Tc.fill (ad r) cell).frames = .java (entryFrameSync Tc.fill #[.ref (ad r)] 1 (ad r)) :: .java (F0 m pc ls rest) :: (T.setVm vm1).frames.tail := frames_entered (g := F0 m pc ls rest) htopE _
      have htopF : (fillInside ((T.setVm vm1).setVm vm3) (F0 m pc ls rest) Tc.fill (ad r) cell).topJava?.isSome := by rw [State.topJava?_of_frames hfF]; rfl
      have hlimF : e.platform.stackLimits (fillInside ((T.setVm vm1).setVm vm3) (F0 m pc ls rest) Tc.fill (ad r) cell).me = e.platform.stackLimits (T.setVm vm1).me := by
        rw [State.stackLimits_pushFrame, State.stackLimits_setTop _ htopE]; rfl
      refine L.nativeOff p htr hAt hW3 ?_ hs
      exact roomAbove (pushed := [.java (fillJ Tc.fill (ad r) 16 [])]) (base := .java (F0 m pc ls rest) :: (T.setVm vm1).frames.tail) (free := 60) (lim := e.platform.stackLimits (T.setVm vm1).me) (State.frames_setTop _ hfF) (by rw [State.stackLimits_setTop _ htopF]; exact hlimF)
        (by rw [← hlen]; simp only [List.length_cons, List.length_nil]; omega) hwd (by rw [show (stackUse [Frame.java (fillJ Tc.fill (ad r) 16 [])]).2 = 14 from by rw [stackUse_java, stackUse_nil]; simp [operandWords]]; decide))
    hroomF ⟨{ ci198 := ci198, i198 := fi4, fBack := f4 }, ⟨hk198, hg198, ha198, hsB⟩, hvB, fun _ _ => rfl⟩
  have hsame : ((cell.withEntry (T.setVm vm1).cur).setSlot Tc.fStack.slot u.v).left = cell := by
    rw [Cell.setSlot_same (show (cell.withEntry (T.setVm vm1).cur).slots[Tc.fStack.slot]? = some u.v from hvS), Cell.left_withEntry _ m2 m3]
  obtain ⟨t, a1, b1⟩ := kk T.heap locs ls w hS h0 ((T.setVm vm1).setVm vm2) rfl (X1.noted hW2)
  refine ⟨t, st1 t (st2 t ?_), b1⟩
  rw [hsame, State.setCell_asItLies (show ((T.setVm vm1).setVm vm2).heap[ad r]? = some cell from q1)]
  exact a1
end XFILL
