/-! ===== METHODS WITH HANDLERS (codeWith): contracts, calls; nest mates, super calls ===== -/
theorem xMW_of {G : xG} {y : MethodName} {cc : ByteArray} {maxL : Nat} {ret : Option FieldType} {hh : List (Nat × Nat × Nat × Nat)} {fr lo mc ms : Nat} {av : List Value} {ad : Nat → Nat} {ct : xCt} {Post : Option Value → (Nat → Nat) → xCt → Prop} {PX : String → (Nat → Nat) → xCt → Prop}
    (hy : plainName y.cls = true) (hlen : Nat.ble (lg_sl av).length maxL = true)
    (body : ∀ F : xFr, F.1 = G → xC F cc maxL y.cls ret ({ frames := fr, cells := mc, slots := ms, locals := lo } : Room) y.name (tableOf hh) → xX F (xQ F Post PX mc ms) ad ct 0 0 0 (lv_args 0 av) []) : xM G y (wsW_ y cc maxL ret hh) fr lo mc ms av ad ct Post PX := by
  refine vx_ofWH (cc := cc) (maxL := maxL) (ret := ret) (hh := hh) hy rfl ?_
  intro p e s m args below meth c s₁ B hml hv
  obtain ⟨rfl, hw, hS, hB, hst⟩ := hv
  have hts := atoms_spec (ws := wsW_ y cc maxL ret hh) B.pre
  have htb : c.exceptionTable.toList = tableOf hh := vx_table (x := y) B (hts _ List.mem_cons_self)
  have hts : ∀ w ∈ lw_all, w.before _ s = true := fun w h => hts w (List.mem_cons_of_mem _ h)
  have hown : s.vm.findClass y.cls = some m.cls := findClass_of_methodNamed B.named
  have hnm : meth.name = y.name := (name_of_methodNamed B.named B.method).1
  have hl := lv_entry av (n := maxL) (Nat.le_of_ble_eq_true hlen)
  rw [lg_entry_eq]
  refine body (G, (p, e, _), (s, m, av.toArray, below), (meth, c)) rfl ⟨⟨B.exec, B.bytes, hml, hown, hts⟩, ⟨B.notSynchronized, B.returns, rfl, hnm, htb⟩, hS, hB, hst⟩ s.heap [] _ hw va_S.rf ?_
  show lv_has _ c.maxLocals _
  rw [hml]
  exact hl
section XCALLW
variable {F : xFr} {cc : ByteArray} {nL : Nat} {own : String} {ret : Option FieldType} {rm : Room} {nm : String} {tb : List ExceptionTableEntry} {Q : State → Prop} {ad : Nat → Nat} {ct : xCt} {cells slots pc : Nat} {lv : List (Nat × Value)} {rest st : List Value}
variable {y : MethodName} {bytes : ByteArray} {maxL : Nat} {ret' : Option FieldType} {hh : List (Nat × Nat × Nat × Nat)} {fr lo mc ms : Nat} {As : List Value} {b : Nat} {Post : Option Value → (Nat → Nat) → xCt → Prop} {PX : String → (Nat → Nat) → xCt → Prop}
theorem x_callVW (C : xC F cc nL own ret rm nm tb) {Cn : String} {idx : Nat} (hM : xM F.1 y (wsW_ y bytes maxL ret' hh) fr lo mc ms (.ref b :: As) ad ct Post PX) (hT : GoodIn lw_all (wsV own idx Cn y (wsW_ y bytes maxL ret' hh)))
    (hd : y.cls = Cn ∧ y.cls ≠ "java/lang/invoke/MethodHandle" ∧ y.cls ≠ "java/lang/invoke/VarHandle" ∧ (parseMethodDescriptor y.desc).map (fun d => d.parameters.length) = some As.length) (hR : fr + 1 ≤ rm.frames ∧ 8 + (maxL + 11) + lo ≤ rm.locals)
    (hrc : xR F.1 ad ct Cn b) (hst : st = As.reverse ++ .ref b :: rest) (hw : (rest.map fun v => v.category).sum ≤ 8) (hf : cells + mc ≤ rm.cells ∧ slots + ms ≤ rm.slots) (hdg : decode cc pc = .ok (.invokevirtual idx, 3))
    (kn : ∀ v ad' ct', Post v ad' ct' → xX F Q ad' ct' (cells + mc) (slots + ms) (pc + 3) lv (v.toList ++ rest)) (kx : ∀ E ad' ct', PX E ad' ct' → xT F Q ad' ct' (cells + mc) (slots + ms) pc lv E) : xX F Q ad ct cells slots pc lv st := by
  refine x_of_run (a := (Value.ref b :: As).toArray) (fun H locs ls w hS h0 => ?_) kn kx
  exact vx_runVX C.fix hM (vx_cwVW As.length C.hts hT rfl rfl rfl hd (by rw [C.hR]; exact hR)) ⟨xPc_blind, xR_recv C w hS hrc, xPc_here C w hS⟩ rfl rfl (h0.1.trans C.hml) hst (lv_room hw) hdg (by rw [C.hR]; exact hf)
theorem x_callSW (C : xC F cc nL own ret rm nm tb) {idx : Nat} (hM : xM F.1 y (wsW_ y bytes maxL ret' hh) fr lo mc ms As ad ct Post PX) (hT : GoodIn lw_all (va_wsS own idx y (wsW_ y bytes maxL ret' hh)))
    (hd : y.cls ≠ "java/lang/invoke/MethodHandle" ∧ y.cls ≠ "java/lang/invoke/VarHandle" ∧ (parseMethodDescriptor y.desc).map (fun d => d.parameters.length) = some As.length) (hR : fr + 1 ≤ rm.frames ∧ 8 + (maxL + 11) + lo ≤ rm.locals)
    (hst : st = As.reverse ++ rest) (hw : (rest.map fun v => v.category).sum ≤ 8) (hf : cells + mc ≤ rm.cells ∧ slots + ms ≤ rm.slots) (hdg : decode cc pc = .ok (.invokestatic idx, 3))
    (kn : ∀ v ad' ct', Post v ad' ct' → xX F Q ad' ct' (cells + mc) (slots + ms) (pc + 3) lv (v.toList ++ rest)) (kx : ∀ E ad' ct', PX E ad' ct' → xT F Q ad' ct' (cells + mc) (slots + ms) pc lv E) : xX F Q ad ct cells slots pc lv st := by
  refine x_of_run (a := As.toArray) (fun H locs ls w hS h0 => ?_) kn kx
  exact vx_runSX C.fix hM (vx_cwSW As.length C.hts hT rfl rfl rfl hd (by rw [C.hR]; exact hR)) ⟨xPc_blind, xPc_here C w hS⟩ rfl rfl (h0.1.trans C.hml) hst (lv_room hw) hdg (by rw [C.hR]; exact hf)
/-- a nest mate's static method -/
theorem x_callSN (C : xC F cc nL own ret rm nm tb) {idx : Nat} {host : String} (hM : xM F.1 y (ws_ y bytes maxL ret') fr lo mc ms As ad ct Post PX) (hcode : Cond.code y bytes maxL ret' ∈ lw_all) (hini : Cond.initialized y.cls ∈ lw_all) (hst9 : Cond.static y ∈ lw_all) (hl : va_Nw (.methodLinkNest own idx y host) F.2.2.1.1)
    (hd : y.cls ≠ "java/lang/invoke/MethodHandle" ∧ y.cls ≠ "java/lang/invoke/VarHandle" ∧ (parseMethodDescriptor y.desc).map (fun d => d.parameters.length) = some As.length) (hR : fr + 1 ≤ rm.frames ∧ 8 + (maxL + 11) + lo ≤ rm.locals)
    (hst : st = As.reverse ++ rest) (hw : (rest.map fun v => v.category).sum ≤ 8) (hf : cells + mc ≤ rm.cells ∧ slots + ms ≤ rm.slots) (hdg : decode cc pc = .ok (.invokestatic idx, 3))
    (kn : ∀ v ad' ct', Post v ad' ct' → xX F Q ad' ct' (cells + mc) (slots + ms) (pc + 3) lv (v.toList ++ rest)) (kx : ∀ E ad' ct', PX E ad' ct' → xT F Q ad' ct' (cells + mc) (slots + ms) pc lv E) : xX F Q ad ct cells slots pc lv st := by
  refine x_of_run (a := As.toArray) (fun H locs ls w hS h0 => ?_) kn kx
  exact vx_runSN C.fix hM ⟨va_cnB As.length C.hts (lw_meth hcode) rfl rfl rfl hl (C.hts _ hini) hd (by rw [C.hR]; exact hR), C.hts _ hst9, trivial⟩ ⟨xPc_blind, xPc_here C w hS⟩ rfl rfl (h0.1.trans C.hml) hst (lv_room hw) hdg (by rw [C.hR]; exact hf)
end XCALLW
