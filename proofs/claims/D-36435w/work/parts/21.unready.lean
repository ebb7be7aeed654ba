/-! ===== A CALL OF A METHOD WHOSE CLASS IS NOT SAID TO BE INITIALISED (an enum constant's own class): its body at once; follows the proof of vx_back (EXCEPTIONS.to-paste) ===== -/
section XUNR
variable {l : Launch} {R : Room} {p : Program} {e : Env} {below : List Frame} {s : State} {sargs : Array Value} {y : MethodName} {len W9 : Nat}
set_option maxHeartbeats 1000000 in
theorem xb_back0 {ws : List Cond} {rm : Room} {Pc : Array Value → State → Prop} {Qc : Array Value → State → Outcome → State → Prop} {XC : String → State → State → Prop} {mc ms : Nat} {free : Addr → Prop} {bytes : ByteArray} {maxL : Nat} {ret : Option FieldType}
    (hx : plainName y.cls = true)
    (hbody : ∀ (s : State) (m : MethodId) (args : Array Value) (below : List Frame) (meth : Method) (c : Code), s.methodNamed? y = some m → s.vm.method? m = some meth → c.code = bytes → c.maxLocals = maxL → meth.sig.returnType = ret → meth.locks = false → c.exceptionTable.toList = [] → (∀ w ∈ ws, w.before args s = true) → Pc args s →
      W p l e rm s m args below meth c s.heap [] 0 0 (vx_MQ below Qc XC args s mc ms free) (entryFrame m args maxL))
    (hblind : FrameBlind Pc) (hrc : rm.cells = mc) (hrs : rm.slots = ms)
    (hframes : rm.frames + 1 ≤ R.frames) (hlocals : W9 + (maxL + 11) + rm.locals ≤ R.locals)
    (hws : ∀ w ∈ ws, ∀ a' U, s.WarmedH U.vm → w.before a' U = true) (hcode : Cond.code y bytes maxL ret ∈ ws) :
    vx_Back l R p e below s sargs y len W9 (PreOf R mc ms Pc) (PostOf Qc mc ms free) (vx_Post XC mc ms free) := by
  intro m meth c A g ig mk a X hg hsize hdg hW hn hp
  have h2 : (Cond.code y bytes maxL ret).before a A.U = true := hws _ hcode _ _ X.warmed
  have h4 : A.cells + rm.cells ≤ R.cells := by rw [hrc]; exact hp.1
  have h5 : A.slots + rm.slots ≤ R.slots := by rw [hrs]; exact hp.2.1
  have hPc : Pc a (A.U.calling g mk a) := hblind _ _ _ _ hp.2.2
  obtain ⟨U, Ls, c0, s0⟩ := A
  dsimp only [Pt.U, Pt.locs, Pt.cells, Pt.slots] at h2 h4 h5 X hn hPc ⊢
  obtain ⟨methY, cY, hmY, hcY, hbY, hlY, hrY, hkY, htY, -⟩ := Cond.code_spec hn h2
  have h : At U g.method c below := by rw [hg]; exact X.here
  have hroom : (U.calling g mk a).hasRoom e.platform rm = true := X.room_calling (g := g) (R' := rm) hsize hmY hcY hframes (by rw [hlY]; omega) h4 h5
  obtain ⟨mid, hmid⟩ := h.above
  have hfc : (U.calling g mk a).frames = .invoking mk a :: .java g :: U.frames.tail := State.frames_calling h.top g mk a
  obtain ⟨g₀, hg0⟩ := Option.isSome_iff_exists.mp h.top
  obtain ⟨r, hr⟩ := State.topJava?_eq_some.mp hg0
  have hcodeC : (U.calling g mk a).code? g.method = some c := by
    have := h.code
    rw [State.code?_eq] at this ⊢
    simpa [State.calling, State.pushFrame, State.setFrames] using this
  have hears : (U.calling g mk a).hears mk (.java g :: U.frames.tail) = true := by simp [State.hears, hcodeC, hdg, Except.toOption]
  have hfull : e.platform.stackFull (((U.setTop g).threads[(U.setTop g).cur]?).getD { frames := [] }) (U.setTop g).frames cY.maxLocals = false := X.notFull hsize (by omega) (by rw [hlY]; omega)
  have hent := doInvoke_enter (e := e) (g := g) h.top [] (m := mk) (meth := methY) (code := cY) (args := a) hmY hcY hkY hfull
  have hplain : U.plainMethod mk := State.plainMethod.of_named (s := U) (plainFor_of_name hx) hn hmY
  have hE := At.enter (g := g) h a hmY hcY hplain
  have hfE := frames_entered (g := g) h.top (.java (entryFrame mk a cY.maxLocals))
  obtain ⟨t9, ht9, -⟩ := State.frames_cons hfc
  have hS1 : (U.setTop g).pushFrame (.java (entryFrame mk a cY.maxLocals)) = (U.calling g mk a).setFrames (.java (entryFrame mk a cY.maxLocals) :: .java g :: U.frames.tail) := by
    rw [State.calling_eq h.top, State.setFrames_setFrames, State.pushFrame, State.frames_setTop' g h.top, State.setTop_of_frames _ hr, State.setFrames_setFrames]
    
  have hcur : (U.calling g mk a).cur < (U.calling g mk a).threads.size := State.cur_lt_of_frames hfc
  have XE : Stand p l e rm (U.calling g mk a) mk a (.java g :: U.frames.tail) methY cY ((U.setTop g).pushFrame (.java (entryFrame mk a cY.maxLocals))) [] 0 0 := by
    refine ⟨X.admits, X.cas, X.clock, hfc, hroom, hears, hmY, hcY, ⟨hE.top, ⟨[], by rw [hfE]; rfl⟩, hE.running, hE.runnable, hE.alone, hE.code, hE.plain⟩, by rw [hfE]; rfl, State.WarmedH.refl _, ?_, ?_, ?_⟩
    · rw [hS1, State.stackLimits_setFrames]
    · rw [hS1, State.stackBytes_setFrames]
    · have h9 := (State.sameButNew.refl (U.calling g mk a) ht9).setFrames (.java (entryFrame mk a cY.maxLocals) :: .java g :: U.frames.tail) hcur
      rw [hS1]
      exact h9
  have hheap : ((U.setTop g).pushFrame (.java (entryFrame mk a cY.maxLocals))).heap = (U.calling g mk a).heap := by rw [hS1]; rfl
  obtain ⟨s₂, st, o, -, hend, hq⟩ := hbody (U.calling g mk a) mk a (.java g :: U.frames.tail) methY cY hn hmY hbY hlY hrY hkY (Array.isEmpty_iff.mp htY ▸ rfl) (fun w hw => by
    have := hws w hw a U X.warmed
    rw [State.calling_eq h.top, Cond.before_setFrames]; exact this) hPc _ hheap XE
  have hsteps : Steps p.tables e below (doInvoke e (U.setTop g) [] mk a).1 s₂ := by
    rw [hent]
    rw [hlY] at st ⊢
    refine Steps.weaken (mid := .java g :: mid) ?_
    rw [hmid] at st
    exact st
  have hq' : vx_Q Qc XC mc ms free a (U.calling g mk a) o s₂ := hq
  have hr' : (({ U with heap := s₂.heap, slotsUsed := s₂.slotsUsed } : State).setVm s₂.vm).frames = .java g₀ :: r := hr
  rcases hq' with ⟨hqc, L, hfe, hL⟩ | ⟨q, rfl, E, ce, L, hx, hce, hcv, hcl, hW₂, hsm, hL⟩
  · obtain ⟨⟨v, rfl⟩, hW₂, e2, q2, q3, q4, q5, q6⟩ := id hfe
    have e3 : s₂ = ({ (U.calling g mk a).setFrames s₂.frames with heap := s₂.heap, slotsUsed := s₂.slotsUsed } : State).setVm s₂.vm := by
      have : s₂ = ({ s₂ with vm := (U.calling g mk a).vm } : State).setVm s₂.vm := rfl
      rw [e2] at this
      exact this
    obtain ⟨c₂, i₂, len₂, hc₂, hd₂, hf₂⟩ := hend
    have hW' : U.WarmedH s₂.vm := hW₂
    have hcc : c₂ = c := by
      have h1 : s₂.code? g.method = U.code? g.method := by
        rw [State.code?_eq, State.code?_eq, hW'.alike.method?]
      exact Option.some.inj (hc₂.symm.trans (h1.trans h.code))
    subst hcc
    have hlen : len₂ = len := by rw [hdg] at hd₂; cases hd₂; rfl
    subst hlen
    have hs₂ : s₂ = (({ U with heap := s₂.heap, slotsUsed := s₂.slotsUsed } : State).setVm s₂.vm).setTop { g with pc := g.pc + len₂, stack := v.toList ++ g.stack } := by
      refine e3.trans ?_
      rw [hf₂, State.calling_eq h.top, State.setFrames_setFrames, State.setTop_of_frames _ hr', hr]
      rfl
    have hsame : U.sameButNew ({ U with heap := s₂.heap, slotsUsed := s₂.slotsUsed } : State) L mc ms := by
      refine ⟨?_, q2, q3, q4, q5, q6⟩
      obtain ⟨t, ht, -⟩ := State.frames_cons hr
      show ({ U with heap := s₂.heap, slotsUsed := s₂.slotsUsed } : State) = { U.setFrames U.frames with heap := s₂.heap, slotsUsed := s₂.slotsUsed }
      rw [State.setFrames_self ht]
    subst hg
    refine Or.inl ⟨v, ⟨(({ U with heap := s₂.heap, slotsUsed := s₂.slotsUsed } : State).setVm s₂.vm), Ls ++ L, c0 + mc, s0 + ms⟩,
      ⟨X.admits, X.cas, X.clock, X.frames, X.room, X.hears, X.method, X.code, (X.here.setHeapUsed s₂.heap s₂.slotsUsed).setVm hW'.alike, X.tail, State.WarmedH.trans X.warmed hW', X.limits, X.bytes, X.same.trans (hsame.setVm s.vm)⟩,
      ⟨g, mk, s₂, L, rfl, rfl, hqc, rfl, hL, rfl, rfl⟩, ?_⟩
    show Steps p.tables e below _ ((({ U with heap := s₂.heap, slotsUsed := s₂.slotsUsed } : State).setVm s₂.vm).setTop { g with pc := g.pc + len₂, stack := v.toList ++ g.stack })
    rw [← hs₂]
    exact hsteps
  · obtain ⟨e2, q2, q3, q4, q5, q6⟩ := id hsm
    have e3 : s₂ = ({ (U.calling g mk a).setFrames s₂.frames with heap := s₂.heap, slotsUsed := s₂.slotsUsed } : State).setVm s₂.vm := by
      have : s₂ = ({ s₂ with vm := (U.calling g mk a).vm } : State).setVm s₂.vm := rfl
      rw [e2] at this
      exact this
    have hf₂ : s₂.frames = .throwing q :: .java g :: U.frames.tail := hend
    have hW' : U.WarmedH s₂.vm := hW₂
    have hs₂ : s₂ = ((({ U with heap := s₂.heap, slotsUsed := s₂.slotsUsed } : State).setVm s₂.vm).setTop g).pushFrame (.throwing q) := by
      refine e3.trans ?_
      rw [hf₂, State.calling_eq h.top, State.setFrames_setFrames, State.pushFrame, State.frames_setTop _ hr', State.setTop_of_frames _ hr', State.setFrames_setFrames, hr]
      rfl
    have hsame : U.sameButNew ({ U with heap := s₂.heap, slotsUsed := s₂.slotsUsed } : State) L mc ms := by
      refine ⟨?_, q2, q3, q4, q5, q6⟩
      obtain ⟨t, ht, -⟩ := State.frames_cons hr
      show ({ U with heap := s₂.heap, slotsUsed := s₂.slotsUsed } : State) = { U.setFrames U.frames with heap := s₂.heap, slotsUsed := s₂.slotsUsed }
      rw [State.setFrames_self ht]
    subst hg
    refine Or.inr ⟨q, ⟨(({ U with heap := s₂.heap, slotsUsed := s₂.slotsUsed } : State).setVm s₂.vm), Ls ++ L, c0 + mc, s0 + ms⟩,
      ⟨X.admits, X.cas, X.clock, X.frames, X.room, X.hears, X.method, X.code, (X.here.setHeapUsed s₂.heap s₂.slotsUsed).setVm hW'.alike, X.tail, State.WarmedH.trans X.warmed hW', X.limits, X.bytes, X.same.trans (hsame.setVm s.vm)⟩,
      ⟨g, mk, s₂, L, E, ce, rfl, rfl, hx, hce, hcv, hcl, rfl, hL, rfl, rfl⟩, ?_⟩
    show Steps p.tables e below _ (((({ U with heap := s₂.heap, slotsUsed := s₂.slotsUsed } : State).setVm s₂.vm).setTop g).pushFrame (.throwing q))
    rw [← hs₂]
    exact hsteps
end XUNR
