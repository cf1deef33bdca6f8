/-! ===== methods that may throw: contracts, calls, handlers ===== -/
set_option maxRecDepth 100000
def xFE (first t : State) (L : List Loc) (k n : Nat) : Prop := first.WarmedH t.vm ∧ first.sameButNew ({ t with vm := first.vm } : State) L k n
def xMet (l : Launch) (y : MethodName) (ws : List Cond) (rm : Room) (Pc : Array Value → State → Prop) (Qc : Array Value → State → Outcome → State → Prop) (mc ms : Nat) (free : Addr → Prop) : Prop :=
  MetFree l y (headSpec ws rm) Pc (fun _ _ _ _ _ => True) (fun a st o t => Qc a st o t ∧ ∃ L, xFE st t L mc ms ∧ ∀ q ∈ L, free q.base)
def xMQ (below : List Frame) (Qc : Array Value → State → Outcome → State → Prop) (a : Array Value) (s : State) (mc ms : Nat) (free : Addr → Prop) : State → Prop := fun t =>
  ∃ o, t.status = .running ∧ Ended t below o ∧ Qc a s o t ∧ ∃ L, xFE s t L mc ms ∧ ∀ q ∈ L, free q.base
theorem MQ.x {below : List Frame} {Qc : Array Value → State → Outcome → State → Prop} {a : Array Value} {s : State} {mc ms : Nat} {free : Addr → Prop} {t : State} (h : MQ below Qc a s mc ms free t) : xMQ below Qc a s mc ms free t := by
  obtain ⟨o, h1, h2, h3, L, h4, h5⟩ := h
  exact ⟨o, h1, h2, h3, L, h4.2, h5⟩
theorem W.mono {p : Program} {l : Launch} {e : Env} {R : Room} {s : State} {m : MethodId} {args : Array Value} {below : List Frame} {meth : Method} {c : Code} {H : Heap} {locs : List Loc} {cells slots : Nat} {Q Q2 : State → Prop} {g : JFrame} (h : ∀ t, Q t → Q2 t)
    (k : W p l e R s m args below meth c H locs cells slots Q g) : W p l e R s m args below meth c H locs cells slots Q2 g := by
  intro T hT X
  obtain ⟨t, a, b⟩ := k T hT X
  exact ⟨t, a, h t b⟩
theorem xMet.ofW {l : Launch} {y : MethodName} {ws ws' : List Cond} {rm : Room} {Pc : Array Value → State → Prop} {Qc : Array Value → State → Outcome → State → Prop} {mc ms : Nat} {free : Addr → Prop} {cc : ByteArray} {maxL : Nat} {ret : Option FieldType}
    (hy : plainName y.cls = true) (hw : ws = Cond.code y cc maxL ret :: ws')
    (body : ∀ p e s m args below meth c s₁, BodyLoose p l y (headSpec ws rm) cc maxL ret e s m args below meth c s₁ → c.maxLocals = maxL → c.exceptionTable.toList = [] → Pc args s →
      W p l e (headSpec ws rm).room s m args below meth c s.heap [] 0 0 (xMQ below Qc args s mc ms free) (entryFrame m args maxL)) : xMet l y ws rm Pc Qc mc ms free := by
  refine MetFree.of_bodyS (code := cc) (maxLocals := maxL) (ret := ret) hy ?_ ?_
  · intro args s m h hn
    obtain ⟨meth, c, h1, h2, h3, h4, h5, h6, -, -⟩ := Cond.code_spec hn (atoms_spec (ws := ws) h _ (by rw [hw]; exact List.mem_cons_self))
    exact ⟨meth, c, h1, h2, h3, h4, h5, h6⟩
  · intro p e s m args below meth c s₁ B hml hP _
    have hh0 : s₁.heap = s.heap := by rw [B.state]; rfl
    have hnh := B.noHandlers (atoms_spec (ws := ws) B.pre _ (by rw [hw]; exact List.mem_cons_self))
    have h0 : c.exceptionTable.size = 0 := by simpa [Array.isEmpty] using hnh
    have h1 : c.exceptionTable.toList = [] := List.eq_nil_of_length_eq_zero (by simpa using h0)
    obtain ⟨t, a1, o, b1, b2, b3⟩ := body p e s m args below meth c s₁ B hml h1 hP s₁ hh0 (Stand.of_body B)
    exact ⟨t, o, a1, b1, b2, ⟨b3.1, b3.2⟩⟩
theorem va_MetWx {l : Launch} {y : MethodName} {ws ws' : List Cond} {rm : Room} {Pc : Array Value → State → Prop} {Qc : Array Value → State → Outcome → State → Prop} {mc ms : Nat} {free : Addr → Prop} {cc : ByteArray} {maxL : Nat} {ret : Option FieldType} {hh : List (Nat × Nat × Nat × Nat)}
    (hy : plainName y.cls = true) (hw : ws = Cond.codeWith y cc maxL ret hh :: ws')
    (body : ∀ p e s m args below meth c s₁, BodyLoose p l y (headSpec ws rm) cc maxL ret e s m args below meth c s₁ → c.maxLocals = maxL → c.exceptionTable.toList.map (fun h => (h.startPc, h.endPc, h.handlerPc, h.catchType)) = hh → Pc args s →
      W p l e (headSpec ws rm).room s m args below meth c s.heap [] 0 0 (MQ below Qc args s mc ms free) (entryFrame m args maxL)) : Met l y ws rm Pc Qc mc ms free := by
  refine va_MetW hy hw ?_
  intro p e s m args below meth c s₁ B hml hP
  obtain ⟨m9, meth9, c9, hn9, h1, h2, h3, h4, hh9, h5, h6, -⟩ := Cond.codeWith_spec (atoms_spec (ws := ws) B.pre _ (by rw [hw]; exact List.mem_cons_self))
  cases B.named.symm.trans hn9
  cases B.method.symm.trans h1
  cases (Stand.of_body B).code.symm.trans h2
  exact body p e s m args below meth c s₁ B hml hh9 hP
def xEnd (U : State) (g : JFrame) (len : Nat) : Outcome → State
  | .returned v => U.setTop { g with pc := g.pc + len, stack := v.toList ++ g.stack }
  | .threw a => (U.setTop g).pushFrame (.throwing a)
section XBACK
variable {p : Program} {l : Launch} {e : Env} {R : Room} {s : State} {m : MethodId} {args : Array Value} {below : List Frame} {meth : Method} {c : Code} {locs : List Loc} {cells slots : Nat}
theorem x_back {y : MethodName} {ws : List Cond} {rm : Room} {Pc : Array Value → State → Prop} {Qc : Array Value → State → Outcome → State → Prop} {mc ms : Nat} {free : Addr → Prop} {bytes : ByteArray} {maxL Wt : Nat} {ret : Option FieldType}
    (hM : xMet l y ws rm Pc Qc mc ms free) (hblind : FrameBlind Pc) (hrc : rm.cells = mc) (hrs : rm.slots = ms)
    (hframes : rm.frames + 1 ≤ R.frames) (hlocals : Wt + (maxL + 11) + rm.locals ≤ R.locals)
    (hws : ∀ w ∈ ws, ∀ (a' : Array Value) (U : State), s.WarmedH U.vm → w.before a' U = true) (hcode : Cond.code y bytes maxL ret ∈ ws) (hinit : ∀ (a' : Array Value) (U : State), s.WarmedH U.vm → (Cond.initialized y.cls).before a' U = true)
    {U : State} (X : Stand p l e R s m args below meth c U locs cells slots) {g : JFrame} {ig : Instr} {len : Nat} {mk : MethodId} {a : Array Value} (hg : g.method = m) (hsize : g.locals.size = c.maxLocals) (hdg : decode c.code g.pc = .ok (ig, len))
    (hW : 2 * g.monitorRoom + (g.stack.map fun v => v.category).sum ≤ Wt) (hn : U.methodNamed? y = some mk) (hc0 : cells + mc ≤ R.cells) (hs0 : slots + ms ≤ R.slots) (hp : Pc a U) :
    ∃ (o : Outcome) (t T' : State), (∀ (L : List Loc) (k n : Nat), xFE (U.calling g mk a) t L k n → Stand p l e R s m args below meth c T' (locs ++ L) (cells + k) (slots + n)) ∧ (∃ L : List Loc, xFE (U.calling g mk a) t L mc ms ∧ ∀ q ∈ L, free q.base) ∧ T'.heap = t.heap ∧ T'.vm = t.vm ∧ Qc a (U.calling g mk a) o t ∧
      Steps p.tables e below (doInvoke e (U.setTop g) [] mk a).1 (xEnd T' g len o) := by
  have h1 : (headSpec ws rm).pre.before a U = true := atoms_intro fun w hw => hws w hw _ _ X.warmed
  have h2 : (Cond.code y bytes maxL ret).before a U = true := hws _ hcode _ _ X.warmed
  have h3 : (Cond.initialized y.cls).before a U = true := hinit _ _ X.warmed
  obtain ⟨methY, cY, hmY, hcY, -, hlY, -, -, -, -⟩ := Cond.code_spec hn h2
  obtain ⟨kY, hkY, -⟩ := className_of_methodNamed hn
  have hinitY : kY.init = .initialized := Cond.initialized_spec (findClass_of_methodNamed hn) hkY h3
  have h : At U g.method c below := by rw [hg]; exact X.here
  have happ : (headSpec ws rm).appliesLoose y e.platform (U.calling g mk a) = true :=
    Spec.appliesLoose_calling (g := g) h hdg hn hkY hinitY
      (X.room_calling (g := g) (R' := (headSpec ws rm).room) hsize hmY hcY hframes (by rw [hlY]; exact Nat.le_trans (Nat.add_le_add_right (Nat.add_le_add_right hW _) _) hlocals) (by rw [show (headSpec ws rm).room.cells = mc from hrc]; exact hc0) (by rw [show (headSpec ws rm).room.slots = ms from hrs]; exact hs0)) h1
  obtain ⟨mid, hmid⟩ := h.above
  have hfr : (U.setTop g).frames = (.java g :: mid) ++ below := by rw [State.frames_setTop' g h.top, hmid]; rfl
  obtain ⟨o, s₂, hsteps, -, hend, hq⟩ := Steps.callFree hM p X.admits X.cas X.clock (acts := []) hfr happ (hblind _ _ _ _ hp) trivial
  have hq' : Qc a (U.calling g mk a) o s₂ ∧ ∃ L, xFE (U.calling g mk a) s₂ L mc ms ∧ ∀ q ∈ L, free q.base := hq
  rw [State.frames_setTop' g h.top] at hend
  obtain ⟨hq1, L, hfe, hL⟩ := hq'
  have hW₂ := hfe.1
  have e2 := hfe.2.1
  have e3 : s₂ = ({ (U.calling g mk a).setFrames s₂.frames with heap := s₂.heap, slotsUsed := s₂.slotsUsed } : State).setVm s₂.vm := by
    have : s₂ = ({ s₂ with vm := (U.calling g mk a).vm } : State).setVm s₂.vm := rfl
    rw [e2] at this
    exact this
  have hW' : U.WarmedH s₂.vm := hW₂
  obtain ⟨g₀, hg0⟩ := Option.isSome_iff_exists.mp h.top
  obtain ⟨r, hr⟩ := State.topJava?_eq_some.mp hg0
  have hr' : (({ U with heap := s₂.heap, slotsUsed := s₂.slotsUsed } : State).setVm s₂.vm).frames = .java g₀ :: r := hr
  have hsame : ∀ (L : List Loc) (k n : Nat), xFE (U.calling g mk a) s₂ L k n → U.sameButNew ({ U with heap := s₂.heap, slotsUsed := s₂.slotsUsed } : State) L k n := by
    intro L k n hfe
    obtain ⟨-, -, q2, q3, q4, q5, q6⟩ := hfe
    refine ⟨?_, q2, q3, q4, q5, q6⟩
    obtain ⟨t, ht, -⟩ := State.frames_cons hr
    show ({ U with heap := s₂.heap, slotsUsed := s₂.slotsUsed } : State) = { U.setFrames U.frames with heap := s₂.heap, slotsUsed := s₂.slotsUsed }
    rw [State.setFrames_self ht]
  subst hg
  refine ⟨o, s₂, (({ U with heap := s₂.heap, slotsUsed := s₂.slotsUsed } : State).setVm s₂.vm),
    fun L k n hfe => ⟨X.admits, X.cas, X.clock, X.frames, X.room, X.hears, X.method, X.code, (X.here.setHeapUsed s₂.heap s₂.slotsUsed).setVm hW'.alike, X.tail, State.WarmedH.trans X.warmed hW', X.limits, X.bytes, X.same.trans ((hsame L k n hfe).setVm s.vm)⟩, ⟨L, hfe, hL⟩, rfl, rfl, hq1, ?_⟩
  cases o with
  | returned v =>
    obtain ⟨c₂, i₂, len₂, hc₂, hd₂, hf₂⟩ := hend
    have hcc : c₂ = c := by
      have h1 : s₂.code? g.method = U.code? g.method := by
        rw [State.code?_eq, State.code?_eq, hW'.alike.method?]
      exact Option.some.inj (hc₂.symm.trans (h1.trans h.code))
    subst hcc
    have hlen : len₂ = len := by rw [hdg] at hd₂; cases hd₂; rfl
    subst hlen
    have hs₂ : s₂ = (({ U with heap := s₂.heap, slotsUsed := s₂.slotsUsed } : State).setVm s₂.vm).setTop { g with pc := g.pc + len₂, stack := v.toList ++ g.stack } := by
      refine e3.trans ?_
      rw [hf₂, State.calling_eq h.top, State.setFrames_setFrames, State.setTop_of_frames _ hr', hr]
      rfl
    show Steps p.tables e below _ ((({ U with heap := s₂.heap, slotsUsed := s₂.slotsUsed } : State).setVm s₂.vm).setTop { g with pc := g.pc + len₂, stack := v.toList ++ g.stack })
    rw [← hs₂]
    exact hsteps
  | threw x =>
    have hf₂ : s₂.frames = .throwing x :: .java g :: U.frames.tail := hend
    have hs₂ : s₂ = ((({ U with heap := s₂.heap, slotsUsed := s₂.slotsUsed } : State).setVm s₂.vm).setTop g).pushFrame (.throwing x) := by
      refine e3.trans ?_
      rw [hf₂, State.calling_eq h.top, State.setFrames_setFrames, State.pushFrame, State.frames_setTop _ hr', State.setTop_of_frames _ hr', State.setFrames_setFrames, hr]
      rfl
    show Steps p.tables e below _ (((({ U with heap := s₂.heap, slotsUsed := s₂.slotsUsed } : State).setVm s₂.vm).setTop g).pushFrame (.throwing x))
    rw [← hs₂]
    exact hsteps
end XBACK
section XCALL
variable {p : Program} {l : Launch} {e : Env} {R : Room} {s : State} {m : MethodId} {args : Array Value} {below : List Frame} {meth : Method} {c : Code} {H : Heap} {locs : List Loc} {cells slots : Nat} {Q : State → Prop}
/-- a walk at a place where a is being thrown over the frame g -/
def xW (p : Program) (l : Launch) (e : Env) (R : Room) (s : State) (m : MethodId) (args : Array Value) (below : List Frame) (meth : Method) (c : Code) (H : Heap) (locs : List Loc) (cells slots : Nat) (Q : State → Prop) (g : JFrame) (a : Addr) : Prop :=
  ∀ T : State, T.heap = H → Stand p l e R s m args below meth c T locs cells slots → ∃ t, Steps p.tables e below ((T.setTop g).pushFrame (.throwing a)) t ∧ Q t
def xRun (p : Program) (l : Launch) (e : Env) (R : Room) (s : State) (m : MethodId) (args : Array Value) (below : List Frame) (meth : Method) (c : Code) (H : Heap) (locs : List Loc) (cells slots mc ms : Nat) (g : JFrame) (rest : List Value) (Qa : State → Outcome → State → Prop) (free : Addr → Prop) : Prop :=
  ∀ T : State, T.heap = H → Stand p l e R s m args below meth c T locs cells slots → ∃ (o : Outcome) (st₀ t T' : State), st₀.heap = H ∧ (∀ (L : List Loc) (k n : Nat), xFE st₀ t L k n → Stand p l e R s m args below meth c T' (locs ++ L) (cells + k) (slots + n)) ∧ (∃ L : List Loc, xFE st₀ t L mc ms ∧ ∀ q ∈ L, free q.base) ∧ T'.heap = t.heap ∧ T'.vm = t.vm ∧ Qa st₀ o t ∧
    ∀ tg, Steps p.tables e below (xEnd T' { g with stack := rest } 3 o) tg → Steps p.tables e below (T.setTop g) tg
variable {y : MethodName} {bytes cc : ByteArray} {maxL nL mc ms n index : Nat} {ret : Option FieldType} {ws : List Cond} {rm : Room} {Pc : Array Value → State → Prop} {Qc : Array Value → State → Outcome → State → Prop} {free : Addr → Prop} {Ts : List Cond} {own C : String} {b : Addr} {As rest : List Value} {g : JFrame}
theorem x_runV (S : CallFix p m c cc nL s args Ts own) (hM : xMet l y ws rm Pc Qc mc ms free) (cw : CallW R s args own C index y bytes maxL ret ws rm mc ms n) (hp : PreV s H C b Pc As)
    (hg : g.method = m) (hn : As.length = n) (hsize : g.locals.size = nL) (hstack : g.stack = As.reverse ++ .ref b :: rest) (hW : 2 * g.monitorRoom + (rest.map fun v => v.category).sum ≤ 8) (hdg : decode cc g.pc = .ok (.invokevirtual index, 3)) (hf : cells + mc ≤ R.cells ∧ slots + ms ≤ R.slots) :
    xRun p l e R s m args below meth c H locs cells slots mc ms g rest (Qc (Value.ref b :: As).toArray) (free) := by
  obtain ⟨⟨hrc, hrs, hfr, hlo, hws, hcw, hcode, hini, hy, hlen, hl⟩, hinst, hsel⟩ := cw
  obtain ⟨hx, hb, hml, ho, -⟩ := S
  obtain ⟨hbl, ⟨cellB, hcB, hoB, hclB⟩, hPc⟩ := hp
  intro T hT X
  obtain ⟨mk, methM, hnamed, hmethM, hstM, habM⟩ := Cond.instanceMethod_spec hinst
  obtain ⟨methM', cM, hmethM', -, -, -, -, -, -, hsigM⟩ := Cond.code_spec hnamed hcode
  cases hmethM.symm.trans hmethM'
  obtain ⟨c2, r2, m2, q1, q2, q3, q4, kP, hkP, hkPi⟩ := Cond.selects_spec hsel
  cases hclB.symm.trans q1
  cases (State.methodFound?_of_named hnamed hy).symm.trans q2
  cases hnamed.symm.trans q3
  have hselP : selectMethod e.platform s.vm cellB.cls mk = .method mk := by rw [Launch.admits_selectMethod X.admits]; exact q4
  obtain ⟨vm₁, X₁, hstep₁⟩ := X.invokevirtual hx ho hl hnamed hmethM hstM hkP hkPi hy (a := b) (cell := cellB) (by rw [hT]; exact hcB)
    (fun z h => by rw [h] at hoB; cases hoB) hselP hmethM habM hkP hkPi (g := g) hg (argsL := As) (rest := rest) (hn.trans (hlen _ hsigM)) hstack (by rw [hb]; exact hdg)
  obtain ⟨o, t, T', X', hL, e1, e2, hq, hsteps⟩ := x_back (Wt := 8) (bytes := bytes) (maxL := maxL) (ret := ret) hM hbl hrc hrs hfr hlo hws hcw (fun a' U hW => word_at hW (Or.inl (by first | rfl | simp [Cond.onTables, Cond.keeps, Cond.steady])) hini) X₁ (g := { g with stack := rest }) (ig := .invokevirtual index) (len := 3) hg (hsize.trans hml.symm) (by rw [hb]; exact hdg) hW (X₁.named hnamed) hf.1 hf.2 (hPc (T.setVm vm₁) hT X₁.warmed)
  refine ⟨o, _, t, T', ?_, X', hL, e1, e2, hq, fun tg h => hstep₁ _ fun acts => by rw [doInvoke_state]; exact hsteps.trans h⟩
  exact hT
theorem x_runS (S : CallFix p m c cc nL s args Ts own) (hM : xMet l y ws rm Pc Qc mc ms free) (cw : CallB R s args own index y bytes maxL ret ws rm mc ms n ∧ (Cond.static y).before args s = true) (hp : PreS s H Pc As)
    (hg : g.method = m) (hn : As.length = n) (hsize : g.locals.size = nL) (hstack : g.stack = As.reverse ++ rest) (hW : 2 * g.monitorRoom + (rest.map fun v => v.category).sum ≤ 8) (hdg : decode cc g.pc = .ok (.invokestatic index, 3)) (hf : cells + mc ≤ R.cells ∧ slots + ms ≤ R.slots) :
    xRun p l e R s m args below meth c H locs cells slots mc ms g rest (Qc As.toArray) (free) := by
  obtain ⟨⟨hrc, hrs, hfr, hlo, hws, hcw, hcode, hini, hy, hlen, hl⟩, hstat⟩ := cw
  obtain ⟨hx, hb, hml, ho, -⟩ := S
  intro T hT X
  obtain ⟨mk, hnamed⟩ := Cond.code_named hcode
  obtain ⟨methM, cM, hmethM, -, -, -, -, -, -, hsigM⟩ := Cond.code_spec hnamed hcode
  have hstatic : methM.isStatic = true := Cond.static_spec hnamed hmethM hstat
  obtain ⟨kP, hkP, -⟩ := className_of_methodNamed hnamed
  have hinitP : kP.init = .initialized := Cond.initialized_spec (findClass_of_methodNamed hnamed) hkP hini
  obtain ⟨vm₁, X₁, hstep₁⟩ := X.invokestatic hx ho hl hnamed hmethM hstatic hkP hinitP hy (g := g) hg (argsL := As) (rest := rest) (hn.trans (hlen _ hsigM)) hstack (by rw [hb]; exact hdg)
  obtain ⟨o, t, T', X', hL, e1, e2, hq, hsteps⟩ := x_back (Wt := 8) (bytes := bytes) (maxL := maxL) (ret := ret) hM hp.1 hrc hrs hfr hlo hws hcw (fun a' U hW => word_at hW (Or.inl (by first | rfl | simp [Cond.onTables, Cond.keeps, Cond.steady])) hini) X₁ (g := { g with stack := rest }) (ig := .invokestatic index) (len := 3) hg (hsize.trans hml.symm) (by rw [hb]; exact hdg) hW (X₁.named hnamed) hf.1 hf.2 (hp.2 (T.setVm vm₁) hT X₁.warmed)
  refine ⟨o, _, t, T', ?_, X', hL, e1, e2, hq, fun tg h => hstep₁ _ fun acts => by rw [doInvoke_state]; exact hsteps.trans h⟩
  exact hT
/-- behind the call: two ways to go on -/
theorem x_go {Qa : State → Outcome → State → Prop} (hr : xRun p l e R s m args below meth c H locs cells slots mc ms g rest Qa free)
    (kr : ∀ (v : Option Value) (st t : State) (L : List Loc), st.heap = H → (∀ q ∈ L, free q.base) → Qa st (.returned v) t → W p l e R s m args below meth c t.heap (locs ++ L) (cells + mc) (slots + ms) Q { g with pc := g.pc + 3, stack := v.toList ++ rest })
    (kt : ∀ (a : Addr) (st t : State) (L : List Loc), st.heap = H → (∀ q ∈ L, free q.base) → Qa st (.threw a) t → xW p l e R s m args below meth c t.heap (locs ++ L) (cells + mc) (slots + ms) Q { g with stack := rest } a) :
    W p l e R s m args below meth c H locs cells slots Q g := by
  intro T hT X
  obtain ⟨o, st, t, T', h0, X', ⟨L, hfe, hL⟩, e1, e2, hq, go⟩ := hr T hT X
  cases o with
  | returned v =>
    obtain ⟨t2, a1, b1⟩ := kr v st t L h0 hL hq T' e1 (X' L _ _ hfe)
    exact ⟨t2, go t2 a1, b1⟩
  | threw a =>
    obtain ⟨t2, a1, b1⟩ := kt a st t L h0 hL hq T' e1 (X' L _ _ hfe)
    exact ⟨t2, go t2 a1, b1⟩
/-- behind the call, with what it took -/
theorem x_goE {Qa : State → Outcome → State → Prop} (hr : xRun p l e R s m args below meth c H locs cells slots mc ms g rest Qa free)
    (kr : ∀ (v : Option Value) (st t : State), st.heap = H → Qa st (.returned v) t → ∃ (L : List Loc) (k n : Nat), xFE st t L k n ∧ W p l e R s m args below meth c t.heap (locs ++ L) (cells + k) (slots + n) Q { g with pc := g.pc + 3, stack := v.toList ++ rest })
    (kt : ∀ (a : Addr) (st t : State), st.heap = H → Qa st (.threw a) t → ∃ (L : List Loc) (k n : Nat), xFE st t L k n ∧ xW p l e R s m args below meth c t.heap (locs ++ L) (cells + k) (slots + n) Q { g with stack := rest } a) :
    W p l e R s m args below meth c H locs cells slots Q g := by
  intro T hT X
  obtain ⟨o, st, t, T', h0, X', -, e1, e2, hq, go⟩ := hr T hT X
  cases o with
  | returned v =>
    obtain ⟨L, k, n, hfe, hk⟩ := kr v st t h0 hq
    obtain ⟨t2, a1, b1⟩ := hk T' e1 (X' L k n hfe)
    exact ⟨t2, go t2 a1, b1⟩
  | threw a =>
    obtain ⟨L, k, n, hfe, hk⟩ := kt a st t h0 hq
    obtain ⟨t2, a1, b1⟩ := hk T' e1 (X' L k n hfe)
    exact ⟨t2, go t2 a1, b1⟩
theorem xFE.mono {s t : State} {L : List Loc} {k n k2 n2 : Nat} (h : xFE s t L k n) (h1 : k ≤ k2) (h2 : n ≤ n2) : xFE s t L k2 n2 := ⟨h.1, h.2.mono h1 h2⟩
/-- an end, with what was taken -/
theorem xe_of {Qc0 Qc : Array Value → State → Outcome → State → Prop} {mc ms : Nat} {g : JFrame} (h : W p l e R s m args below meth c H locs cells slots (MQ below Qc0 args s cells slots free) g)
    (hq : ∀ (o : Outcome) (t : State) (L : List Loc), Qc0 args s o t → xFE s t L cells slots → (∀ q ∈ L, free q.base) → Qc args s o t) (h1 : cells ≤ mc) (h2 : slots ≤ ms) : W p l e R s m args below meth c H locs cells slots (xMQ below Qc args s mc ms free) g := by
  refine W.mono (fun t h => ?_) h
  obtain ⟨o, a1, a2, a3, L, a4, a5⟩ := h
  exact ⟨o, a1, a2, hq o t L a3 a4.2 a5, L, xFE.mono a4.2 h1 h2, a5⟩
/-- athrow -/
theorem x_athrow (hexec : p.tables.exec = Jvm.exec) (hb : c.code = cc) {pc : Nat} {ls : Array Slot} {a : Addr} {rest : List Value} (hdg : decode cc pc = .ok (.athrow, 1))
    (k : xW p l e R s m args below meth c H locs cells slots Q (F0 m pc ls rest) a) : W p l e R s m args below meth c H locs cells slots Q (F0 m pc ls (.ref a :: rest)) := by
  intro T hT X
  obtain ⟨t, a1, b1⟩ := k T hT X
  refine ⟨t, ?_, b1⟩
  jvm_step X.here [hexec, hb, hdg, athrow.wp_sem]
  exact a1
/-- out of a method without handlers -/
theorem x_out (hno : c.exceptionTable.toList = []) (hlk : meth.locks = false) {Qc : Array Value → State → Outcome → State → Prop} {pc : Nat} {ls : Array Slot} {st : List Value} {a : Addr}
    (hq : ∀ t : State, t.heap = H → s.WarmedH t.vm → Qc args s (.threw a) t) (hf : ∀ q ∈ locs, free q.base) : xW p l e R s m args below meth c H locs cells slots (xMQ below Qc args s cells slots free) (F0 m pc ls st) a := by
  intro T hT X
  obtain ⟨h1, h2, h3, h4, h5⟩ := X.leaveThrown a (g := F0 m pc ls st) rfl rfl rfl (by rw [hno]; intro x hx; cases hx) hlk
  exact ⟨_, h1, .threw a, h2, h3, hq _ hT h4, locs, ⟨h4, h5⟩, hf⟩
/-- out of a method without handlers, with what was taken -/
theorem x_outE (hno : c.exceptionTable.toList = []) (hlk : meth.locks = false) {Qc : Array Value → State → Outcome → State → Prop} {mc ms : Nat} {pc : Nat} {ls : Array Slot} {st : List Value} {a : Addr}
    (hq : ∀ t : State, t.heap = H → s.WarmedH t.vm → xFE s t locs cells slots → Qc args s (.threw a) t) (hf : ∀ q ∈ locs, free q.base) (h1 : cells ≤ mc) (h2 : slots ≤ ms) : xW p l e R s m args below meth c H locs cells slots (xMQ below Qc args s mc ms free) (F0 m pc ls st) a := by
  intro T hT X
  obtain ⟨g1, g2, g3, g4, g5⟩ := X.leaveThrown a (g := F0 m pc ls st) rfl rfl rfl (by rw [hno]; intro x hx; cases hx) hlk
  exact ⟨_, g1, .threw a, g2, g3, hq _ hT g4 ⟨g4, g5⟩, locs, xFE.mono ⟨g4, g5⟩ h1 h2, hf⟩
end XCALL
section XCATCH
variable {p : Program} {l : Launch} {e : Env} {R : Room} {s : State} {m : MethodId} {args : Array Value} {below : List Frame} {meth : Method} {c : Code} {H : Heap} {locs : List Loc} {cells slots : Nat} {Q : State → Prop}
theorem x_find {E : CtlPost} {d : Bool} {acts : List Action} {U : State} {g : JFrame} {a : Addr} {Qh : Handler → Pre} {x : ExceptionTableEntry} {tl : List ExceptionTableEntry} {cT : ClassId} {vm' : Vm} {cell : Cell}
    (hx : covers x g.pc = true) (h0 : x.catchType ≠ 0) (hg : (Jvm.resolveClass g.method.cls x.catchType).Gives e.toSetting U.vm (.ok cT) vm') (hsz : vm'.classes.size ≤ U.vm.classes.size)
    (hcell : U.heap[a]? = some cell) (hobj : ∀ k, cell.vm ≠ .statics k) (hk : ∃ k, vm'.classes[cell.cls]? = some k) (hc : ∃ k, vm'.classes[cT]? = some k) (has : vm'.assignable cell.cls cT = true) :
    wp (findHandler.go g a (x :: tl)) Qh E e d acts U ↔ Qh (.found x.handlerPc) d acts (U.setVm vm') := by
  simp only [covers] at hx
  obtain ⟨ha, ht⟩ := hg.op (op := VmOp.resolveClass g.method.cls x.catchType) rfl
  simp [findHandler.go, hx, h0, ha, ht, hsz, hcell, hobj, hk, hc, has, VmOp.dirties, VmOp.acts]
/-- the first entry of a table that covers the place: handler and kind -/
def hFind : List (Nat × Nat × Nat × Nat) → Nat → Option (Nat × Nat)
  | [], _ => none
  | (a, b, h, ct) :: t, pc => if a ≤ pc ∧ pc < b then some (h, ct) else hFind t pc
theorem x_finds {E : CtlPost} {d : Bool} {acts : List Action} {U : State} {g : JFrame} {a : Addr} {Qh : Handler → Pre} {cT : ClassId} {vm' : Vm} {cell : Cell} {hp ct : Nat} (h0 : ct ≠ 0) (hg : (Jvm.resolveClass g.method.cls ct).Gives e.toSetting U.vm (.ok cT) vm') (hsz : vm'.classes.size ≤ U.vm.classes.size)
    (hcell : U.heap[a]? = some cell) (hobj : ∀ k, cell.vm ≠ .statics k) (hk : ∃ k, vm'.classes[cell.cls]? = some k) (hc : ∃ k, vm'.classes[cT]? = some k) (has : vm'.assignable cell.cls cT = true) :
    ∀ tb : List ExceptionTableEntry, hFind (tb.map (fun h => (h.startPc, h.endPc, h.handlerPc, h.catchType))) g.pc = some (hp, ct) → (wp (findHandler.go g a tb) Qh E e d acts U ↔ Qh (.found hp) d acts (U.setVm vm'))
  | [], h => by cases h
  | x :: tl, h => by
    rw [List.map_cons, hFind] at h
    by_cases hx : x.startPc ≤ g.pc ∧ g.pc < x.endPc
    · rw [if_pos hx] at h
      obtain ⟨rfl, rfl⟩ := Prod.mk.inj (Option.some.inj h)
      exact x_find (by simp [covers, hx.1, hx.2]) h0 hg hsz hcell hobj hk hc has
    · rw [if_neg hx] at h
      rw [_root_.Jvm.W.findHandler_go_skip (by simpa [covers, ← Bool.not_eq_true] using hx)]
      exact x_finds h0 hg hsz hcell hobj hk hc has tl h
theorem x_caught {own name : String} {ct hp : Nat} {hh : List (Nat × Nat × Nat × Nat)} (hown : s.vm.findClass own = some m.cls) (hlink : (Cond.classLink own ct name).before args s = true) (hh0 : c.exceptionTable.toList.map (fun h => (h.startPc, h.endPc, h.handlerPc, h.catchType)) = hh) {pc : Nat} {ls : Array Slot} {st : List Value} {a : Addr} (hf : hFind hh pc = some (hp, ct)) (h0 : ct ≠ 0)
    {cell : Cell} {ks : Class} {cT2 : ClassId} (hcell : H[a]? = some cell) (hobj : ∀ k, cell.vm ≠ .statics k) (hks : s.vm.classes[cell.cls]? = some ks) (hcT : s.vm.findClass name = some cT2) (hasg : s.vm.assignable cell.cls cT2 = true)
    (k : W p l e R s m args below meth c H locs cells slots Q (F0 m hp ls [.ref a])) : xW p l e R s m args below meth c H locs cells slots Q (F0 m pc ls st) a := by
  intro T hT X
  have hpl : e.platform.magicAccessors = ({} : Platform).magicAccessors := by rw [X.admits.platform]
  obtain ⟨c', hc', hcl⟩ := Cond.classLink_spec hown hlink e.platform hpl
  cases hcT.symm.trans hc'
  obtain ⟨dk, _, _, kt, hd, _, _, _, _, hkt, _, hopen⟩ := hcl.here
  have hcl₀ := X.warmed.classLinks hcl
  have hW' : s.WarmedH (T.vm.noted m.cls ct (.cls cT2)) := X.warmed.noted hd hopen (State.rightAt_cls hcl)
  obtain ⟨ks', hks', -⟩ := hW'.alike.2.2 _ _ hks
  obtain ⟨kt', hkt', -⟩ := hW'.alike.2.2 _ _ hkt
  obtain ⟨t, a1, b1⟩ := k (T.setVm (T.vm.noted m.cls ct (.cls cT2))) hT (X.noted hW')
  refine ⟨t, ?_, b1⟩
  have h : At T (F0 m pc ls st).method c below := X.here
  obtain ⟨hgo, hw⟩ := h.throwing a
  refine Steps.head hgo hw ?_
  have hU : ∀ (Qh : Handler → Pre) (E : CtlPost) (d : Bool) (acts : List Action), wp (findHandler (F0 m pc ls st) a) Qh E e d acts ((T.setTop (F0 m pc ls st)).pushFrame (.throwing a)) ↔ Qh (.found hp) d acts (((T.setTop (F0 m pc ls st)).pushFrame (.throwing a)).setVm (T.vm.noted m.cls ct (.cls cT2))) := by
    intro Qh E d acts
    rw [_root_.Jvm.W.findHandler_eq (s := (T.setTop (F0 m pc ls st)).pushFrame (.throwing a)) (f := F0 m pc ls st) (meth := meth) (code := c) (show T.vm.method? m = some meth from X.method') X.code]
    exact x_finds (U := (T.setTop (F0 m pc ls st)).pushFrame (.throwing a)) (g := F0 m pc ls st) h0 (resolveClass_links e.toSetting hcl₀) (by rw [Vm.size_note]; exact Nat.le_refl _) (show T.heap[a]? = some cell by rw [hT]; exact hcell) hobj ⟨ks', hks'⟩ ⟨kt', hkt'⟩ (show (T.vm.noted m.cls ct (.cls cT2)).assignable cell.cls cT2 = true by rw [hW'.alike.assignable]; exact hasg) c.exceptionTable.toList (by rw [hh0]; exact hf)
  have hstep : ∀ r : List Frame, (stepThrowing e ((T.setTop (F0 m pc ls st)).pushFrame (.throwing a)) a (.java (F0 m pc ls st) :: r)).Is ((((T.setTop (F0 m pc ls st)).pushFrame (.throwing a)).setVm (T.vm.noted m.cls ct (.cls cT2))).setFrames (.java (F0 m hp ls [.ref a]) :: r)) [] := by
    intro r
    simp only [stepThrowing, searchFrame, vmDo]
    generalize hr : Sem.go _ e false [] ((T.setTop (F0 m pc ls st)).pushFrame (.throwing a)) = res
    obtain ⟨as, rfl, ha⟩ := Sem.eq_ok_of hr (a := Handler.found hp) (s' := ((T.setTop (F0 m pc ls st)).pushFrame (.throwing a)).setVm (T.vm.noted m.cls ct (.cls cT2))) (acts' := []) (by simp [hU _ _ _ _])
    exact ⟨rfl, ha⟩
  rw [stepThread_throwing (frames_entered h.top _), (hstep _).1]
  obtain ⟨g₀, hg⟩ := Option.isSome_iff_exists.mp h.top
  obtain ⟨r, hr⟩ := State.topJava?_eq_some.mp hg
  have hr2 : (T.setVm (T.vm.noted m.cls ct (.cls cT2))).frames = .java g₀ :: r := hr
  rw [State.setTop_of_frames _ hr2] at a1
  rw [State.pushFrame, State.setTop_of_frames _ hr, State.setFrames_setFrames, hr]
  have hsv : ∀ (f1 f2 : List Frame) (v : Vm), ((T.setFrames f1).setVm v).setFrames f2 = (T.setVm v).setFrames f2 := by
    intro f1 f2 v
    show ((T.setFrames f1).setFrames f2).setVm v = (T.setFrames f2).setVm v
    rw [State.setFrames_setFrames]
  rw [hsv]
  exact a1
end XCATCH
