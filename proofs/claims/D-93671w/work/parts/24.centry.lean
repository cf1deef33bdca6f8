/-! ===== contracts over the class's world: starts, ends, calls ===== -/
set_option maxRecDepth 100000
def cPb (D : va_G) (G ad : Nat → Nat) (Kd : tK) (U : tU) (T : tT) (zz : Int32) (F : tF) (Ar : tA) (sz : Nat) (V : State) : Prop :=
  V.heap.size = sz ∧ gw_P D vcl ad (cE G ad F Ar Kd U) V.heap ∧ gw_D (fun _ => True) ad (cE G ad F Ar Kd U) ∧ (cWf F Kd ∧ cTx G ad U T F ∧ F 32 = zz) ∧ va_K D vcl (cTys G) V ∧ cNw V
def cB (D : va_G) (G ad : Nat → Nat) (Kd : tK) (U : tU) (T : tT) (zz : Int32) (u : tF × tA) (t : State) : Prop :=
  gw_P D vcl ad (cE G ad u.1 u.2 Kd U) t.heap ∧ cWf u.1 Kd ∧ cTx G ad U T u.1 ∧ u.1 32 = zz
def cQi (D : va_G) (G ad : Nat → Nat) (Kd : tK) (U : tU) (T : tT) (zz : Int32) (sz : Nat) (post : Int32 → tF → tA → Prop) : Array Value → State → Outcome → State → Prop :=
  va_Qi (fun r (u : tF × tA) => post r u.1 u.2) (cB D G ad Kd U T zz) (cReg G ad Kd U zz sz)
def cQl (D : va_G) (G ad : Nat → Nat) (Kd : tK) (U : tU) (T : tT) (zz : Int32) (sz : Nat) (post : Int64 → tF → tA → Prop) : Array Value → State → Outcome → State → Prop :=
  va_Ql (fun r (u : tF × tA) => post r u.1 u.2) (cB D G ad Kd U T zz) (cReg G ad Kd U zz sz)
def cQv (D : va_G) (G ad : Nat → Nat) (Kd : tK) (U : tU) (T : tT) (zz : Int32) (sz : Nat) (post : tF → tA → Prop) : Array Value → State → Outcome → State → Prop :=
  va_Qv (fun (u : tF × tA) => post u.1 u.2) (cB D G ad Kd U T zz) (cReg G ad Kd U zz sz)
theorem c_blind {D : va_G} {G ad : Nat → Nat} {Kd : tK} {U : tU} {T : tT} {zz : Int32} {F : tF} {Ar : tA} {sz : Nat} {as : List Value} : FrameBlind (va_Pc as (cPb D G ad Kd U T zz F Ar sz)) := fun a V g mk q => by
  obtain ⟨q0, q1, q2, q3, q4, q5, q6⟩ := q
  exact ⟨q0, q1, q2, q3, q4, va_K.moved (u := V) (U := V.calling g mk a) (Vm.Alike.refl V.vm) q5, cNw.same rfl q6⟩
theorem cP.reg {D : va_G} {G ad : Nat → Nat} {H0 : Heap} {Kd : tK} {U : tU} {T : tT} {zz : Int32} {F : tF} {Ar : tA} {H : Heap} {locs : List Loc} {sz : Nat} (P : cP D (cReg G ad Kd U zz sz) G ad H0 Kd U T zz F Ar H locs) (sz2 : Nat) (h : sz ≤ sz2) : ∀ q, cReg G ad Kd U zz sz2 q → cReg G ad Kd U zz sz q := by
  intro q hq
  rcases hq with hq | hq
  · exact Or.inl hq
  · exact Or.inr (Nat.le_trans h hq)
theorem c_afterA {D : va_G} {A : Nat → Prop} {G ad : Nat → Nat} {Kd : tK} {U : tU} {T : tT} {zz : Int32} {F : tF} {Ar : tA} {H H0 : Heap} {locs : List Loc} (P : cP D A G ad H0 Kd U T zz F Ar H locs) {u : tF × tA} {t : State} {H1 : Heap} {locs1 : List Loc} (ht : t.heap = H1) (hB : cB D G ad Kd U T zz u t) (hS : va_S A H0 H1 locs1) : cP D A G ad H0 Kd U T zz u.1 u.2 H1 locs1 := by
  obtain ⟨h1, h2, h3, h4⟩ := hB
  exact ⟨by rw [← ht]; exact h1, P.2.1.to (fun k h => cE_dom (by rw [h4, P.2.2.2.2.2]) h), hS, h2, h3, h4⟩
theorem cP.regA {D : va_G} {A : Nat → Prop} {G ad : Nat → Nat} {Kd : tK} {U : tU} {T : tT} {zz : Int32} {F : tF} {Ar : tA} {H H0 : Heap} {locs : List Loc} (P : cP D A G ad H0 Kd U T zz F Ar H locs) (hA : ∀ q, H0.size ≤ q → A q) : ∀ q, cReg G ad Kd U zz H.size q → A q := by
  intro q hq
  rcases hq with ⟨k, h1, rfl⟩ | h
  · exact P.2.1.2 k (cE_dom (F := fun _ => zz) (Ar := fun _ _ => 0) P.2.2.2.2.2 h1)
  · exact hA q (Nat.le_trans P.2.2.1.1 h)
/-- the start of a method of the class -/
theorem c_entry {l : Launch} {y : MethodName} {cc : ByteArray} {maxL : Nat} {ret : Option FieldType} {rm : Room} {Qc : Array Value → State → Outcome → State → Prop} {free : Nat → Prop} {mc ms : Nat} {D : va_G} {G ad : Nat → Nat} {Kd : tK} {U : tU} {T : tT} {zz : Int32} {F : tF} {Ar : tA} {sz : Nat} {as : List Value} (hy : plainName y.cls = true) (hlen : (lg_sl as).length ≤ maxL)
    (body : ∀ (p : Program) (e : Env) (s : State) (m : MethodId) (args : Array Value) (below : List Frame) (meth : Method) (c : Code) (ls : Array Slot), cCx p s m args meth c cc maxL y.cls D G → meth.sig.returnType = ret → s.heap.size = sz → cP D (cReg G ad Kd U zz s.heap.size) G ad s.heap Kd U T zz F Ar s.heap [] → lv_has ls maxL (lv_args 0 as) → W p l e rm s m args below meth c s.heap [] 0 0 (MQ below Qc args s mc ms free) (F0 m 0 ls [])) :
    Met l y (ws_ y cc maxL ret) rm (va_Pc as (cPb D G ad Kd U T zz F Ar sz)) Qc mc ms free := by
  refine Met.ofW (cc := cc) (maxL := maxL) (ret := ret) hy rfl ?_
  intro p e s m args below meth c s₁ B hml hv
  obtain ⟨rfl, hsz, hP, hD, hW, hK, hN⟩ := hv
  have hts := atoms_spec (ws := ws_ y cc maxL ret) B.pre
  have hts : ∀ w ∈ lw_all, w.before _ s = true := fun w h => hts w (List.mem_cons_of_mem _ h)
  have hl := lv_entry as (n := maxL) hlen
  rw [lg_entry_eq]
  generalize (lg_sl as ++ List.replicate (maxL - (lg_sl as).length) Slot.unset).toArray = ls at hl ⊢
  exact body p e s m _ below meth c ls ⟨B.exec, B.bytes, hml, findClass_of_methodNamed B.named, hts, hK, B.notSynchronized, hN⟩ B.returns hsz ⟨hP, ⟨hD.1, fun k hk => Or.inl ⟨k, cE_dom hW.2.2.symm hk, rfl⟩⟩, va_S.rf, hW⟩ hl
theorem c_entryW {l : Launch} {y : MethodName} {cc : ByteArray} {maxL : Nat} {ret : Option FieldType} {hh : List (Nat × Nat × Nat × Nat)} {rm : Room} {Qc : Array Value → State → Outcome → State → Prop} {free : Nat → Prop} {mc ms : Nat} {D : va_G} {G ad : Nat → Nat} {Kd : tK} {U : tU} {T : tT} {zz : Int32} {F : tF} {Ar : tA} {sz : Nat} {as : List Value} (hy : plainName y.cls = true) (hlen : (lg_sl as).length ≤ maxL)
    (body : ∀ (p : Program) (e : Env) (s : State) (m : MethodId) (args : Array Value) (below : List Frame) (meth : Method) (c : Code) (ls : Array Slot), cCx p s m args meth c cc maxL y.cls D G → meth.sig.returnType = ret → s.heap.size = sz → cP D (cReg G ad Kd U zz s.heap.size) G ad s.heap Kd U T zz F Ar s.heap [] → lv_has ls maxL (lv_args 0 as) → W p l e rm s m args below meth c s.heap [] 0 0 (MQ below Qc args s mc ms free) (F0 m 0 ls [])) :
    Met l y (wsW_ y cc maxL ret hh) rm (va_Pc as (cPb D G ad Kd U T zz F Ar sz)) Qc mc ms free := by
  refine va_MetW (cc := cc) (maxL := maxL) (ret := ret) (hh := hh) hy rfl ?_
  intro p e s m args below meth c s₁ B hml hv
  obtain ⟨rfl, hsz, hP, hD, hW, hK, hN⟩ := hv
  have hts := atoms_spec (ws := wsW_ y cc maxL ret hh) B.pre
  have hts : ∀ w ∈ lw_all, w.before _ s = true := fun w h => hts w (List.mem_cons_of_mem _ h)
  have hl := lv_entry as (n := maxL) hlen
  rw [lg_entry_eq]
  generalize (lg_sl as ++ List.replicate (maxL - (lg_sl as).length) Slot.unset).toArray = ls at hl ⊢
  exact body p e s m _ below meth c ls ⟨B.exec, B.bytes, hml, findClass_of_methodNamed B.named, hts, hK, B.notSynchronized, hN⟩ B.returns hsz ⟨hP, ⟨hD.1, fun k hk => Or.inl ⟨k, cE_dom hW.2.2.symm hk, rfl⟩⟩, va_S.rf, hW⟩ hl
-- a call of a method with handlers
section CALLW
variable {p : Program} {l : Launch} {e : Env} {R : Room} {s : State} {m : MethodId} {args : Array Value} {below : List Frame} {meth : Method} {c : Code} {H : Heap} {locs : List Loc} {cells slots : Nat}
variable {cc bytes : ByteArray} {nL maxL index n mc ms : Nat} {own C : String} {y : MethodName} {ret : Option FieldType} {hh : List (Nat × Nat × Nat × Nat)} {rm : Room} {Pc : Array Value → State → Prop} {Qc : Array Value → State → Outcome → State → Prop} {free : Addr → Prop} {b : Addr} {As rest : List Value} {g : JFrame}
theorem vw_runV (S : CallFix p m c cc nL s args lw_all own) (hM : Met l y (wsW_ y bytes maxL ret hh) rm Pc Qc mc ms free) (hl : Cond.methodLink own index y ∈ lw_all) (hin : Cond.instanceMethod y ∈ lw_all) (hse : Cond.selects C y y ∈ lw_all) (hini : Cond.initialized y.cls ∈ lw_all) (hco : Cond.codeWith y bytes maxL ret hh ∈ lw_all) (hrc : rm.cells = mc) (hrs : rm.slots = ms)
    (hd : y.cls ≠ "java/lang/invoke/MethodHandle" ∧ y.cls ≠ "java/lang/invoke/VarHandle" ∧ (parseMethodDescriptor y.desc).map (fun d => d.parameters.length) = some n) (hR : rm.frames + 1 ≤ R.frames ∧ 8 + (maxL + 11) + rm.locals ≤ R.locals) (hp : PreV s H C b Pc As)
    (hg : g.method = m) (hn : As.length = n) (hsize : g.locals.size = nL) (hstack : g.stack = As.reverse ++ .ref b :: rest) (hW : 2 * g.monitorRoom + (rest.map fun v => v.category).sum ≤ 8) (hdg : decode cc g.pc = .ok (.invokevirtual index, 3)) (hf : cells + mc ≤ R.cells ∧ slots + ms ≤ R.slots) :
    va_Run p l e R s m args below meth c H locs cells slots mc ms g rest (Qc (Value.ref b :: As).toArray) (free) := by
  obtain ⟨hx, hb, hml, ho, hts⟩ := S
  have hK : Back l R p e below s args y 3 8 (PreOf R mc ms Pc) (PostOf Qc mc ms free) := va_backW (bytes := bytes) (maxL := maxL) (ret := ret) (hh := hh) hM hp.1 hrc hrs hR.1 hR.2 (pay_in hts (lw_methW hco)) List.mem_cons_self (fun a' U hW => word_at hW (Or.inl (by first | rfl | simp [Cond.onTables, Cond.keeps, Cond.steady])) (hts _ hini))
  obtain ⟨-, ⟨cellB, hcB, hoB, hclB⟩, hPc⟩ := hp
  intro T hT X
  obtain ⟨mk, methM, hnamed, hmethM, hstM, habM⟩ := Cond.instanceMethod_spec (hts _ hin)
  obtain ⟨m9, methM', cM, hn9, hmethM', -, -, -, -, -, -, hsigM⟩ := Cond.codeWith_spec (hts _ hco)
  cases hnamed.symm.trans hn9
  cases hmethM.symm.trans hmethM'
  obtain ⟨c2, r2, m2, q1, q2, q3, q4, kP, hkP, hkPi⟩ := Cond.selects_spec (hts _ hse)
  cases hclB.symm.trans q1
  cases (State.methodFound?_of_named hnamed ⟨hd.1, hd.2.1⟩).symm.trans q2
  cases hnamed.symm.trans q3
  have hselP : selectMethod e.platform s.vm cellB.cls mk = .method mk := by rw [Launch.admits_selectMethod X.admits]; exact q4
  obtain ⟨vm₁, X₁, hstep₁⟩ := X.invokevirtual hx ho (hts _ hl) hnamed hmethM hstM hkP hkPi ⟨hd.1, hd.2.1⟩ (a := b) (cell := cellB) (by rw [hT]; exact hcB)
    (fun z h => by rw [h] at hoB; cases hoB) hselP hmethM habM hkP hkPi (g := g) hg (argsL := As) (rest := rest) (by have h2 := hd.2.2; rw [hsigM] at h2; exact hn.trans (Option.some.inj h2).symm) hstack (by rw [hb]; exact hdg)
  obtain ⟨v, ⟨U', l2, c2, s2⟩, X', ⟨g', mk', t, L, e1, e2, hq, h1, hL, h2, h3⟩, hsteps⟩ := hK m meth c ⟨T.setVm vm₁, locs, cells, slots⟩ { g with stack := rest } (.invokevirtual index) mk (Value.ref b :: As).toArray X₁ hg (hsize.trans hml.symm) (by rw [hb]; exact hdg) hW (X₁.named hnamed) ⟨hf.1, hf.2, hPc (T.setVm vm₁) hT X₁.warmed⟩
  dsimp only [Pt.U, Pt.locs, Pt.cells, Pt.slots] at X' e1 e2 h1 h2 h3 hsteps
  subst h1; subst h2; subst h3
  exact ⟨v, (T.setVm vm₁).calling g' mk' (Value.ref b :: As).toArray, t, U', L, hT, X', hL, e1, e2, hq, fun target h => hstep₁ _ fun acts => by rw [doInvoke_state]; exact hsteps.trans h⟩
end CALLW
section CRET
variable {p : Program} {l : Launch} {e : Env} {R : Room} {s : State} {m : MethodId} {args : Array Value} {below : List Frame} {meth : Method} {c : Code} {H : Heap} {locs : List Loc} {cells slots : Nat} {Q : State → Prop}
variable {cc : ByteArray} {nL pc : Nat} {ls : Array Slot} {rest : List Value} {D : va_G} {G ad : Nat → Nat} {Kd : tK} {U : tU} {T : tT} {zz : Int32} {F : tF} {Ar : tA} {own : String}
theorem c_iret (X : cCx p s m args meth c cc nL own D G) (P : cP D (cReg G ad Kd U zz s.heap.size) G ad s.heap Kd U T zz F Ar H locs) (hr : meth.sig.returnType = some .int) {v : Int32} {post : Int32 → tF → tA → Prop} (hq : post v F Ar) (hdg : decode cc pc = .ok (.ireturn, 1)) : W p l e R s m args below meth c H locs cells slots (MQ below (cQi D G ad Kd U T zz s.heap.size post) args s cells slots (cReg G ad Kd U zz s.heap.size)) (F0 m pc ls [.int v]) := by
  obtain ⟨hx, hb, hml, hown, hts, hK, hlk, hN⟩ := X
  exact W.iret hx hb hr (fun t ht hW => ⟨⟨v, (F, Ar), rfl, hq, by show gw_P _ _ _ _ t.heap; rw [ht]; exact P.1, P.2.2.2⟩, P.2.2.1.F ht⟩) P.2.2.1.2.2 hdg hlk
theorem c_zret (X : cCx p s m args meth c cc nL own D G) (P : cP D (cReg G ad Kd U zz s.heap.size) G ad s.heap Kd U T zz F Ar H locs) (hr : meth.sig.returnType = some .boolean) {v : Int32} {post : Int32 → tF → tA → Prop} (hz : v = 0 ∨ v = 1) (hq : post v F Ar) (hdg : decode cc pc = .ok (.ireturn, 1)) : W p l e R s m args below meth c H locs cells slots (MQ below (cQi D G ad Kd U T zz s.heap.size post) args s cells slots (cReg G ad Kd U zz s.heap.size)) (F0 m pc ls [.int v]) := by
  obtain ⟨hx, hb, hml, hown, hts, hK, hlk, hN⟩ := X
  exact W.zret hx hb hr (by rcases hz with h | h <;> subst h <;> rfl) (fun t ht hW => ⟨⟨v, (F, Ar), rfl, hq, by show gw_P _ _ _ _ t.heap; rw [ht]; exact P.1, P.2.2.2⟩, P.2.2.1.F ht⟩) P.2.2.1.2.2 hdg hlk
theorem c_lret (X : cCx p s m args meth c cc nL own D G) (P : cP D (cReg G ad Kd U zz s.heap.size) G ad s.heap Kd U T zz F Ar H locs) (hr : meth.sig.returnType = some .long) {v : Int64} {post : Int64 → tF → tA → Prop} (hq : post v F Ar) (hdg : decode cc pc = .ok (.lreturn, 1)) : W p l e R s m args below meth c H locs cells slots (MQ below (cQl D G ad Kd U T zz s.heap.size post) args s cells slots (cReg G ad Kd U zz s.heap.size)) (F0 m pc ls [.long v]) := by
  obtain ⟨hx, hb, hml, hown, hts, hK, hlk, hN⟩ := X
  exact W.lret hx hb hr (fun t ht hW => ⟨⟨v, (F, Ar), rfl, hq, by show gw_P _ _ _ _ t.heap; rw [ht]; exact P.1, P.2.2.2⟩, P.2.2.1.F ht⟩) P.2.2.1.2.2 hdg hlk
theorem c_vret (X : cCx p s m args meth c cc nL own D G) (P : cP D (cReg G ad Kd U zz s.heap.size) G ad s.heap Kd U T zz F Ar H locs) (hr : meth.sig.returnType = none) {post : tF → tA → Prop} (hq : post F Ar) (hdg : decode cc pc = .ok (.return_, 1)) : W p l e R s m args below meth c H locs cells slots (MQ below (cQv D G ad Kd U T zz s.heap.size post) args s cells slots (cReg G ad Kd U zz s.heap.size)) (F0 m pc ls []) := by
  obtain ⟨hx, hb, hml, hown, hts, hK, hlk, hN⟩ := X
  exact W.vret hx hb hr (fun t ht hW => ⟨⟨(F, Ar), rfl, hq, by show gw_P _ _ _ _ t.heap; rw [ht]; exact P.1, P.2.2.2⟩, P.2.2.1.F ht⟩) P.2.2.1.2.2 hdg hlk
/-- the receiver of a call on the class's object, and its start -/
theorem c_prev (X : cCx p s m args meth c cc nL own D G) {A : Nat → Prop} {H0 : Heap} (P : cP D A G ad H0 Kd U T zz F Ar H locs) {as : List Value} : PreV s H RX0 (ad 0) (va_Pc (.ref (ad 0) :: as) (cPb D G ad Kd U T zz F Ar H.size)) as := by
  obtain ⟨hx, hb, hml, hown, hts, hK, hlk, hN⟩ := X
  refine ⟨c_blind, va_recv hK (gw_one P.1 (k := 0) (x := .inr (1, cFs ad F)) rfl) (ci := 1) (q0 := 0) rfl rfl, fun V hV hW => ⟨rfl, by rw [hV], by rw [hV]; exact P.1, ⟨P.2.1.1, fun _ _ => trivial⟩, P.2.2.2, va_K.moved hW.alike hK, cNw.warm hW hN⟩⟩
/-- behind a call that may have moved F and Ar -/
theorem c_after (P : cP D (cReg G ad Kd U zz s.heap.size) G ad s.heap Kd U T zz F Ar H locs) {u : tF × tA} {t : State} {H1 : Heap} {locs1 : List Loc} (ht : t.heap = H1) (hB : cB D G ad Kd U T zz u t) (hS : va_S (cReg G ad Kd U zz s.heap.size) s.heap H1 locs1) : cP D (cReg G ad Kd U zz s.heap.size) G ad s.heap Kd U T zz u.1 u.2 H1 locs1 := by
  obtain ⟨h1, h2, h3, h4⟩ := hB
  exact ⟨by rw [← ht]; exact h1, P.2.1.to (fun k h => cE_dom (by rw [h4, P.2.2.2.2.2]) h), hS, h2, h3, h4⟩
end CRET
