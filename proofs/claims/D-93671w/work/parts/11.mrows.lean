/-! ===== the model's object: F its ints by field number, A its int arrays by field number ===== -/
set_option maxRecDepth 100000
def aset (Ar : tA) (k i : Nat) (x : Int32) : tA := fun j => if j = k then upd (Ar k) i x else Ar j
def mLen (k : Nat) : Option Nat := match k with
  | 0 => some 48
  | 1 => some 48
  | 3 => some 4
  | 4 => some 4
  | 5 => some 8
  | 7 => some 16
  | 9 => some 8
  | 10 => some 8
  | 11 => some 128
  | 12 => some 160
  | 14 => some 1200
  | 15 => some 24
  | 22 => some 48
  | 23 => some 48
  | 24 => some 4
  | 25 => some 128
  | 26 => some 4
  | 27 => some 4
  | 28 => some 160
  | 34 => some 200
  | 38 => some 200
  | 39 => some 6
  | 40 => some 16
  | 41 => some 16
  | 42 => some 16
  | 43 => some 16
  | 48 => some 4
  | _ => none
def mFld (ad : Nat → Nat) (F : tF) (k : Nat) : Value := if k = 33 then .ref (ad 34) else match mLen k with
  | some _ => .ref (ad (k + 1))
  | none => .int (F k)
def mFs (ad : Nat → Nat) (F : tF) : List Value := (List.range 49).map (mFld ad F)
def mWd : Nat → Int64 := fun j => match j with
  | 0 => 1668248436
  | 1 => 1819243380
  | 2 => 2002872692
  | 3 => 435476786297
  | 4 => 1818326117
  | 5 => 120299240813669
  | 6 => 1936683636
  | 7 => 1953459308
  | 8 => 28530
  | 9 => 6385252
  | _ => 7237492
def mM (ci : Nat) (dA dL : ClassId) (ad : Nat → Nat) (F : tF) (Ar : tA) : Nat → Option va_E := fun k => match k with
  | 0 => some (.inr (ci, mFs ad F))
  | k + 1 => if k = 33 then some (.inl (dL, 11, .inr (.inl mWd))) else (mLen k).map (fun n => .inl (dA, n, .inl (Ar k)))
def mDom (k : Nat) : Bool := match k with
  | 0 => true
  | k + 1 => k == 33 || (mLen k).isSome
theorem mM_dom {ci : Nat} {dA dL : ClassId} {ad : Nat → Nat} {F : tF} {Ar : tA} {k : Nat} : mM ci dA dL ad F Ar k ≠ none ↔ mDom k = true := by
  cases k with
  | zero => simp [mM, mDom]
  | succ k =>
    by_cases h : k = 33
    · simp [mM, mDom, h]
    · simp [mM, mDom, h]
      cases mLen k <;> simp
theorem mFld_upd {ad : Nat → Nat} {F : tF} {k i : Nat} {v : Int32} (h : ¬ k = i) : mFld ad (upd F k v) i = mFld ad F i := by
  unfold mFld
  split
  · rfl
  · split
    · rfl
    · simp [upd, show ¬ i = k from fun z => h z.symm]
theorem mM_put {ci : Nat} {dA dL : ClassId} {ad : Nat → Nat} {F : tF} {Ar : tA} {k : Nat} {v : Int32} (h1 : mLen k = none) (h2 : ¬ k = 33) : gw_set (mM ci dA dL ad F Ar) 0 (.inr (ci, (mFs ad F).set k (.int v))) = mM ci dA dL ad (upd F k v) Ar := by
  funext j
  cases j with
  | zero =>
    simp only [gw_set, mM, if_true]
    congr 3
    apply List.ext_getElem?
    intro i
    simp only [mFs, List.getElem?_set, List.getElem?_map, List.length_map, List.length_range]
    by_cases hi : k = i
    · subst hi
      by_cases hk : k < 49
      · simp [hk, mFld, h1, h2, upd]
      · simp [hk, List.getElem?_range]
    · simp only [hi, if_false]
      by_cases hk : i < 49
      · simp [List.getElem?_range, hk, mFld_upd hi]
      · simp [List.getElem?_range, hk]
  | succ j => simp [gw_set, mM]
theorem mM_arr {ci : Nat} {dA dL : ClassId} {ad : Nat → Nat} {F : tF} {Ar : tA} {k n i : Nat} {x : Int32} (h1 : mLen k = some n) (h2 : ¬ k = 33) : gw_set (mM ci dA dL ad F Ar) (k + 1) (.inl (dA, n, .inl (upd (Ar k) i x))) = mM ci dA dL ad F (aset Ar k i x) := by
  funext j
  cases j with
  | zero => simp [gw_set, mM]
  | succ j =>
    by_cases h : j = k
    · subst h
      simp [gw_set, mM, h1, h2, aset]
    · simp [gw_set, mM, aset, h]
def mCx (p : Program) (s : State) (m : MethodId) (args : Array Value) (meth : Method) (c : Code) (cc : ByteArray) (nL : Nat) (D : va_G) (cl : List vw_C) (ci : Nat) (dA dL : ClassId) : Prop :=
  p.tables.exec = Jvm.exec ∧ c.code = cc ∧ c.maxLocals = nL ∧ s.vm.findClass RX7 = some m.cls ∧ (∀ w ∈ lw_all, w.before args s = true) ∧ va_K D cl [(dA, .int), (dL, .long)] s ∧ cl[ci]? = some (RX7, TX7, 49) ∧ meth.locks = false
def mP (D : va_G) (cl : List vw_C) (A : Nat → Prop) (ci : Nat) (dA dL : ClassId) (ad : Nat → Nat) (H0 : Heap) (F : tF) (Ar : tA) (H : Heap) (locs : List Loc) : Prop :=
  gw_P D cl ad (mM ci dA dL ad F Ar) H ∧ gw_D A ad (mM ci dA dL ad F Ar) ∧ va_S A H0 H locs
def mReg (ad : Nat → Nat) : Nat → Prop := fun q => ∃ k, mDom k = true ∧ q = ad k
def mPc (D : va_G) (cl : List vw_C) (ci : Nat) (dA dL : ClassId) (ad : Nat → Nat) (F : tF) (Ar : tA) (as : List Value) : Array Value → State → Prop :=
  va_Pc (.ref (ad 0) :: as) (fun U => gw_P D cl ad (mM ci dA dL ad F Ar) U.heap ∧ va_K D cl [(dA, .int), (dL, .long)] U ∧ gw_D (fun _ => True) ad (mM ci dA dL ad F Ar) ∧ cl[ci]? = some (RX7, TX7, 49))
def mQi (D : va_G) (cl : List vw_C) (ci : Nat) (dA dL : ClassId) (ad : Nat → Nat) (post : Int32 → tF → tA → Prop) : Array Value → State → Outcome → State → Prop :=
  va_Qi (fun r (u : tF × tA) => post r u.1 u.2) (fun u t => gw_P D cl ad (mM ci dA dL ad u.1 u.2) t.heap) (mReg ad)
def mQl (D : va_G) (cl : List vw_C) (ci : Nat) (dA dL : ClassId) (ad : Nat → Nat) (post : Int64 → tF → tA → Prop) : Array Value → State → Outcome → State → Prop :=
  va_Ql (fun r (u : tF × tA) => post r u.1 u.2) (fun u t => gw_P D cl ad (mM ci dA dL ad u.1 u.2) t.heap) (mReg ad)
def mQv (D : va_G) (cl : List vw_C) (ci : Nat) (dA dL : ClassId) (ad : Nat → Nat) (post : tF → tA → Prop) : Array Value → State → Outcome → State → Prop :=
  va_Qv (fun (u : tF × tA) => post u.1 u.2) (fun u t => gw_P D cl ad (mM ci dA dL ad u.1 u.2) t.heap) (mReg ad)
section MR
variable {p : Program} {l : Launch} {e : Env} {R : Room} {s : State} {m : MethodId} {args : Array Value} {below : List Frame} {meth : Method} {c : Code} {H : Heap} {locs : List Loc} {cells slots : Nat} {Q : State → Prop}
variable {cc : ByteArray} {nL pc : Nat} {ls : Array Slot} {rest : List Value} {D : va_G} {cl : List vw_C} {A : Nat → Prop} {ci : Nat} {dA dL : ClassId} {ad : Nat → Nat} {H0 : Heap} {F : tF} {Ar : tA}
theorem m_get (X : mCx p s m args meth c cc nL D cl ci dA dL) (P : mP D cl A ci dA dL ad H0 F Ar H locs) (k : Nat) (hk : k < 49) {index : Nat} (hl : Cond.fieldLink RX7 index RX7 (TX7 k).2.1 (TX7 k).2.2.1 ∈ lw_all) (hs : (TX7 k).1 = RX7) {v : Value} (hv : (mFs ad F)[k]? = some v) (hdg : decode cc pc = .ok (.getfield index, 3))
    (kk : W p l e R s m args below meth c H locs cells slots Q (F0 m (pc + 3) ls (v :: rest))) : W p l e R s m args below meth c H locs cells slots Q (F0 m pc ls (.ref (ad 0) :: rest)) := by
  obtain ⟨hx, hb, hml, hown, hts, hK, hc, hlk⟩ := X
  exact gw_get hx hb hts in_X7 hown hK P.1 (q0 := 0) (fs := mFs ad F) rfl hc k hk (hts _ hl) (fun _ h => by rw [hs] at h; exact h) hv hdg kk
theorem m_put (X : mCx p s m args meth c cc nL D cl ci dA dL) (P : mP D cl A ci dA dL ad H0 F Ar H locs) (k : Nat) (hk : k < 49) {index : Nat} (hl : Cond.fieldLink RX7 index RX7 (TX7 k).2.1 (TX7 k).2.2.1 ∈ lw_all) (hs : (TX7 k).1 = RX7) (h1 : mLen k = none) (h2 : ¬ k = 33) (hfin : (TX7 k).2.2.2 = false) {v : Int32} {ty : FieldType} (hd : parseFieldDescriptor (TX7 k).2.2.1 = some ty) (hn : narrow ty (.int v) = .int v) (hfit : fits ty (.int v) = true) (hdg : decode cc pc = .ok (.putfield index, 3))
    (kk : ∀ (F1 : tF) (H1 : Heap) (locs1 : List Loc), F1 = upd F k v → mP D cl A ci dA dL ad H0 F1 Ar H1 locs1 → W p l e R s m args below meth c H1 locs1 cells slots Q (F0 m (pc + 3) ls rest)) : W p l e R s m args below meth c H locs cells slots Q (F0 m pc ls (.int v :: .ref (ad 0) :: rest)) := by
  obtain ⟨hx, hb, hml, hown, hts, hK, hc, hlk⟩ := X
  refine gw_put hx hb hts in_X7 tyX7 tyX7_ok nmX7 hown hK P.1 P.2.1 P.2.2 (q0 := 0) (fs := mFs ad F) rfl hc k hk (hts _ hl) (fun _ h => by rw [hs] at h; exact h) hfin hd hn hfit (by simp [mFs]; exact hk) hdg ?_
  intro H1 locs1 hP hD hS _
  rw [mM_put h1 h2] at hP hD
  exact kk _ H1 locs1 rfl ⟨hP, hD, hS⟩
theorem m_iald (X : mCx p s m args meth c cc nL D cl ci dA dL) (P : mP D cl A ci dA dL ad H0 F Ar H locs) (k : Nat) {n : Nat} (h1 : mLen k = some n) (h2 : ¬ k = 33) {i : Int32} (hin : vp_in i n) (hdg : decode cc pc = .ok (.iaload, 1))
    (kk : W p l e R s m args below meth c H locs cells slots Q (F0 m (pc + 1) ls (.int (Ar k i.toNatClampNeg) :: rest))) : W p l e R s m args below meth c H locs cells slots Q (F0 m pc ls (.int i :: .ref (ad (k + 1)) :: rest)) := by
  obtain ⟨hx, hb, hml, hown, hts, hK, hc, hlk⟩ := X
  exact gw_iald hx hb hK P.1 (q0 := k + 1) 0 (by simp [mM, h1, h2]) rfl hin hdg kk
theorem m_wald (X : mCx p s m args meth c cc nL D cl ci dA dL) (P : mP D cl A ci dA dL ad H0 F Ar H locs) {i : Int32} (hin : vp_in i 11) (hdg : decode cc pc = .ok (.laload, 1))
    (kk : W p l e R s m args below meth c H locs cells slots Q (F0 m (pc + 1) ls (.long (mWd i.toNatClampNeg) :: rest))) : W p l e R s m args below meth c H locs cells slots Q (F0 m pc ls (.int i :: .ref (ad 34) :: rest)) := by
  obtain ⟨hx, hb, hml, hown, hts, hK, hc, hlk⟩ := X
  exact gw_lald hx hb hK P.1 (q0 := 34) 1 rfl rfl hin hdg kk
theorem m_iast (X : mCx p s m args meth c cc nL D cl ci dA dL) (P : mP D cl A ci dA dL ad H0 F Ar H locs) (k : Nat) {n : Nat} (h1 : mLen k = some n) (h2 : ¬ k = 33) {i x : Int32} (hin : vp_in i n) (hdg : decode cc pc = .ok (.iastore, 1))
    (kk : ∀ (A1 : tA) (H1 : Heap) (locs1 : List Loc), A1 = aset Ar k i.toNatClampNeg x → mP D cl A ci dA dL ad H0 F A1 H1 locs1 → W p l e R s m args below meth c H1 locs1 cells slots Q (F0 m (pc + 1) ls rest)) : W p l e R s m args below meth c H locs cells slots Q (F0 m pc ls (.int x :: .int i :: .ref (ad (k + 1)) :: rest)) := by
  obtain ⟨hx, hb, hml, hown, hts, hK, hc, hlk⟩ := X
  refine gw_iast hx hb hK P.1 P.2.1 P.2.2 (q0 := k + 1) (n := n) (f := Ar k) 0 (by simp [mM, h1, h2]) rfl hin hdg ?_
  intro H1 locs1 hP hD hS _
  rw [mM_arr h1 h2] at hP hD
  exact kk _ H1 locs1 rfl ⟨hP, hD, hS⟩
/-- answers -/
theorem m_iret (X : mCx p s m args meth c cc nL D cl ci dA dL) (P : mP D cl (mReg ad) ci dA dL ad s.heap F Ar H locs) (hr : meth.sig.returnType = some .int) {v : Int32} {post : Int32 → tF → tA → Prop} (hq : post v F Ar) (hdg : decode cc pc = .ok (.ireturn, 1)) : W p l e R s m args below meth c H locs cells slots (MQ below (mQi D cl ci dA dL ad post) args s cells slots (mReg ad)) (F0 m pc ls [.int v]) := by
  obtain ⟨hx, hb, hml, hown, hts, hK, hc, hlk⟩ := X
  exact W.iret hx hb hr (fun t ht hW => ⟨⟨v, (F, Ar), rfl, hq, by show gw_P _ _ _ _ t.heap; rw [ht]; exact P.1⟩, P.2.2.F ht⟩) P.2.2.2.2 hdg hlk
theorem m_zret (X : mCx p s m args meth c cc nL D cl ci dA dL) (P : mP D cl (mReg ad) ci dA dL ad s.heap F Ar H locs) (hr : meth.sig.returnType = some .boolean) {v : Int32} {post : Int32 → tF → tA → Prop} (hz : v = 0 ∨ v = 1) (hq : post v F Ar) (hdg : decode cc pc = .ok (.ireturn, 1)) : W p l e R s m args below meth c H locs cells slots (MQ below (mQi D cl ci dA dL ad post) args s cells slots (mReg ad)) (F0 m pc ls [.int v]) := by
  obtain ⟨hx, hb, hml, hown, hts, hK, hc, hlk⟩ := X
  exact W.zret hx hb hr (by rcases hz with h | h <;> subst h <;> rfl) (fun t ht hW => ⟨⟨v, (F, Ar), rfl, hq, by show gw_P _ _ _ _ t.heap; rw [ht]; exact P.1⟩, P.2.2.F ht⟩) P.2.2.2.2 hdg hlk
theorem m_lret (X : mCx p s m args meth c cc nL D cl ci dA dL) (P : mP D cl (mReg ad) ci dA dL ad s.heap F Ar H locs) (hr : meth.sig.returnType = some .long) {v : Int64} {post : Int64 → tF → tA → Prop} (hq : post v F Ar) (hdg : decode cc pc = .ok (.lreturn, 1)) : W p l e R s m args below meth c H locs cells slots (MQ below (mQl D cl ci dA dL ad post) args s cells slots (mReg ad)) (F0 m pc ls [.long v]) := by
  obtain ⟨hx, hb, hml, hown, hts, hK, hc, hlk⟩ := X
  exact W.lret hx hb hr (fun t ht hW => ⟨⟨v, (F, Ar), rfl, hq, by show gw_P _ _ _ _ t.heap; rw [ht]; exact P.1⟩, P.2.2.F ht⟩) P.2.2.2.2 hdg hlk
theorem m_vret (X : mCx p s m args meth c cc nL D cl ci dA dL) (P : mP D cl (mReg ad) ci dA dL ad s.heap F Ar H locs) (hr : meth.sig.returnType = none) {post : tF → tA → Prop} (hq : post F Ar) (hdg : decode cc pc = .ok (.return_, 1)) : W p l e R s m args below meth c H locs cells slots (MQ below (mQv D cl ci dA dL ad post) args s cells slots (mReg ad)) (F0 m pc ls []) := by
  obtain ⟨hx, hb, hml, hown, hts, hK, hc, hlk⟩ := X
  exact W.vret hx hb hr (fun t ht hW => ⟨⟨(F, Ar), rfl, hq, by show gw_P _ _ _ _ t.heap; rw [ht]; exact P.1⟩, P.2.2.F ht⟩) P.2.2.2.2 hdg hlk
/-- answers of a method that only reads -/
theorem r_iret (hx : p.tables.exec = Jvm.exec) (hb : c.code = cc) (hlk : meth.locks = false) (hr : meth.sig.returnType = some .int) {v : Int32} {post : Int32 → Prop} (hq : post v) (hdg : decode cc pc = .ok (.ireturn, 1)) : W p l e R s m args below meth c s.heap [] cells slots (MQ below (vp_Si post) args s cells slots (fun _ => False)) (F0 m pc ls [.int v]) :=
  W.iret hx hb hr (fun t ht hW => ⟨v, rfl, hq, ht⟩) (fun q h => by cases h) hdg hlk
theorem r_zret (hx : p.tables.exec = Jvm.exec) (hb : c.code = cc) (hlk : meth.locks = false) (hr : meth.sig.returnType = some .boolean) {v : Int32} {post : Int32 → Prop} (hz : v = 0 ∨ v = 1) (hq : post v) (hdg : decode cc pc = .ok (.ireturn, 1)) : W p l e R s m args below meth c s.heap [] cells slots (MQ below (vp_Si post) args s cells slots (fun _ => False)) (F0 m pc ls [.int v]) :=
  W.zret hx hb hr (by rcases hz with h | h <;> subst h <;> rfl) (fun t ht hW => ⟨v, rfl, hq, ht⟩) (fun q h => by cases h) hdg hlk
theorem r_lret (hx : p.tables.exec = Jvm.exec) (hb : c.code = cc) (hlk : meth.locks = false) (hr : meth.sig.returnType = some .long) {v : Int64} {post : Int64 → Prop} (hq : post v) (hdg : decode cc pc = .ok (.lreturn, 1)) : W p l e R s m args below meth c s.heap [] cells slots (MQ below (vp_Sl post) args s cells slots (fun _ => False)) (F0 m pc ls [.long v]) :=
  W.lret hx hb hr (fun t ht hW => ⟨v, rfl, hq, ht⟩) (fun q h => by cases h) hdg hlk
end MR
/-- the start of a method of the model -/
theorem m_entry {l : Launch} {y : MethodName} {cc : ByteArray} {maxL : Nat} {ret : Option FieldType} {rm : Room} {Qc : Array Value → State → Outcome → State → Prop} {free : Nat → Prop} {D : va_G} {cl : List vw_C} {ci : Nat} {dA dL : ClassId} {ad : Nat → Nat} {F : tF} {Ar : tA} {as : List Value} (hy : plainName y.cls = true) (hy7 : y.cls = RX7) (hlen : (lg_sl (.ref (ad 0) :: as)).length ≤ maxL)
    (body : ∀ (p : Program) (e : Env) (s : State) (m : MethodId) (below : List Frame) (meth : Method) (c : Code) (ls : Array Slot), mCx p s m (.ref (ad 0) :: as).toArray meth c cc maxL D cl ci dA dL → meth.sig.returnType = ret → mP D cl (mReg ad) ci dA dL ad s.heap F Ar s.heap [] → lv_has ls maxL (lv_args 0 (.ref (ad 0) :: as)) → W p l e rm s m (.ref (ad 0) :: as).toArray below meth c s.heap [] 0 0 (MQ below Qc (.ref (ad 0) :: as).toArray s 0 0 free) (F0 m 0 ls [])) :
    Met l y (ws_ y cc maxL ret) rm (mPc D cl ci dA dL ad F Ar as) Qc 0 0 free := by
  refine Met.ofW (cc := cc) (maxL := maxL) (ret := ret) hy rfl ?_
  intro p e s m args below meth c s₁ B hml hv
  obtain ⟨rfl, hP, hK, hD, hc⟩ := hv
  have hts := atoms_spec (ws := ws_ y cc maxL ret) B.pre
  have hts : ∀ w ∈ lw_all, w.before _ s = true := fun w h => hts w (List.mem_cons_of_mem _ h)
  have hown : s.vm.findClass y.cls = some m.cls := findClass_of_methodNamed B.named
  rw [hy7] at hown
  have hl := lv_entry (.ref (ad 0) :: as) (n := maxL) hlen
  rw [lg_entry_eq]
  generalize (lg_sl (.ref (ad 0) :: as) ++ List.replicate (maxL - (lg_sl (.ref (ad 0) :: as)).length) Slot.unset).toArray = ls at hl ⊢
  exact body p e s m below meth c ls ⟨B.exec, B.bytes, hml, hown, hts, hK, hc, B.notSynchronized⟩ B.returns ⟨hP, ⟨hD.1, fun k hk => ⟨k, mM_dom.mp hk, rfl⟩⟩, va_S.rf⟩ hl
/-- the start of a static method of ints -/
theorem s_entry {l : Launch} {y : MethodName} {cc : ByteArray} {maxL : Nat} {ret : Option FieldType} {rm : Room} {Qc : Array Value → State → Outcome → State → Prop} {free : Nat → Prop} {as : List Value} (hy : plainName y.cls = true) (hlen : (lg_sl as).length ≤ maxL)
    (body : ∀ (p : Program) (e : Env) (s : State) (m : MethodId) (below : List Frame) (meth : Method) (c : Code) (ls : Array Slot), p.tables.exec = Jvm.exec → c.code = cc → c.maxLocals = maxL → s.vm.findClass y.cls = some m.cls → (∀ w ∈ lw_all, w.before as.toArray s = true) → meth.locks = false → meth.sig.returnType = ret → lv_has ls maxL (lv_args 0 as) → W p l e rm s m as.toArray below meth c s.heap [] 0 0 (MQ below Qc as.toArray s 0 0 free) (F0 m 0 ls [])) :
    Met l y (ws_ y cc maxL ret) rm (va_Pc as (fun _ => True)) Qc 0 0 free := by
  refine Met.ofW (cc := cc) (maxL := maxL) (ret := ret) hy rfl ?_
  intro p e s m args below meth c s₁ B hml hv
  obtain ⟨rfl, -⟩ := hv
  have hts := atoms_spec (ws := ws_ y cc maxL ret) B.pre
  have hts : ∀ w ∈ lw_all, w.before _ s = true := fun w h => hts w (List.mem_cons_of_mem _ h)
  have hl := lv_entry as (n := maxL) hlen
  rw [lg_entry_eq]
  generalize (lg_sl as ++ List.replicate (maxL - (lg_sl as).length) Slot.unset).toArray = ls at hl ⊢
  exact body p e s m below meth c ls B.exec B.bytes hml (findClass_of_methodNamed B.named) hts B.notSynchronized B.returns hl
section MCALL
variable {p : Program} {l : Launch} {e : Env} {R : Room} {s : State} {m : MethodId} {args : Array Value} {below : List Frame} {meth : Method} {c : Code} {H : Heap} {locs : List Loc} {cells slots : Nat} {Q : State → Prop}
variable {cc : ByteArray} {nL pc : Nat} {ls : Array Slot} {rest : List Value} {D : va_G} {cl : List vw_C} {A : Nat → Prop} {ci : Nat} {dA dL : ClassId} {ad : Nat → Nat} {H0 : Heap} {F : tF} {Ar : tA}
variable {y : MethodName} {bytes : ByteArray} {maxL n index : Nat} {ret : Option FieldType} {rm : Room} {as : List Value} {own : String}
theorem m_blind {as : List Value} : FrameBlind (mPc D cl ci dA dL ad F Ar as) := fun a U g mk q => by
  obtain ⟨q0, qP, qK, qD, qc⟩ := q
  exact ⟨q0, qP, va_K.moved (u := U) (U := U.calling g mk a) (Vm.Alike.refl U.vm) qK, qD, qc⟩
theorem m_recv (hK : va_K D cl [(dA, .int), (dL, .long)] s) (hc : cl[ci]? = some (RX7, TX7, 49)) (hP : gw_P D cl ad (mM ci dA dL ad F Ar) H) : ∃ cell : Cell, H[ad 0]? = some cell ∧ cell.vm.isStatics = false ∧ s.vm.findClass RX7 = some cell.cls :=
  va_recv hK (gw_one hP (k := 0) (x := .inr (ci, mFs ad F)) rfl) hc (ci := ci) (q0 := 0) rfl
/-- a call on the model's object, from any method that stands in a class named own -/
theorem m_runV (hx : p.tables.exec = Jvm.exec) (hb : c.code = cc) (hml : c.maxLocals = nL) (hown : s.vm.findClass own = some m.cls) (hts : ∀ w ∈ lw_all, w.before args s = true) (hK : va_K D cl [(dA, .int), (dL, .long)] s) (hc : cl[ci]? = some (RX7, TX7, 49)) (hP : gw_P D cl ad (mM ci dA dL ad F Ar) H) (hD : gw_D A ad (mM ci dA dL ad F Ar))
    {Qc : Array Value → State → Outcome → State → Prop} {free : Nat → Prop} (hM : Met l y (ws_ y bytes maxL ret) rm (mPc D cl ci dA dL ad F Ar as) Qc 0 0 free) (cw : CallW R s args own RX7 index y bytes maxL ret (ws_ y bytes maxL ret) rm 0 0 n) (hn : as.length = n) (hls : ls.size = nL) (hst : (rest.map fun v => v.category).sum ≤ 8) (hdg : decode cc pc = .ok (.invokevirtual index, 3)) (hcs : cells ≤ R.cells ∧ slots ≤ R.slots) :
    va_Run p l e R s m args below meth c H locs cells slots 0 0 (F0 m pc ls (as.reverse ++ .ref (ad 0) :: rest)) rest (Qc (Value.ref (ad 0) :: as).toArray) free :=
  va_runV (As := as) (rest := rest) ⟨hx, hb, hml, hown, hts⟩ hM cw ⟨m_blind, m_recv hK hc hP, fun U hU hW => ⟨rfl, by rw [hU]; exact hP, va_K.moved hW.alike hK, hD.to (A := A) (fun _ h => h) |> fun h => ⟨h.1, fun _ _ => trivial⟩, hc⟩⟩ rfl hn hls rfl (lv_room hst) hdg hcs
theorem m_runR (hx : p.tables.exec = Jvm.exec) (hb : c.code = cc) (hml : c.maxLocals = nL) (hown : s.vm.findClass own = some m.cls) (hts : ∀ w ∈ lw_all, w.before args s = true) (hK : va_K D cl [(dA, .int), (dL, .long)] s) (hc : cl[ci]? = some (RX7, TX7, 49)) (hP : gw_P D cl ad (mM ci dA dL ad F Ar) H) (hD : gw_D A ad (mM ci dA dL ad F Ar))
    {Qc : Array Value → State → Outcome → State → Prop} {free : Nat → Prop} (hM : Met l y (ws_ y bytes maxL ret) rm (mPc D cl ci dA dL ad F Ar as) Qc 0 0 free) (cw : CallW R s args own RX7 index y bytes maxL ret (ws_ y bytes maxL ret) rm 0 0 n) (hn : as.length = n) (hls : ls.size = nL) (hst : (rest.map fun v => v.category).sum ≤ 8) (hdg : decode cc pc = .ok (.invokevirtual index, 3)) (hcs : cells ≤ R.cells ∧ slots ≤ R.slots) :
    CallRun p l e R s m args below meth c H locs cells slots 0 0 (F0 m pc ls (as.reverse ++ .ref (ad 0) :: rest)) rest (Qc (Value.ref (ad 0) :: as).toArray) free :=
  W.runV (As := as) (rest := rest) ⟨hx, hb, hml, hown, hts⟩ hM cw ⟨m_blind, m_recv hK hc hP, fun U hU hW => ⟨rfl, by rw [hU]; exact hP, va_K.moved hW.alike hK, hD.to (A := A) (fun _ h => h) |> fun h => ⟨h.1, fun _ _ => trivial⟩, hc⟩⟩ rfl hn hls rfl (lv_room hst) hdg hcs
theorem s_runR (S : CallFix p m c cc nL s args lw_all own) {Qc : Array Value → State → Outcome → State → Prop} {free : Nat → Prop} (hM : Met l y (ws_ y bytes maxL ret) rm (va_Pc as (fun _ => True)) Qc 0 0 free) (cw : CallB R s args own index y bytes maxL ret (ws_ y bytes maxL ret) rm 0 0 n ∧ (Cond.static y).before args s = true) (hn : as.length = n) (hls : ls.size = nL) (hst : (rest.map fun v => v.category).sum ≤ 8) (hdg : decode cc pc = .ok (.invokestatic index, 3)) (hcs : cells ≤ R.cells ∧ slots ≤ R.slots) :
    CallRun p l e R s m args below meth c H locs cells slots 0 0 (F0 m pc ls (as.reverse ++ rest)) rest (Qc as.toArray) free :=
  W.runS (As := as) (rest := rest) S hM cw ⟨fun a U g mk q => ⟨q.1, trivial⟩, fun U hU hW => ⟨rfl, trivial⟩⟩ rfl hn hls rfl (lv_room hst) hdg hcs
end MCALL
def sCx (p : Program) (s : State) (m : MethodId) (args : Array Value) (meth : Method) (c : Code) (cc : ByteArray) (nL : Nat) (own : String) : Prop :=
  p.tables.exec = Jvm.exec ∧ c.code = cc ∧ c.maxLocals = nL ∧ s.vm.findClass own = some m.cls ∧ (∀ w ∈ lw_all, w.before args s = true) ∧ meth.locks = false
