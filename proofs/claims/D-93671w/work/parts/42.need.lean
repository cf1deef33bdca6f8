/-! ===== throwing an Odd; need ===== -/
set_option maxRecDepth 100000
theorem xg_entry {l : Launch} {y : MethodName} {cc : ByteArray} {maxL : Nat} {ret : Option FieldType} {rm : Room} {Qc : Array Value → State → Outcome → State → Prop} {free : Nat → Prop} {as : List Value} {B : State → Prop} {mc ms : Nat} (hy : plainName y.cls = true) (hlen : (lg_sl as).length ≤ maxL)
    (body : ∀ (p : Program) (e : Env) (s : State) (m : MethodId) (args : Array Value) (below : List Frame) (meth : Method) (c : Code) (ls : Array Slot), p.tables.exec = Jvm.exec → c.code = cc → c.maxLocals = maxL → s.vm.findClass y.cls = some m.cls → (∀ w ∈ lw_all, w.before args s = true) → meth.locks = false → meth.sig.returnType = ret → B s → lv_has ls maxL (lv_args 0 as) → c.exceptionTable.toList = [] → W p l e rm s m args below meth c s.heap [] 0 0 (xMQ below Qc args s mc ms free) (F0 m 0 ls [])) :
    xMet l y (ws_ y cc maxL ret) rm (va_Pc as B) Qc mc ms free := by
  refine xMet.ofW (cc := cc) (maxL := maxL) (ret := ret) hy rfl ?_
  intro p e s m args below meth c s₁ B hml hno hv
  obtain ⟨rfl, hB⟩ := hv
  have hts := atoms_spec (ws := ws_ y cc maxL ret) B.pre
  have hts : ∀ w ∈ lw_all, w.before _ s = true := fun w h => hts w (List.mem_cons_of_mem _ h)
  have hl := lv_entry as (n := maxL) hlen
  rw [lg_entry_eq]
  generalize (lg_sl as ++ List.replicate (maxL - (lg_sl as).length) Slot.unset).toArray = ls at hl ⊢
  exact body p e s m _ below meth c ls B.exec B.bytes hml (findClass_of_methodNamed B.named) hts B.notSynchronized B.returns hB hl hno
section XODD
variable {p : Program} {l : Launch} {e : Env} {R : Room} {s : State} {m : MethodId} {args : Array Value} {below : List Frame} {meth : Method} {c : Code} {cells slots : Nat}
variable {cc : ByteArray} {nL pc p3 : Nat} {ls : Array Slot} {D : va_G} {free : Nat → Prop} {Qc : Array Value → State → Outcome → State → Prop}
/-- new Odd(code), thrown out of the method; nothing was written before -/
theorem x_odd {own : String} {iN iI : Nat} {code : Int32} {tys : List (ClassId × FieldType)} (hx : p.tables.exec = Jvm.exec) (hb : c.code = cc) (hml : c.maxLocals = nL) (hls : ls.size = nL) (hown : s.vm.findClass own = some m.cls) (hts : ∀ w ∈ lw_all, w.before args s = true) (hlk : meth.locks = false) (hno : c.exceptionTable.toList = []) (hK : va_K D vcl tys s) (hK0 : va_K D vcl [] s) (hz : zTh (fun q => s.heap.size ≤ q) s s.heap)
    (hlN : Cond.classLink own iN "GateRoad$Odd" ∈ lw_all) (hlI : Cond.methodLink own iI yX14_init ∈ lw_all) (hd0 : decode cc pc = .ok (.new iN, 3)) (hd1 : decode cc (pc + 3) = .ok (.dup, 1))
    (hpush : ∀ (H : Heap) (locs : List Loc) (st : List Value) (Q : State → Prop) (c1 s1 : Nat), W p l e R s m args below meth c H locs c1 s1 Q (F0 m p3 ls (.int code :: st)) → W p l e R s m args below meth c H locs c1 s1 Q (F0 m (pc + 3 + 1) ls st))
    (hd3 : decode cc p3 = .ok (.invokespecial iI, 3)) (hd4 : decode cc (p3 + 3) = .ok (.athrow, 1)) (hR : 4 + 1 ≤ R.frames ∧ 8 + (2 + 11) + 84 ≤ R.locals) (hC : cells + 1 ≤ R.cells) (hSl : slots + 7 ≤ R.slots)
    (hf : ∀ q, s.heap.size ≤ q → free q) {mc ms : Nat} (hmc : cells + 1 ≤ mc) (hms : slots + 7 ≤ ms) (hq : ∀ (t : State) (a : Nat) (L : List Loc), s.heap.size ≤ a → va_P D vcl [(a, .inr (15, oFs code))] t.heap → va_F (fun q => s.heap.size ≤ q) s t → xFE s t L (cells + 1) (slots + 7) → (∀ q ∈ L, s.heap.size ≤ q.base) → Qc args s (.threw a) t) :
    W p l e R s m args below meth c s.heap [] cells slots (xMQ below Qc args s mc ms free) (F0 m pc ls []) := by
  have hA : ∀ q, s.heap.size ≤ q → s.heap.size ≤ q := fun q h => h
  have hS : va_S (fun q => s.heap.size ≤ q) s.heap s.heap [] := va_S.rf
  have hPz : va_P D vcl [] s.heap := fun k q h => by cases h
  have hDz : va_D (fun q => s.heap.size ≤ q) [] := ⟨fun i j p q h => by simp at h, fun k q h => by simp at h⟩
  refine va_new (ci := 15) (fs := [.null, .null, .null, .null, .null, .int 0, .int 0]) (C := RX14) (T := TX14) (N := 7) hx hb hts in_X14 tyX14 tyX14_ok hown (hts _ hlN) (hts _ q1222) (hts _ q96) hK hPz hDz hS hA rfl (fun j hj => by rcases (show j = 0 ∨ j = 1 ∨ j = 2 ∨ j = 3 ∨ j = 4 ∨ j = 5 ∨ j = 6 by omega) with rfl | rfl | rfl | rfl | rfl | rfl | rfl <;> rfl) hC hSl hd0 (fun a H hP hD hS => ?_)
  have hP : va_P D vcl [(a, .inr (15, oFs 0))] H := hP
  have hD : va_D (fun q => s.heap.size ≤ q) [(a, .inr (15, oFs 0))] := hD
  have ha : s.heap.size ≤ a := hD.2 0 _ rfl
  have hzz : s.heap.size ≤ H.size := hS.1
  refine lv_dup hx hb hd1 rfl ?_
  refine hpush _ _ _ _ _ _ ?_
  refine va_callv (va_runI (As := [.int code]) (rest := [.ref a]) ⟨hx, hb, hml, hown, hts⟩ (tX14_init l D a H.size code) (cwI 1 hts (lw_meth q1232) rfl rfl rfl (hts _ q96) (hts _ hlI) (hts _ q1231) rfl (by decide +kernel) hR) ⟨o_blind, fun U hU hW => ⟨rfl, ⟨by rw [hU], by rw [hU]; exact hP⟩, va_K.moved hW.alike hK0, by rw [hU]; exact ((hz.kept (fun q h1 h2 => hS.2.1 q h1 h2)).narrow (fun q h => h.elim (fun z => by rw [z]; exact ha) (fun z => Nat.le_trans hzz z))).moved hW.alike⟩⟩ rfl rfl hls rfl (lv_room (Nat.le_of_ble_eq_true rfl)) hd3 ⟨by omega, by omega⟩) hS (fun q _ h => h.elim (fun z => by rw [z]; exact ha) (fun z => Nat.le_trans hzz z)) (fun q h => h.elim (fun z => by rw [z]; exact ha) (fun z => Nat.le_trans hzz z)) (fun b t H1 locs1 ht hvm hb2 hB _ _ hS => ?_)
  refine x_athrow hx hb hd4 ?_
  exact x_outE hno hlk (fun t2 ht2 hW hfe => hq t2 a locs1 ha (by rw [ht2, ← ht]; exact hB) (hS.F ht2) hfe hS.2.2) (fun q h => hf _ (hS.2.2 q h)) hmc hms
end XODD
/-- it returns v and keeps the heap, or throws an Odd of the code -/
def xoQ (D : va_G) (sz : Nat) (ok : Prop) (v : Option Value) (code : Int32) : Array Value → State → Outcome → State → Prop := fun _ st oc t =>
  (ok ∧ oc = .returned v ∧ t.heap = st.heap ∧ ∃ L : List Loc, xFE st t L 0 0 ∧ ∀ q ∈ L, sz ≤ q.base) ∨
  (¬ ok ∧ ∃ a, oc = .threw a ∧ sz ≤ a ∧ va_P D vcl [(a, .inr (15, oFs code))] t.heap ∧ va_F (fun q => sz ≤ q) st t ∧ ∃ L : List Loc, xFE st t L 1 7 ∧ ∀ q ∈ L, sz ≤ q.base)
def ndP (D : va_G) (sz : Nat) (V : State) : Prop := V.heap.size = sz ∧ va_K D vcl [] V ∧ zTh (fun q => sz ≤ q) V V.heap
theorem nd_blind {as : List Value} {D : va_G} {sz : Nat} : FrameBlind (va_Pc as (ndP D sz)) := fun a V g mk q => ⟨q.1, q.2.1, va_K.moved (u := V) (U := V.calling g mk a) (Vm.Alike.refl V.vm) q.2.2.1, q.2.2.2.moved (Vm.Alike.refl V.vm)⟩
theorem xoQ.ret {p : Program} {l : Launch} {e : Env} {R : Room} {s : State} {m : MethodId} {args : Array Value} {below : List Frame} {meth : Method} {c : Code} {g : JFrame} {D : va_G} {ok : Prop} {v : Option Value} {code : Int32} (hok : ok) {mc ms : Nat}
    (h : W p l e R s m args below meth c s.heap [] 0 0 (MQ below (fun _ st o t => o = .returned v ∧ t.heap = st.heap) args s 0 0 (fun q => s.heap.size ≤ q)) g) : W p l e R s m args below meth c s.heap [] 0 0 (xMQ below (xoQ D s.heap.size ok v code) args s mc ms (fun q => s.heap.size ≤ q)) g :=
  xe_of h (fun o t L h1 h2 h3 => Or.inl ⟨hok, h1.1, h1.2, L, h2, h3⟩) (Nat.zero_le _) (Nat.zero_le _)
set_option maxHeartbeats 4000000 in
theorem tX0_need (l : Launch) (D : va_G) (sz : Nat) (b code : Int32) : xMet l yX0_need (ws_ yX0_need cX0_need 2 none) { frames := 5, cells := 1, slots := 7, locals := 105 } (va_Pc [.int b, .int code] (ndP D sz)) (xoQ D sz (¬ b = 0) none code) 1 7 (fun q => sz ≤ q) := by
  refine xg_entry (by decide) (Nat.le_of_ble_eq_true rfl) ?_
  intro p e s m args below meth c ls hx hb hml hown hts hlk hr hB hl hno
  obtain ⟨hsz, hK, hz⟩ := hB
  subst hsz
  have hl : lv_has ls 2 [(0, .int b), (1, .int code)] := hl
  have hown : s.vm.findClass RX0 = some m.cls := hown
  refine lv_iload_n hx hb dX0_need_0 rfl (lv_at hl 0 rfl) ?_
  refine lv_if_ne (tgt := 13) hx hb dX0_need_1 (by decide) (fun c_1 => ?_) (fun c_1 => ?_)
  · exact xoQ.ret c_1 (W.vret hx hb hr (fun t ht hW => ⟨rfl, ht⟩) (fun q h => by cases h) dX0_need_13 hlk)
  · exact x_odd (cells := 0) (slots := 0) (p3 := 9) hx hb hml hl.1 hown hts hlk hno hK hK hz q1217 q1230 dX0_need_4 dX0_need_7 (fun H locs st Q c1 s1 k => lv_iload_n hx hb dX0_need_8 rfl (lv_at hl 1 rfl) k) dX0_need_9 dX0_need_12 ⟨Nat.le_of_ble_eq_true rfl, Nat.le_of_ble_eq_true rfl⟩ (Nat.le_of_ble_eq_true rfl) (Nat.le_of_ble_eq_true rfl) (fun q h => h) (Nat.le_refl _) (Nat.le_refl _) (fun t a L h1 h2 h3 h4 h5 => Or.inr ⟨fun z => z c_1, a, rfl, h1, h2, h3, L, h4, h5⟩)
