/-! ===== methods that only read: their answer is told, the heap stays; the list's size and get ===== -/
set_option maxRecDepth 100000
def rQ (v : Option Value) : Array Value → State → Outcome → State → Prop := fun _ st o t => o = .returned v ∧ t.heap = st.heap
theorem g_entry {l : Launch} {y : MethodName} {cc : ByteArray} {maxL : Nat} {ret : Option FieldType} {rm : Room} {Qc : Array Value → State → Outcome → State → Prop} {free : Nat → Prop} {as : List Value} {B : State → Prop} {mc ms : Nat} (hy : plainName y.cls = true) (hlen : (lg_sl as).length ≤ maxL)
    (body : ∀ (p : Program) (e : Env) (s : State) (m : MethodId) (args : Array Value) (below : List Frame) (meth : Method) (c : Code) (ls : Array Slot), p.tables.exec = Jvm.exec → c.code = cc → c.maxLocals = maxL → s.vm.findClass y.cls = some m.cls → (∀ w ∈ lw_all, w.before args s = true) → meth.locks = false → meth.sig.returnType = ret → B s → lv_has ls maxL (lv_args 0 as) → (meth.name = y.name) → W p l e rm s m args below meth c s.heap [] 0 0 (MQ below Qc args s mc ms free) (F0 m 0 ls [])) :
    Met l y (ws_ y cc maxL ret) rm (va_Pc as B) Qc mc ms free := by
  refine Met.ofW (cc := cc) (maxL := maxL) (ret := ret) hy rfl ?_
  intro p e s m args below meth c s₁ B hml hv
  obtain ⟨rfl, hB⟩ := hv
  have hts := atoms_spec (ws := ws_ y cc maxL ret) B.pre
  have hts : ∀ w ∈ lw_all, w.before _ s = true := fun w h => hts w (List.mem_cons_of_mem _ h)
  have hl := lv_entry as (n := maxL) hlen
  rw [lg_entry_eq]
  generalize (lg_sl as ++ List.replicate (maxL - (lg_sl as).length) Slot.unset).toArray = ls at hl ⊢
  exact body p e s m _ below meth c ls B.exec B.bytes hml (findClass_of_methodNamed B.named) hts B.notSynchronized B.returns hB hl (name_of_methodNamed B.named B.method).1
section RD
variable {p : Program} {l : Launch} {e : Env} {R : Room} {s : State} {m : MethodId} {args : Array Value} {below : List Frame} {meth : Method} {c : Code} {H : Heap} {locs : List Loc} {cells slots : Nat} {Q : State → Prop}
variable {cc : ByteArray} {nL pc : Nat} {ls : Array Slot} {rest st0 : List Value} {a : Array Value} {v : Option Value}
theorem r_call (hr : CallRun p l e R s m args below meth c H locs cells slots 0 0 (F0 m pc ls st0) rest (rQ v a) (fun _ => False)) (kk : W p l e R s m args below meth c H locs cells slots Q (F0 m (pc + 3) ls (v.toList ++ rest))) : W p l e R s m args below meth c H locs cells slots Q (F0 m pc ls st0) := by
  intro T hT X
  obtain ⟨v, st₀, t, T', L, h0, X', hL, e1, ⟨hv, hh⟩, st⟩ := hr T hT X
  cases hv
  obtain ⟨t2, a1, b1⟩ := kk T' (by rw [e1, hh, h0]) (Stand.forget X' (fun q h => (hL q h).elim))
  exact ⟨t2, st t2 a1, b1⟩
theorem rq_int (hx : p.tables.exec = Jvm.exec) (hb : c.code = cc) (hlk : meth.locks = false) (hr : meth.sig.returnType = some .int) {x : Int32} (hdg : decode cc pc = .ok (.ireturn, 1)) : W p l e R s m args below meth c s.heap [] cells slots (MQ below (rQ (some (.int x))) args s cells slots (fun _ => False)) (F0 m pc ls [.int x]) :=
  W.iret hx hb hr (fun t ht hW => ⟨rfl, ht⟩) (fun q h => by cases h) hdg hlk
theorem rq_bool (hx : p.tables.exec = Jvm.exec) (hb : c.code = cc) (hlk : meth.locks = false) {ty : FieldType} (hr : meth.sig.returnType = some ty) {x : Int32} (hn : narrow ty (.int x) = .int x) (hdg : decode cc pc = .ok (.ireturn, 1)) : W p l e R s m args below meth c s.heap [] cells slots (MQ below (rQ (some (.int x))) args s cells slots (fun _ => False)) (F0 m pc ls [.int x]) :=
  W.zret hx hb hr hn (fun t ht hW => ⟨rfl, ht⟩) (fun q h => by cases h) hdg hlk
theorem rq_void (hx : p.tables.exec = Jvm.exec) (hb : c.code = cc) (hlk : meth.locks = false) (hr : meth.sig.returnType = none) (hdg : decode cc pc = .ok (.return_, 1)) : W p l e R s m args below meth c s.heap [] cells slots (MQ below (rQ none) args s cells slots (fun _ => False)) (F0 m pc ls []) :=
  W.vret hx hb hr (fun t ht hW => ⟨rfl, ht⟩) (fun q h => by cases h) hdg hlk
theorem rq_ref (hx : p.tables.exec = Jvm.exec) (hb : c.code = cc) (hlk : meth.locks = false) {rt : FieldType} (hr : meth.sig.returnType = some rt) (hrt : (∃ n, rt = .object n) ∨ ∃ t, rt = .array t) {r : Option Nat} (hdg : decode cc pc = .ok (.areturn, 1)) : W p l e R s m args below meth c s.heap [] cells slots (MQ below (rQ (some (va_rf r))) args s cells slots (fun _ => False)) (F0 m pc ls [va_rf r]) :=
  W.aret hx hb hr hrt (by cases r with | none => exact Or.inl rfl | some a => exact Or.inr ⟨a, rfl⟩) (fun t ht hW => ⟨rfl, ht⟩) (fun q h => by cases h) hdg hlk
end RD
theorem blindK {as : List Value} {f : Heap → Prop} {D : va_G} {cl : List vw_C} {tys : List (ClassId × FieldType)} : FrameBlind (va_Pc as (fun U => f U.heap ∧ va_K D cl tys U)) := fun a U g mk q => ⟨q.1, q.2.1, va_K.moved (u := U) (U := U.calling g mk a) (Vm.Alike.refl U.vm) q.2.2⟩
theorem blindT {as : List Value} : FrameBlind (va_Pc as (fun _ => True)) := fun a U g mk q => ⟨q.1, trivial⟩
/-- Preconditions.checkIndex, Objects.checkIndex: an index within -/
theorem tJ5_checkIndex (l : Launch) (i n : Int32) (h1 : ¬ i < 0) (h2 : i < n) : Met l yJ5_checkIndex (ws_ yJ5_checkIndex cJ5_checkIndex 3 (some .int)) { frames := 0, cells := 0, slots := 0, locals := 0 } (va_Pc [.int i, .int n, .null] (fun _ => True)) (rQ (some (.int i))) 0 0 (fun _ => False) := by
  refine g_entry (by decide) (Nat.le_of_ble_eq_true rfl) ?_
  intro p e s m args below meth c ls hx hb hml hown hts hlk hr _ hl _
  have hl : lv_has ls 3 [(0, .int i), (1, .int n), (2, .null)] := hl
  refine lv_iload_n hx hb dJ5_checkIndex_0 rfl (lv_at hl 0 rfl) ?_
  refine lv_if_lt (tgt := 9) hx hb dJ5_checkIndex_1 (by decide) (fun c_ => absurd c_ h1) (fun _ => ?_)
  refine lv_iload_n hx hb dJ5_checkIndex_4 rfl (lv_at hl 0 rfl) ?_
  refine lv_iload_n hx hb dJ5_checkIndex_5 rfl (lv_at hl 1 rfl) ?_
  refine lv_icmp_lt (tgt := 16) hx hb dJ5_checkIndex_6 (by decide) (fun _ => ?_) (fun c_ => absurd h2 c_)
  refine lv_iload_n hx hb dJ5_checkIndex_16 rfl (lv_at hl 0 rfl) ?_
  exact rq_int hx hb hlk hr dJ5_checkIndex_17
theorem tJ16_checkIndex (l : Launch) (i n : Int32) (h1 : ¬ i < 0) (h2 : i < n) : Met l yJ16_checkIndex (ws_ yJ16_checkIndex cJ16_checkIndex 2 (some .int)) { frames := 1, cells := 0, slots := 0, locals := 22 } (va_Pc [.int i, .int n] (fun _ => True)) (rQ (some (.int i))) 0 0 (fun _ => False) := by
  refine g_entry (by decide) (Nat.le_of_ble_eq_true rfl) ?_
  intro p e s m args below meth c ls hx hb hml hown hts hlk hr _ hl _
  have hl : lv_has ls 2 [(0, .int i), (1, .int n)] := hl
  have hown : s.vm.findClass RJ16 = some m.cls := hown
  refine lv_iload_n hx hb dJ16_checkIndex_0 rfl (lv_at hl 0 rfl) ?_
  refine lv_iload_n hx hb dJ16_checkIndex_1 rfl (lv_at hl 1 rfl) ?_
  refine lv_null hx hb dJ16_checkIndex_2 ?_
  refine r_call (W.runS (As := [.int i, .int n, .null]) (rest := []) ⟨hx, hb, hml, hown, hts⟩ (tJ5_checkIndex l i n h1 h2) (va_cwS 3 hts (lw_S q938 q192 q71 q193) rfl rfl rfl (by decide +kernel) ⟨Nat.le_of_ble_eq_true rfl, Nat.le_of_ble_eq_true rfl⟩) ⟨blindT, fun U hU hW => ⟨rfl, trivial⟩⟩ rfl rfl hl.1 rfl (lv_room (Nat.le_of_ble_eq_true rfl)) dJ16_checkIndex_3 ⟨Nat.zero_le _, Nat.zero_le _⟩) ?_
  exact rq_int hx hb hlk hr dJ16_checkIndex_6
/-- a list: its cell and its array's -/
def alP (D : va_G) (a d : Nat) (mcn n : Int32) (cA : ClassId) (N : Nat) (f : Nat → Option Nat) (H : Heap) : Prop := va_P D vcl [(a, .inr (9, [.int mcn, .ref d, .int n])), (d, .inl (cA, N, .inr (.inr (.inr (.inr f)))))] H
theorem tJ2_size (l : Launch) (D : va_G) (a d : Nat) (mcn n : Int32) : Met l yJ2_size (ws_ yJ2_size cJ2_size 1 (some .int)) { frames := 0, cells := 0, slots := 0, locals := 0 } (va_Pc [.ref a] (fun U => va_P D vcl [(a, .inr (9, [.int mcn, .ref d, .int n]))] U.heap ∧ va_K D vcl [] U)) (rQ (some (.int n))) 0 0 (fun _ => False) := by
  refine g_entry (by decide) (Nat.le_of_ble_eq_true rfl) ?_
  intro p e s m args below meth c ls hx hb hml hown hts hlk hr hB hl _
  obtain ⟨hP, hK⟩ := hB
  have hl : lv_has ls 1 [(0, .ref a)] := hl
  have hown : s.vm.findClass RJ2 = some m.cls := hown
  refine lv_aload_n hx hb dJ2_size_0 rfl (lv_at hl 0 rfl) ?_
  refine va_get (D := D) (ci := 9) (v := .int n) (C := RJ2) (T := TJ2) (N := 3) hx hb hts in_J2 hown hK hP 0 rfl rfl 2 (by decide) (hts _ q124) (fun _ h9 => h9) rfl dJ2_size_1 ?_
  exact rq_int hx hb hlk hr dJ2_size_4
theorem tJ2_elementData (l : Launch) (D : va_G) (a d : Nat) (mcn n : Int32) (cA : ClassId) (N : Nat) (f : Nat → Option Nat) (i : Int32) (hi : vp_in i N) : Met l yJ2_elementData (ws_ yJ2_elementData cJ2_elementData 2 (some (.object "java/lang/Object"))) { frames := 0, cells := 0, slots := 0, locals := 0 } (va_Pc [.ref a, .int i] (fun U => alP D a d mcn n cA N f U.heap ∧ va_K D vcl [(cA, .object "java/lang/Object")] U)) (rQ (some (va_rf (f i.toNatClampNeg)))) 0 0 (fun _ => False) := by
  refine g_entry (by decide) (Nat.le_of_ble_eq_true rfl) ?_
  intro p e s m args below meth c ls hx hb hml hown hts hlk hr hB hl _
  obtain ⟨hP, hK⟩ := hB
  have hl : lv_has ls 2 [(0, .ref a), (1, .int i)] := hl
  have hown : s.vm.findClass RJ2 = some m.cls := hown
  refine lv_aload_n hx hb dJ2_elementData_0 rfl (lv_at hl 0 rfl) ?_
  refine va_get (D := D) (ci := 9) (v := .ref d) (C := RJ2) (T := TJ2) (N := 3) hx hb hts in_J2 hown hK hP 0 rfl rfl 1 (by decide) (hts _ q123) (fun _ h9 => h9) rfl dJ2_elementData_1 ?_
  refine lv_iload_n hx hb dJ2_elementData_4 rfl (lv_at hl 1 rfl) ?_
  refine va_aldq hx hb hK hP 1 0 rfl rfl hi dJ2_elementData_5 ?_
  exact rq_ref hx hb hlk hr (Or.inl ⟨_, rfl⟩) dJ2_elementData_6
theorem tJ2_get (l : Launch) (D : va_G) (a d : Nat) (mcn n : Int32) (cA : ClassId) (N : Nat) (f : Nat → Option Nat) (i : Int32) (hi : vp_in i N) (h2 : i < n) : Met l yJ2_get (ws_ yJ2_get cJ2_get 2 (some (.object "java/lang/Object"))) { frames := 2, cells := 0, slots := 0, locals := 43 } (va_Pc [.ref a, .int i] (fun U => alP D a d mcn n cA N f U.heap ∧ va_K D vcl [(cA, .object "java/lang/Object")] U)) (rQ (some (va_rf (f i.toNatClampNeg)))) 0 0 (fun _ => False) := by
  refine g_entry (by decide) (Nat.le_of_ble_eq_true rfl) ?_
  intro p e s m args below meth c ls hx hb hml hown hts hlk hr hB hl _
  obtain ⟨hP, hK⟩ := hB
  have hl : lv_has ls 2 [(0, .ref a), (1, .int i)] := hl
  have hown : s.vm.findClass RJ2 = some m.cls := hown
  have h1 : ¬ i < 0 := fun z => hi (Or.inl z)
  refine lv_iload_n hx hb dJ2_get_0 rfl (lv_at hl 1 rfl) ?_
  refine lv_aload_n hx hb dJ2_get_1 rfl (lv_at hl 0 rfl) ?_
  refine va_get (D := D) (ci := 9) (v := .int n) (C := RJ2) (T := TJ2) (N := 3) hx hb hts in_J2 hown hK hP 0 rfl rfl 2 (by decide) (hts _ q124) (fun _ h9 => h9) rfl dJ2_get_2 ?_
  refine r_call (W.runS (As := [.int i, .int n]) (rest := []) ⟨hx, hb, hml, hown, hts⟩ (tJ16_checkIndex l i n h1 h2) (va_cwS 2 hts (lw_S q935 q936 q95 q937) rfl rfl rfl (by decide +kernel) ⟨Nat.le_of_ble_eq_true rfl, Nat.le_of_ble_eq_true rfl⟩) ⟨blindT, fun U hU hW => ⟨rfl, trivial⟩⟩ rfl rfl hl.1 rfl (lv_room (Nat.le_of_ble_eq_true rfl)) dJ2_get_5 ⟨Nat.zero_le _, Nat.zero_le _⟩) ?_
  refine lv_pop (va := .int i) hx hb dJ2_get_8 rfl ?_
  refine lv_aload_n hx hb dJ2_get_9 rfl (lv_at hl 0 rfl) ?_
  refine lv_iload_n hx hb dJ2_get_10 rfl (lv_at hl 1 rfl) ?_
  refine r_call (W.runV (As := [.int i]) (rest := []) ⟨hx, hb, hml, hown, hts⟩ (tJ2_elementData l D a d mcn n cA N f i hi) (cwV 1 hts (lw_V q939 q940 q941 q67 q942) rfl rfl rfl (by decide +kernel) ⟨Nat.le_of_ble_eq_true rfl, Nat.le_of_ble_eq_true rfl⟩) ⟨blindK, va_recv hK hP (ci := 9) (q0 := 0) rfl rfl, fun U hU hW => ⟨rfl, by rw [hU]; exact hP, va_K.moved hW.alike hK⟩⟩ rfl rfl hl.1 rfl (lv_room (Nat.le_of_ble_eq_true rfl)) dJ2_get_11 ⟨Nat.zero_le _, Nat.zero_le _⟩) ?_
  exact rq_ref hx hb hlk hr (Or.inl ⟨_, rfl⟩) dJ2_get_14
