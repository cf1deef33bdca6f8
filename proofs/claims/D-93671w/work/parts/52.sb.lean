/-! ===== StringBuilder (Latin-1, at most 15 letters); by gen/sb.py ===== -/
set_option maxRecDepth 100000
/-- a private method's selection, by that of another method of its class -/
theorem selP {args : Array Value} {s : State} {C : String} {y y2 : MethodName} (hsel : (Cond.selects C y2 y2).before args s = true) (hc : y2.cls = y.cls) (hp : (Cond.privateMethod y).before args s = true) (hi : (Cond.instanceMethod y).before args s = true) (hy : y.cls ≠ "java/lang/invoke/MethodHandle" ∧ y.cls ≠ "java/lang/invoke/VarHandle") : (Cond.selects C y y).before args s = true := by
  obtain ⟨c2, r2, m2, q1, q2, q3, q4, kP, hkP, hkPi⟩ := Cond.selects_spec hsel
  obtain ⟨mk, methM, hnamed, hmethM, -, -⟩ := Cond.instanceMethod_spec hi
  have hfound : s.methodFound? y.cls y.name y.desc = some mk := State.methodFound?_of_named hnamed hy
  have hcls : mk.cls = m2.cls := Option.some.inj ((findClass_of_methodNamed hnamed).symm.trans (by rw [← hc]; exact findClass_of_methodNamed q3))
  have hs : selectMethod {} s.vm c2 mk = .method mk := selectMethod_private hmethM (Cond.privateMethod_at hp mk methM hnamed hmethM)
  simp only [Cond.before, Cond.holds, Cond.value, q1, hfound, hnamed, hs, hcls, hkP]
  simp; exact hkPi
theorem cwP {R : Room} {s : State} {args : Array Value} {own C : String} {index : Nat} {y : MethodName} {b : ByteArray} {L : Nat} {r : Option FieldType} {rm : Room} {mc ms : Nat} (n : Nat) (ht : ∀ w ∈ lw_all, w.before args s = true) (h1 : Cond.methodLink own index y ∈ lw_all) (h2 : Cond.instanceMethod y ∈ lw_all) (h3 : (Cond.selects C y y).before args s = true) (h5 : Cond.initialized y.cls ∈ lw_all) (h6 : Cond.code y b L r ∈ lw_all) (hrc : rm.cells = mc) (hrs : rm.slots = ms)
    (hd : y.cls ≠ "java/lang/invoke/MethodHandle" ∧ y.cls ≠ "java/lang/invoke/VarHandle" ∧ (parseMethodDescriptor y.desc).map (fun d => d.parameters.length) = some n) (hR : rm.frames + 1 ≤ R.frames ∧ 8 + (L + 11) + rm.locals ≤ R.locals) : CallW R s args own C index y b L r (ws_ y b L r) rm mc ms n :=
  ⟨callB_of n ht (lw_meth h6) rfl hrc hrs (ht _ h5) (ht _ h1) hd hR, ht _ h2, h3⟩
/-- a private method of the builder's parent, called on the builder -/
def wS (U : State) : Prop := va_Nw (.selects "java/lang/StringBuilder" yJ7_ensureCapacityInternal yJ7_ensureCapacityInternal) U
theorem wS.same {u U : State} (hv : u.vm = U.vm) (h : wS u) : wS U := va_Nw.same rfl hv h
theorem wS.warm {s U : State} (hW : s.WarmedH U.vm) (h : wS s) : wS U := word_at hW (Or.inl rfl) h
def sbC (sb bv cB : Nat) (n : Int32) (f : Nat → Int32) : va_W := [(sb, .inr (18, [.ref bv, .int 0, .int 0, .int n])), (bv, .inl (cB, 16, .inl f))]
def bB (D : va_G) (sb bv cB : Nat) (n : Int32) (f : Nat → Int32) (V : State) : Prop := va_P D vcl (sbC sb bv cB n f) V.heap ∧ va_K D vcl [(cB, .byte)] V ∧ zC nA V V.heap ∧ wS V
theorem bB_blind {as : List Value} {D : va_G} {sb bv cB : Nat} {n : Int32} {f : Nat → Int32} : FrameBlind (va_Pc as (bB D sb bv cB n f)) := fun a V g mk q => ⟨q.1, q.2.1, va_K.moved (u := V) (U := V.calling g mk a) (Vm.Alike.refl V.vm) q.2.2.1, va_Z.moved (Vm.Alike.refl V.vm) q.2.2.2.1, q.2.2.2.2.same rfl⟩
theorem bB.at {D : va_G} {sb bv cB : Nat} {n : Int32} {f : Nat → Int32} {s V : State} (h : bB D sb bv cB n f s) (hV : V.heap = s.heap) (hW : s.WarmedH V.vm) : bB D sb bv cB n f V := by
  unfold bB
  rw [hV]
  exact ⟨h.1, va_K.moved hW.alike h.2.1, va_Z.moved hW.alike h.2.2.1, h.2.2.2.warm hW⟩
theorem bB.recv {D : va_G} {sb bv cB : Nat} {n : Int32} {f : Nat → Int32} {s : State} (h : bB D sb bv cB n f s) : ∃ cell : Cell, s.heap[sb]? = some cell ∧ cell.vm.isStatics = false ∧ s.vm.findClass RJ8 = some cell.cls := va_recv h.2.1 h.1 (ci := 18) (q0 := 0) rfl rfl
set_option maxHeartbeats 1000000 in
theorem tJ7_length (l : Launch) (D : va_G) (sb bv cB : Nat) (n : Int32) (f : Nat → Int32) : Met l yJ7_length (ws_ yJ7_length cJ7_length 1 (some .int)) { frames := 0, cells := 0, slots := 0, locals := 0 } (va_Pc [.ref sb] (bB D sb bv cB n f)) (rQ (some (.int n))) 0 0 (fun _ => False) := by
  refine g_entry (by decide) (Nat.le_of_ble_eq_true rfl) ?_
  intro p e s m args below meth c ls hx hb hml hown hts hlk hr hB hl _
  have hS : va_S nA s.heap s.heap [] := va_S.rf
  have hown : s.vm.findClass RJ7 = some m.cls := hown
  obtain ⟨hP, hK, hZ, -⟩ := id hB
  have hP : va_P D vcl [(sb, .inr (18, [.ref bv, .int 0, .int 0, .int n])), (bv, .inl (cB, 16, .inl f))] s.heap := hP
  have hl : lv_has ls 1 [(0, .ref sb)] := hl
  refine lv_aload_n hx hb dJ7_length_0 rfl (lv_at hl 0 rfl) ?_
  refine va_get hx hb hts in_J8 hown hK hP 0 rfl rfl 3 (by decide) (hts _ q285) (fun _ h9 => h9) rfl dJ7_length_1 ?_
  exact rq_int hx hb hlk hr dJ7_length_4
set_option maxHeartbeats 1000000 in
theorem tJ7_isLatin1 (l : Launch) (D : va_G) (sb bv cB : Nat) (n : Int32) (f : Nat → Int32) : Met l yJ7_isLatin1 (ws_ yJ7_isLatin1 cJ7_isLatin1 1 (some .boolean)) { frames := 0, cells := 0, slots := 0, locals := 0 } (va_Pc [.ref sb] (bB D sb bv cB n f)) (rQ (some (.int 1))) 0 0 (fun _ => False) := by
  refine g_entry (by decide) (Nat.le_of_ble_eq_true rfl) ?_
  intro p e s m args below meth c ls hx hb hml hown hts hlk hr hB hl _
  have hS : va_S nA s.heap s.heap [] := va_S.rf
  have hown : s.vm.findClass RJ7 = some m.cls := hown
  obtain ⟨hP, hK, hZ, -⟩ := id hB
  have hP : va_P D vcl [(sb, .inr (18, [.ref bv, .int 0, .int 0, .int n])), (bv, .inl (cB, 16, .inl f))] s.heap := hP
  have hl : lv_has ls 1 [(0, .ref sb)] := hl
  refine va_gets hx hb hZ hS hown (hts _ q274) (fun _ h9 => h9) dJ7_isLatin1_0 ?_
  refine lv_if_eq (tgt := 17) hx hb dJ7_isLatin1_3 (by decide) (fun h9 => absurd h9 (by decide)) (fun _ => ?_)
  refine lv_aload_n hx hb dJ7_isLatin1_6 rfl (lv_at hl 0 rfl) ?_
  refine va_get hx hb hts in_J8 hown hK hP 0 rfl rfl 1 (by decide) (hts _ q283) (fun _ h9 => h9) rfl dJ7_isLatin1_7 ?_
  refine lv_if_ne (tgt := 17) hx hb dJ7_isLatin1_10 (by decide) (fun h9 => absurd h9 (by decide)) (fun _ => ?_)
  refine lv_iconst (v := 1) hx hb dJ7_isLatin1_13 (by decide) ?_
  refine lv_goto (tgt := 18) hx hb dJ7_isLatin1_14 (by decide) ?_
  exact rq_bool hx hb hlk hr rfl dJ7_isLatin1_18
set_option maxHeartbeats 1000000 in
theorem tJ7_getValue (l : Launch) (D : va_G) (sb bv cB : Nat) (n : Int32) (f : Nat → Int32) : Met l yJ7_getValue (ws_ yJ7_getValue cJ7_getValue 1 (some (.array .byte))) { frames := 0, cells := 0, slots := 0, locals := 0 } (va_Pc [.ref sb] (bB D sb bv cB n f)) (rQ (some (.ref bv))) 0 0 (fun _ => False) := by
  refine g_entry (by decide) (Nat.le_of_ble_eq_true rfl) ?_
  intro p e s m args below meth c ls hx hb hml hown hts hlk hr hB hl _
  have hS : va_S nA s.heap s.heap [] := va_S.rf
  have hown : s.vm.findClass RJ7 = some m.cls := hown
  obtain ⟨hP, hK, hZ, -⟩ := id hB
  have hP : va_P D vcl [(sb, .inr (18, [.ref bv, .int 0, .int 0, .int n])), (bv, .inl (cB, 16, .inl f))] s.heap := hP
  have hl : lv_has ls 1 [(0, .ref sb)] := hl
  refine lv_aload_n hx hb dJ7_getValue_0 rfl (lv_at hl 0 rfl) ?_
  refine va_get hx hb hts in_J8 hown hK hP 0 rfl rfl 0 (by decide) (hts _ q282) (fun _ h9 => h9) rfl dJ7_getValue_1 ?_
  exact rq_ref (r := some bv) hx hb hlk hr (Or.inr ⟨_, rfl⟩) dJ7_getValue_4
set_option maxHeartbeats 1000000 in
theorem tJ7_ensureCapacityInternal (l : Launch) (D : va_G) (sb bv cB : Nat) (n : Int32) (f : Nat → Int32) (q : Int32) (hq : q - 16 ≤ 0) : Met l yJ7_ensureCapacityInternal (ws_ yJ7_ensureCapacityInternal cJ7_ensureCapacityInternal 3 none) { frames := 0, cells := 0, slots := 0, locals := 0 } (va_Pc [.ref sb, .int q] (bB D sb bv cB n f)) (rQ none) 0 0 (fun _ => False) := by
  refine g_entry (by decide) (Nat.le_of_ble_eq_true rfl) ?_
  intro p e s m args below meth c ls hx hb hml hown hts hlk hr hB hl _
  have hS : va_S nA s.heap s.heap [] := va_S.rf
  have hown : s.vm.findClass RJ7 = some m.cls := hown
  obtain ⟨hP, hK, hZ, -⟩ := id hB
  have hP : va_P D vcl [(sb, .inr (18, [.ref bv, .int 0, .int 0, .int n])), (bv, .inl (cB, 16, .inl f))] s.heap := hP
  have hl : lv_has ls 3 [(0, .ref sb), (1, .int q)] := hl
  refine lv_aload_n hx hb dJ7_ensureCapacityInternal_0 rfl (lv_at hl 0 rfl) ?_
  refine va_get hx hb hts in_J8 hown hK hP 0 rfl rfl 0 (by decide) (hts _ q282) (fun _ h9 => h9) rfl dJ7_ensureCapacityInternal_1 ?_
  refine va_alen hx hb hK hP 1 0 rfl rfl (v := 16) (show Int32.ofNat 16 = 16 from by decide) dJ7_ensureCapacityInternal_4 ?_
  refine lv_aload_n hx hb dJ7_ensureCapacityInternal_5 rfl (lv_at hl 0 rfl) ?_
  refine va_get hx hb hts in_J8 hown hK hP 0 rfl rfl 1 (by decide) (hts _ q283) (fun _ h9 => h9) rfl dJ7_ensureCapacityInternal_6 ?_
  refine lv_ishr hx hb dJ7_ensureCapacityInternal_9 ?_
  rw [i_shr0]
  refine lv_istore_n (lv' := [(2, .int 16), (0, .ref sb), (1, .int q)]) hx hb dJ7_ensureCapacityInternal_10 rfl hl (by decide) rfl (fun ls hl => ?_)
  refine lv_iload_n hx hb dJ7_ensureCapacityInternal_11 rfl (lv_at hl 2 rfl) ?_
  refine lv_iload_n hx hb dJ7_ensureCapacityInternal_12 rfl (lv_at hl 0 rfl) ?_
  refine lv_isub hx hb dJ7_ensureCapacityInternal_13 ?_
  refine lv_if_le (tgt := 38) hx hb dJ7_ensureCapacityInternal_14 (by decide) (fun _ => ?_) (fun h9 => absurd hq h9)
  exact rq_void hx hb hlk hr dJ7_ensureCapacityInternal_38
set_option maxHeartbeats 1000000 in
theorem tJ8_length (l : Launch) (D : va_G) (sb bv cB : Nat) (n : Int32) (f : Nat → Int32) : Met l yJ8_length (ws_ yJ8_length cJ8_length 1 (some .int)) { frames := 1, cells := 0, slots := 0, locals := 20 } (va_Pc [.ref sb] (bB D sb bv cB n f)) (rQ (some (.int n))) 0 0 (fun _ => False) := by
  refine g_entry (by decide) (Nat.le_of_ble_eq_true rfl) ?_
  intro p e s m args below meth c ls hx hb hml hown hts hlk hr hB hl _
  have hS : va_S nA s.heap s.heap [] := va_S.rf
  have hown : s.vm.findClass RJ8 = some m.cls := hown
  obtain ⟨hP, hK, hZ, -⟩ := id hB
  have hl : lv_has ls 1 [(0, .ref sb)] := hl
  refine lv_aload_n hx hb dJ8_length_0 rfl (lv_at hl 0 rfl) ?_
  refine r_call (vrun_call (va_runSU (As := []) (rest := []) (hat := (hK.1 18 _ rfl).2) ⟨hx, hb, hml, hown, hts⟩ (tJ7_length l D sb bv cB n f) (va_cwSU 0 hts (lw_SU q299 q1762 q294 q300 q74 q301) rfl rfl rfl (by decide +kernel) ⟨Nat.le_of_ble_eq_true rfl, Nat.le_of_ble_eq_true rfl⟩) ⟨bB_blind, hB.recv, fun U hU hW => ⟨rfl, hB.at hU hW⟩⟩ rfl rfl hl.1 rfl (lv_room (Nat.le_of_ble_eq_true rfl)) dJ8_length_1 ⟨Nat.zero_le _, Nat.zero_le _⟩)) ?_
  exact rq_int hx hb hlk hr dJ8_length_4
theorem vd_2 {A : Nat → Prop} {a b : Nat} {x y : va_E} (hab : a ≠ b) (h1 : A a) (h2 : A b) : va_D A [(a, x), (b, y)] := by
  refine ⟨fun i j p q hi hj he => ?_, fun k q hk => ?_⟩
  · match i, j, hi, hj with
    | 0, 0, _, _ => rfl
    | 1, 1, _, _ => rfl
    | 0, 1, hi, hj => cases hi; cases hj; exact absurd he hab
    | 1, 0, hi, hj => cases hi; cases hj; exact absurd he.symm hab
  · match k, hk with
    | 0, hk => cases hk; exact h1
    | 1, hk => cases hk; exact h2
def sbA (f : Nat → Int32) (n : Nat) (c : Int32) : Nat → Int32 := fun j => if j = n then c.toInt8.toInt32 else f j
def apQ (D : va_G) (sb bv cB : Nat) (n : Nat) (f : Nat → Int32) (c : Int32) : Array Value → State → Outcome → State → Prop := va_Qr (fun _ : Unit => True) (fun _ a t => a = sb ∧ va_P D vcl (sbC sb bv cB (nI (n + 1)) (sbA f n c)) t.heap) (fun q => q = sb ∨ q = bv)
set_option maxHeartbeats 1000000 in
theorem tJ7_append (l : Launch) (D : va_G) (sb bv cB : Nat) (n : Nat) (f : Nat → Int32) (c0 : Int32) (hn : n < 16) (hne : sb ≠ bv) (hc : ¬ 255 < c0) : Met l yJ7_append (ws_ yJ7_append cJ7_append 2 (some (.object "java/lang/AbstractStringBuilder"))) { frames := 1, cells := 0, slots := 0, locals := 22 } (va_Pc [.ref sb, .int c0] (bB D sb bv cB (nI n) f)) (apQ D sb bv cB n f c0) 0 0 (fun q => q = sb ∨ q = bv) := by
  refine g_entry (by decide) (Nat.le_of_ble_eq_true rfl) ?_
  intro p e s m args below meth c ls hx hb hml hown hts hlk hr hB hl _
  obtain ⟨hP, hK, hZ, -⟩ := id hB
  have hP : va_P D vcl [(sb, .inr (18, [.ref bv, .int 0, .int 0, .int (nI n)])), (bv, .inl (cB, 16, .inl f))] s.heap := hP
  have hD : va_D (fun q => q = sb ∨ q = bv) [(sb, .inr (18, [.ref bv, .int 0, .int 0, .int (nI n)])), (bv, .inl (cB, 16, .inl f))] := vd_2 hne (Or.inl rfl) (Or.inr rfl)
  have hS : va_S (fun q => q = sb ∨ q = bv) s.heap s.heap [] := va_S.rf
  have hq : nI n + 1 - 16 ≤ 0 := by
    rw [nI_1]
    rcases (show n = 0 ∨ n = 1 ∨ n = 2 ∨ n = 3 ∨ n = 4 ∨ n = 5 ∨ n = 6 ∨ n = 7 ∨ n = 8 ∨ n = 9 ∨ n = 10 ∨ n = 11 ∨ n = 12 ∨ n = 13 ∨ n = 14 ∨ n = 15 by omega) with h | h | h | h | h | h | h | h | h | h | h | h | h | h | h | h <;> subst h <;> decide
  have hown : s.vm.findClass RJ7 = some m.cls := hown
  have hl : lv_has ls 2 [(0, .ref sb), (1, .int c0)] := hl
  refine lv_aload_n hx hb dJ7_append_0 rfl (lv_at hl 0 rfl) ?_
  refine lv_aload_n hx hb dJ7_append_1 rfl (lv_at hl 0 rfl) ?_
  refine va_get hx hb hts in_J8 hown hK hP 0 rfl rfl 3 (by decide) (hts _ q285) (fun _ h9 => h9) rfl dJ7_append_2 ?_
  refine lv_iconst (v := 1) hx hb dJ7_append_5 (by decide) ?_
  refine lv_iadd hx hb dJ7_append_6 ?_
  refine r_call (W.runV (C := RJ8) (As := [.int (nI n + 1)]) (rest := []) ⟨hx, hb, hml, hown, hts⟩ (tJ7_ensureCapacityInternal l D sb bv cB (nI n) f (nI n + 1) hq) (cwP 1 hts q309 q311 (va_Nw.use (A := args) rfl hB.2.2.2) q74 q312 rfl rfl (by decide +kernel) ⟨Nat.le_of_ble_eq_true rfl, Nat.le_of_ble_eq_true rfl⟩) ⟨bB_blind, hB.recv, fun U hU hW => ⟨rfl, hB.at hU hW⟩⟩ rfl rfl hl.1 rfl (lv_room (Nat.le_of_ble_eq_true rfl)) dJ7_append_7 ⟨Nat.zero_le _, Nat.zero_le _⟩) ?_
  refine lv_aload_n hx hb dJ7_append_10 rfl (lv_at hl 0 rfl) ?_
  refine r_call (vrun_call (va_runU (C := RJ8) (As := []) (rest := []) ⟨hx, hb, hml, hown, hts⟩ (tJ7_isLatin1 l D sb bv cB (nI n) f) (va_cwU (owner := "java/lang/AbstractStringBuilder") 0 hts (lw_Up (x := yJ7_isLatin1) q344 q346 q347 q345 q74 q348) rfl rfl rfl rfl (by decide +kernel) ⟨Nat.le_of_ble_eq_true rfl, Nat.le_of_ble_eq_true rfl⟩) ⟨bB_blind, hB.recv, fun U hU hW => ⟨rfl, hB.at hU hW⟩⟩ rfl rfl hl.1 rfl (lv_room (Nat.le_of_ble_eq_true rfl)) dJ7_append_11 ⟨Nat.zero_le _, Nat.zero_le _⟩)) ?_
  refine lv_if_eq (tgt := 45) hx hb dJ7_append_14 (by decide) (fun h9 => absurd h9 (by decide)) (fun _ => ?_)
  refine lv_iload_n hx hb dJ7_append_17 rfl (lv_at hl 1 rfl) ?_
  refine r_call (W.runS (As := [.int c0]) (rest := []) ⟨hx, hb, hml, hown, hts⟩ (tJ4_canEncode l c0 hc) (va_cwS 1 hts (lw_S q349 q350 q70 q351) rfl rfl rfl (by decide +kernel) ⟨Nat.le_of_ble_eq_true rfl, Nat.le_of_ble_eq_true rfl⟩) ⟨blindT, fun U hU hW => ⟨rfl, trivial⟩⟩ rfl rfl hl.1 rfl (lv_room (Nat.le_of_ble_eq_true rfl)) dJ7_append_18 ⟨Nat.zero_le _, Nat.zero_le _⟩) ?_
  refine lv_if_eq (tgt := 45) hx hb dJ7_append_21 (by decide) (fun h9 => absurd h9 (by decide)) (fun _ => ?_)
  refine lv_aload_n hx hb dJ7_append_24 rfl (lv_at hl 0 rfl) ?_
  refine va_get hx hb hts in_J8 hown hK hP 0 rfl rfl 0 (by decide) (hts _ q282) (fun _ h9 => h9) rfl dJ7_append_25 ?_
  refine lv_aload_n hx hb dJ7_append_28 rfl (lv_at hl 0 rfl) ?_
  refine lv_dup hx hb dJ7_append_29 rfl ?_
  refine va_get hx hb hts in_J8 hown hK hP 0 rfl rfl 3 (by decide) (hts _ q285) (fun _ h9 => h9) rfl dJ7_append_30 ?_
  refine lv_dup_x1 hx hb dJ7_append_33 rfl rfl ?_
  refine lv_iconst (v := 1) hx hb dJ7_append_34 (by decide) ?_
  refine lv_iadd hx hb dJ7_append_35 ?_
  refine va_put (D := D) (ci := 18) (v := .int ((nI n) + 1)) (ty := tyJ8 3) (C := RJ8) (T := TJ8) (N := 4) hx hb hts in_J8 tyJ8 tyJ8_ok nmJ8 hown hK hP hD hS 0 rfl rfl 3 (by decide) (hts _ q285) (fun _ h9 => h9) rfl (by decide +kernel) (rfl) (rfl) (Nat.le_of_ble_eq_true rfl) dJ7_append_36 (fun H locs hP hD hS => ?_)
  have hP : va_P D vcl [(sb, .inr (18, [.ref bv, .int 0, .int 0, .int ((nI n) + 1)])), (bv, .inl (cB, 16, .inl f))] H := hP
  have hD : va_D (fun q => q = sb ∨ q = bv) [(sb, .inr (18, [.ref bv, .int 0, .int 0, .int ((nI n) + 1)])), (bv, .inl (cB, 16, .inl f))] := hD
  refine lv_iload_n hx hb dJ7_append_39 rfl (lv_at hl 1 rfl) ?_
  refine lv_i2b hx hb dJ7_append_40 rfl ?_
  refine va_bast hx hb hK hP hD hS 1 0 rfl rfl (nI_in hn (by decide)) dJ7_append_41 (fun H locs hP hD hS => ?_)
  have hP : va_P D vcl (sbC sb bv cB (nI (n + 1)) (sbA f n c0)) H := by
    have e1 : vp_nar .byte (c0.toInt8.toInt32) = c0.toInt8.toInt32 := by simp [vp_nar, narrow]
    rw [nI_clamp (by omega), e1, nI_1] at hP
    exact hP
  refine lv_goto (tgt := 75) hx hb dJ7_append_42 (by decide) ?_
  refine lv_aload_n hx hb dJ7_append_75 rfl (lv_at hl 0 rfl) ?_
  exact W.aret hx hb hr (Or.inl ⟨_, rfl⟩) (Or.inr ⟨_, rfl⟩) (fun t ht hW => ⟨⟨(), sb, rfl, trivial, rfl, by rw [ht]; exact hP⟩, hS.F ht⟩) hS.2.2 dJ7_append_76 hlk
set_option maxHeartbeats 1000000 in
theorem tJ8_append (l : Launch) (D : va_G) (sb bv cB : Nat) (n : Nat) (f : Nat → Int32) (c0 : Int32) (hn : n < 16) (hne : sb ≠ bv) (hc : ¬ 255 < c0) : Met l yJ8_append (ws_ yJ8_append cJ8_append 2 (some (.object "java/lang/StringBuilder"))) { frames := 2, cells := 0, slots := 0, locals := 43 } (va_Pc [.ref sb, .int c0] (bB D sb bv cB (nI n) f)) (apQ D sb bv cB n f c0) 0 0 (fun q => q = sb ∨ q = bv) := by
  refine g_entry (by decide) (Nat.le_of_ble_eq_true rfl) ?_
  intro p e s m args below meth c ls hx hb hml hown hts hlk hr hB hl _
  obtain ⟨hP, hK, hZ, -⟩ := id hB
  have hown : s.vm.findClass RJ8 = some m.cls := hown
  have hl : lv_has ls 2 [(0, .ref sb), (1, .int c0)] := hl
  refine lv_aload_n hx hb dJ8_append_0 rfl (lv_at hl 0 rfl) ?_
  refine lv_iload_n hx hb dJ8_append_1 rfl (lv_at hl 1 rfl) ?_
  refine va_callr (A0 := (fun q => q = sb ∨ q = bv)) (va_runSU (As := [.int c0]) (rest := []) (hat := (hK.1 18 _ rfl).2) ⟨hx, hb, hml, hown, hts⟩ (tJ7_append l D sb bv cB n f c0 hn hne hc) (va_cwSU 1 hts (lw_SU q306 q1763 q294 q307 q74 q308) rfl rfl rfl (by decide +kernel) ⟨Nat.le_of_ble_eq_true rfl, Nat.le_of_ble_eq_true rfl⟩) ⟨bB_blind, hB.recv, fun U hU hW => ⟨rfl, hB.at hU hW⟩⟩ rfl rfl hl.1 rfl (lv_room (Nat.le_of_ble_eq_true rfl)) dJ8_append_2 ⟨Nat.zero_le _, Nat.zero_le _⟩) va_S.rf (fun q _ h => h) (fun q h => h) (fun b a t H1 locs1 ht hvm hp hB2 hz hkp hS => ?_)
  obtain ⟨rfl, hP2⟩ := hB2
  refine lv_pop hx hb dJ8_append_5 rfl ?_
  refine lv_aload_n hx hb dJ8_append_6 rfl (lv_at hl 0 rfl) ?_
  exact W.aret hx hb hr (Or.inl ⟨_, rfl⟩) (Or.inr ⟨_, rfl⟩) (fun t2 ht2 hW => ⟨⟨(), _, rfl, trivial, rfl, by rw [ht2, ← ht]; exact hP2⟩, hS.F ht2⟩) hS.2.2 dJ8_append_7 hlk
def biP (D : va_G) (sb cB sz : Nat) (V : State) : Prop := (V.heap.size = sz ∧ va_P D vcl [(sb, .inr (18, [.null, .int 0, .int 0, .int 0]))] V.heap) ∧ va_K D vcl [(cB, .byte)] V ∧ zC (fun q => q = sb ∨ sz ≤ q) V V.heap
theorem bi_blind {as : List Value} {D : va_G} {sb cB sz : Nat} : FrameBlind (va_Pc as (biP D sb cB sz)) := fun a V g mk q => ⟨q.1, q.2.1, va_K.moved (u := V) (U := V.calling g mk a) (Vm.Alike.refl V.vm) q.2.2.1, va_Z.moved (Vm.Alike.refl V.vm) q.2.2.2⟩
def biQ (D : va_G) (sb cB sz : Nat) : Array Value → State → Outcome → State → Prop := va_Qv (fun _ : Nat => True) (fun bv t => va_P D vcl (sbC sb bv cB 0 (fun _ => 0)) t.heap ∧ sz ≤ bv) (fun q => q = sb ∨ sz ≤ q)
set_option maxHeartbeats 1000000 in
theorem tJ7_init (l : Launch) (D : va_G) (sb cB sz : Nat) (hsb : sb < sz) : Met l yJ7_init (ws_ yJ7_init cJ7_init 2 none) { frames := 1, cells := 1, slots := 16, locals := 12 } (va_Pc [.ref sb, .int 16] (biP D sb cB sz)) (biQ D sb cB sz) 1 16 (fun q => q = sb ∨ sz ≤ q) := by
  refine g_entry (by decide) (Nat.le_of_ble_eq_true rfl) ?_
  intro p e s m args below meth c ls hx hb hml hown hts hlk hr hB hl hnm
  obtain ⟨⟨hsz, hP⟩, hK, hZ⟩ := hB
  subst hsz
  have hl : lv_has ls 2 [(0, .ref sb), (1, .int 16)] := hl
  have hown : s.vm.findClass RJ7 = some m.cls := hown
  have hD : va_D (fun q => q = sb ∨ s.heap.size ≤ q) [(sb, .inr (18, [.null, .int 0, .int 0, .int 0]))] := vd_1 (Or.inl rfl)
  have hA : ∀ q, s.heap.size ≤ q → (q = sb ∨ s.heap.size ≤ q) := fun q h => Or.inr h
  have hS : va_S (fun q => q = sb ∨ s.heap.size ≤ q) s.heap s.heap [] := va_S.rf
  refine lv_aload_n hx hb dJ7_init_0 rfl (lv_at hl 0 rfl) ?_
  refine W.objInit hx hb hown (hts _ q273) (hts _ q107) (hts _ q108) rfl (by rw [hml]; exact hl.1) rfl dJ7_init_1 (Nat.le_of_ble_eq_true rfl) (Nat.le_of_ble_eq_true rfl) ?_
  refine W.eq (g2 := F0 m 4 ls []) rfl ?_
  refine va_gets hx hb hZ hS hown (hts _ q274) (fun _ h9 => h9) dJ7_init_4 ?_
  refine lv_if_eq (tgt := 25) hx hb dJ7_init_7 (by decide) (fun h9 => absurd h9 (by decide)) (fun _ => ?_)
  refine lv_aload_n hx hb dJ7_init_10 rfl (lv_at hl 0 rfl) ?_
  refine lv_iload_n hx hb dJ7_init_11 rfl (lv_at hl 1 rfl) ?_
  refine va_newa (atype := .byte) hx hb (hts _ q160) (ty := .byte) rfl hK hP hD hS hA (n := 16) (N' := 16) (a0 := (16, .inl (fun _ => 0))) (fun _ => rfl) (by decide) rfl (by decide) (Nat.le_of_ble_eq_true rfl) (Nat.le_of_ble_eq_true rfl) dJ7_init_12 (fun bv cA H hK hP hD hS => ?_)
  have ec : cB = cA := cls_byte hK (i := 0) (j := 1) rfl rfl
  subst ec
  have hP : va_P D vcl [(sb, .inr (18, [.null, .int 0, .int 0, .int 0])), (bv, .inl (cB, 16, .inl (fun _ => 0)))] H := hP
  have hD : va_D (fun q => q = sb ∨ s.heap.size ≤ q) [(sb, .inr (18, [.null, .int 0, .int 0, .int 0])), (bv, .inl (cB, 16, .inl (fun _ => 0)))] := hD
  refine va_put (D := D) (ci := 18) (v := .ref bv) (ty := tyJ8 0) (C := RJ8) (T := TJ8) (N := 4) hx hb hts in_J8 tyJ8 tyJ8_ok nmJ8 hown hK hP hD hS 0 rfl rfl 0 (by decide) (hts _ q282) (fun _ h9 => h9) rfl (by decide +kernel) (rfl) (rfl) (Nat.le_of_ble_eq_true rfl) dJ7_init_14 (fun H locs hP hD hS => ?_)
  have hP : va_P D vcl [(sb, .inr (18, [.ref bv, .int 0, .int 0, .int 0])), (bv, .inl (cB, 16, .inl (fun _ => 0)))] H := hP
  have hD : va_D (fun q => q = sb ∨ s.heap.size ≤ q) [(sb, .inr (18, [.ref bv, .int 0, .int 0, .int 0])), (bv, .inl (cB, 16, .inl (fun _ => 0)))] := hD
  refine lv_aload_n hx hb dJ7_init_17 rfl (lv_at hl 0 rfl) ?_
  refine lv_iconst (v := 0) hx hb dJ7_init_18 (by decide) ?_
  refine va_put (D := D) (ci := 18) (v := .int 0) (ty := tyJ8 1) (C := RJ8) (T := TJ8) (N := 4) hx hb hts in_J8 tyJ8 tyJ8_ok nmJ8 hown hK hP hD hS 0 rfl rfl 1 (by decide) (hts _ q283) (fun _ h9 => h9) rfl (by decide +kernel) (rfl) (rfl) (Nat.le_of_ble_eq_true rfl) dJ7_init_19 (fun H locs hP hD hS => ?_)
  have hP : va_P D vcl [(sb, .inr (18, [.ref bv, .int 0, .int 0, .int 0])), (bv, .inl (cB, 16, .inl (fun _ => 0)))] H := hP
  have hD : va_D (fun q => q = sb ∨ s.heap.size ≤ q) [(sb, .inr (18, [.ref bv, .int 0, .int 0, .int 0])), (bv, .inl (cB, 16, .inl (fun _ => 0)))] := hD
  refine lv_goto (tgt := 38) hx hb dJ7_init_22 (by decide) ?_
  have hb2 : s.heap.size ≤ bv := by
    rcases hD.2 1 _ rfl with h | h
    · have h : bv = sb := h
      exact absurd (hD.1 1 0 _ _ rfl rfl h) (by decide)
    · exact h
  exact W.vret hx hb hr (fun t ht hW => ⟨⟨bv, rfl, trivial, by show va_P _ _ _ t.heap; rw [ht]; exact hP, hb2⟩, hS.F ht⟩) hS.2.2 dJ7_init_38 hlk
set_option maxHeartbeats 1000000 in
theorem tJ8_init (l : Launch) (D : va_G) (sb cB sz : Nat) (hsb : sb < sz) : Met l yJ8_init (ws_ yJ8_init cJ8_init 1 none) { frames := 2, cells := 1, slots := 16, locals := 33 } (va_Pc [.ref sb] (biP D sb cB sz)) (biQ D sb cB sz) 1 16 (fun q => q = sb ∨ sz ≤ q) := by
  refine g_entry (by decide) (Nat.le_of_ble_eq_true rfl) ?_
  intro p e s m args below meth c ls hx hb hml hown hts hlk hr hB hl hnm
  obtain ⟨⟨hsz, hP⟩, hK, hZ⟩ := id hB
  subst hsz
  have hl : lv_has ls 1 [(0, .ref sb)] := hl
  have hown : s.vm.findClass RJ8 = some m.cls := hown
  refine lv_aload_n hx hb dJ8_init_0 rfl (lv_at hl 0 rfl) ?_
  refine lv_bipush (v := 16) hx hb dJ8_init_1 (by decide) ?_
  refine va_callv (A0 := fun q => q = sb ∨ s.heap.size ≤ q) (va_runI (As := [.int 16]) (rest := []) ⟨hx, hb, hml, hown, hts⟩ (tJ7_init l D sb cB s.heap.size hsb) (cwI 1 hts (lw_meth q272) rfl rfl rfl (hts _ q74) (hts _ q270) (hts _ q271) rfl (by decide +kernel) ⟨Nat.le_of_ble_eq_true rfl, Nat.le_of_ble_eq_true rfl⟩) ⟨bi_blind, fun U hU hW => ⟨rfl, ⟨by rw [hU], by rw [hU]; exact hP⟩, va_K.moved hW.alike hK, by rw [hU]; exact va_Z.moved hW.alike hZ⟩⟩ rfl rfl hl.1 rfl (lv_room (Nat.le_of_ble_eq_true rfl)) dJ8_init_3 ⟨Nat.le_of_ble_eq_true rfl, Nat.le_of_ble_eq_true rfl⟩) va_S.rf (fun q _ h => h) (fun q h => h) (fun b t H1 locs1 ht hvm hp hB2 hz hkp hS => ?_)
  exact W.vret hx hb hr (fun t2 ht2 hW => ⟨⟨b, rfl, trivial, by show va_P _ _ _ t2.heap; rw [ht2, ← ht]; exact hB2.1, hB2.2⟩, hS.F ht2⟩) hS.2.2 dJ8_init_6 hlk
