/-! ===== Slot, Short.valueOf of the cache, isUnder; by gen/slot.py ===== -/
set_option maxRecDepth 100000
def ncL : List (String × String) := [("java/lang/Short", "GateRoad$Way"), ("GateRoad$Way", "java/lang/Short"), ("GateRoad$Tolled", "java/lang/Short"), ("GateRoad$Numbered", "java/lang/Short"), ("GateRoad$Drawn", "java/lang/Short"), ("GateRoad$Last", "java/lang/Short"), ("GateRoad$Sorted", "java/lang/Short"), ("GateRoad$Way", "GateRoad$Tolled"), ("GateRoad$Numbered", "GateRoad$Tolled"), ("GateRoad$Drawn", "GateRoad$Tolled"), ("GateRoad$Last", "GateRoad$Tolled"), ("GateRoad$Way", "GateRoad$Numbered"), ("GateRoad$Tolled", "GateRoad$Numbered"), ("GateRoad$Last", "GateRoad$Numbered"), ("GateRoad$Sorted", "GateRoad$Numbered"), ("GateRoad$Way", "GateRoad$Drawn"), ("GateRoad$Tolled", "GateRoad$Drawn"), ("GateRoad$Numbered", "GateRoad$Drawn"), ("GateRoad$Last", "GateRoad$Drawn"), ("GateRoad$Sorted", "GateRoad$Drawn"), ("GateRoad$Way", "GateRoad$Last"), ("GateRoad$Tolled", "GateRoad$Last"), ("GateRoad$Numbered", "GateRoad$Last"), ("GateRoad$Drawn", "GateRoad$Last"), ("GateRoad$Sorted", "GateRoad$Last"), ("GateRoad$Way", "GateRoad$Sorted"), ("GateRoad$Tolled", "GateRoad$Sorted"), ("GateRoad$Numbered", "GateRoad$Sorted"), ("GateRoad$Drawn", "GateRoad$Sorted"), ("GateRoad$Last", "GateRoad$Sorted")]
def cNc (V : State) : Prop := ∀ q ∈ ncL, va_Nc q.1 q.2 V
theorem cNc.moved {u U : State} (hvm : u.vm.Alike U.vm) (h : cNc u) : cNc U := fun q hq => va_Nc.moved hvm (h q hq)
def cnm : Nat → String
  | 0 => "GateRoad$Way"
  | 1 => "GateRoad$Tolled"
  | 2 => "GateRoad$Numbered"
  | 3 => "GateRoad$Drawn"
  | 4 => "GateRoad$Last"
  | _ => "GateRoad$Sorted"
/-- is a way of the kind kd under the kind k -/
def undV (kd k : Nat) : Int32 := if k = 0 then 1 else if k = 1 then (if kd = 1 ∨ kd = 5 then 1 else 0) else if k = 2 then (if kd = 2 ∨ kd = 3 then 1 else 0) else if k = 3 then (if kd = 3 then 1 else 0) else if k = 4 then (if kd = 4 then 1 else 0) else (if kd = 5 then 1 else 0)
/-- the cache of small Shorts -/
def zSh (A : Nat → Prop) (V : State) (H : Heap) : Prop := ∃ (t : Nat) (b : Nat → Nat), va_Z "java/lang/Short$ShortCache" "cache" "[Ljava/lang/Short;" (.ref t) A V H ∧ va_T (.object "java/lang/Short") t 256 (fun j => .ref (b j)) A V H ∧ ∀ k, k < 256 → va_O "java/lang/Short" (b k) A V H ∧ va_OF "java/lang/Short" "value" "S" (.int (vb_c k)) (b k) A V H
theorem zSh.moved {A : Nat → Prop} {u U : State} {H : Heap} (hvm : u.vm.Alike U.vm) (h : zSh A u H) : zSh A U H := by
  obtain ⟨t, b, h1, h2, h3⟩ := h
  exact ⟨t, b, h1.moved hvm, h2.moved hvm, fun k hk => ⟨(h3 k hk).1.moved hvm, (h3 k hk).2.moved hvm⟩⟩
theorem zSh.kept {A : Nat → Prop} {U : State} {H H1 : Heap} (h : zSh A U H) (hq : ∀ a : Nat, a < H.size → ¬ A a → H1[a]? = H[a]?) : zSh A U H1 := by
  obtain ⟨t, b, h1, h2, h3⟩ := h
  exact ⟨t, b, h1.kept hq, h2.kept hq, fun k hk => ⟨(h3 k hk).1.kept hq, (h3 k hk).2.kept hq⟩⟩
theorem zSh.narrow {A B : Nat → Prop} {U : State} {H : Heap} (h : zSh A U H) (hAB : ∀ q, B q → A q) : zSh B U H := by
  obtain ⟨t, b, h1, h2, h3⟩ := h
  exact ⟨t, b, h1.narrow hAB, h2.narrow hAB, fun k hk => ⟨(h3 k hk).1.narrow hAB, (h3 k hk).2.narrow hAB⟩⟩
theorem va_O.recv {C : String} {t : Nat} {A : Nat → Prop} {U : State} {H : Heap} (h : va_O C t A U H) : ∃ cell : Cell, H[t]? = some cell ∧ cell.vm.isStatics = false ∧ U.vm.findClass C = some cell.cls := by
  obtain ⟨cell, h1, h2, h3, -⟩ := h
  exact ⟨cell, h1, h2, h3⟩
set_option maxHeartbeats 1000000 in
theorem tX15_init (l : Launch) (D : va_G) (a : Nat) (th : Nat) : Met l yX15_init (ws_ yX15_init cX15_init 2 none) { frames := 1, cells := 0, slots := 0, locals := 12 } (va_Pc [.ref a, .ref th] (niP D a 14 [.null])) (niQ D a 14 [.ref th]) 0 0 (fun q => q = a) := by
  refine g_entry (by decide) (Nat.le_of_ble_eq_true rfl) ?_
  intro p e s m args below meth c ls hx hb hml hown hts hlk hr hB hl hnm
  obtain ⟨hP, hK⟩ := hB
  have hl : lv_has ls 2 [(0, .ref a), (1, .ref th)] := hl
  have hown : s.vm.findClass RX15 = some m.cls := hown
  have hin2 : meth.name = "<init>" := hnm
  have hD : va_D (fun q => q = a) [(a, .inr (14, [.null]))] := vd_1 rfl
  have hS : va_S (fun q => q = a) s.heap s.heap [] := va_S.rf
  refine lv_aload_n hx hb dX15_init_0 rfl (lv_at hl 0 rfl) ?_
  refine W.objInit hx hb hown (hts _ q1288) (hts _ q107) (hts _ q108) rfl (by rw [hml]; exact hl.1) rfl dX15_init_1 (Nat.le_of_ble_eq_true rfl) (Nat.le_of_ble_eq_true rfl) ?_
  refine W.eq (g2 := F0 m 4 ls []) rfl ?_
  refine lv_aload_n hx hb dX15_init_4 rfl (lv_at hl 0 rfl) ?_
  refine lv_aload_n hx hb dX15_init_5 rfl (lv_at hl 1 rfl) ?_
  refine va_putF (D := D) (ci := 14) (v := .ref th) (ty := tyX15 0) (C := RX15) (T := TX15) (N := 1) hx hb hts in_X15 tyX15 tyX15_ok nmX15 hown hK hP hD hS 0 rfl rfl 0 (by decide) (hts _ q1289) (fun _ h9 => h9) rfl hin2 rfl (by decide +kernel) (rfl) (rfl) (Nat.le_of_ble_eq_true rfl) dX15_init_6 (fun H locs hP hD hS => ?_)
  have hP : va_P D vcl [(a, .inr (14, [.ref th]))] H := hP
  have hD : va_D (fun q => q = a) [(a, .inr (14, [.ref th]))] := hD
  exact W.vret hx hb hr (fun t ht hW => ⟨⟨(), rfl, trivial, by show va_P _ _ _ t.heap; rw [ht]; exact hP⟩, hS.F ht⟩) hS.2.2 dX15_init_9 hlk
def shB (t : Nat) (b : Nat → Nat) (V : State) : Prop := va_Z "java/lang/Short$ShortCache" "cache" "[Ljava/lang/Short;" (.ref t) nA V V.heap ∧ va_T (.object "java/lang/Short") t 256 (fun j => .ref (b j)) nA V V.heap
theorem shB_blind {as : List Value} {t : Nat} {b : Nat → Nat} : FrameBlind (va_Pc as (shB t b)) := fun a V g mk q => ⟨q.1, q.2.1.moved (Vm.Alike.refl V.vm), q.2.2.moved (Vm.Alike.refl V.vm)⟩
set_option maxHeartbeats 1000000 in
theorem tJ18_valueOf (l : Launch) (t : Nat) (b : Nat → Nat) (k : Nat) (hk : k < 128) : Met l yJ18_valueOf (ws_ yJ18_valueOf cJ18_valueOf 3 (some (.object "java/lang/Short"))) { frames := 0, cells := 0, slots := 0, locals := 0 } (va_Pc [.int (nI k)] (shB t b)) (rQ (some (.ref (b (128 + k))))) 0 0 (fun _ => False) := by
  refine g_entry (by decide) (Nat.le_of_ble_eq_true rfl) ?_
  intro p e s m args below meth c ls hx hb hml hown hts hlk hr hB hl _
  have hS : va_S nA s.heap s.heap [] := va_S.rf
  have hown : s.vm.findClass RJ18 = some m.cls := hown
  have hl : lv_has ls 3 [(0, .int (nI k))] := hl
  refine lv_sipush (v := 128) hx hb dJ18_valueOf_0 (by decide) ?_
  refine lv_istore_n (lv' := [(1, .int 128), (0, .int (nI k))]) hx hb dJ18_valueOf_3 rfl hl (by decide) rfl (fun ls hl => ?_)
  refine lv_iload_n hx hb dJ18_valueOf_4 rfl (lv_at hl 1 rfl) ?_
  refine lv_istore_n (lv' := [(2, .int (nI k)), (1, .int 128), (0, .int (nI k))]) hx hb dJ18_valueOf_5 rfl hl (by decide) rfl (fun ls hl => ?_)
  refine lv_iload_n hx hb dJ18_valueOf_6 rfl (lv_at hl 0 rfl) ?_
  refine lv_bipush (v := (-128)) hx hb dJ18_valueOf_7 (by decide) ?_
  refine lv_icmp_lt (tgt := 28) hx hb dJ18_valueOf_9 (by decide) (fun h9 => absurd h9 (show ¬ nI k < -128 from fun z => absurd (Int32.lt_iff_toInt_lt.mp z) (by rw [nI_toInt (by omega)]; have : (-128 : Int32).toInt = -128 := (by decide); omega))) (fun _ => ?_)
  refine lv_iload_n hx hb dJ18_valueOf_12 rfl (lv_at hl 0 rfl) ?_
  refine lv_bipush (v := 127) hx hb dJ18_valueOf_13 (by decide) ?_
  refine lv_icmp_gt (tgt := 28) hx hb dJ18_valueOf_15 (by decide) (fun h9 => absurd h9 (show ¬ 127 < nI k from fun z => absurd (Int32.lt_iff_toInt_lt.mp z) (by rw [nI_toInt (by omega)]; have : (127 : Int32).toInt = 127 := (by decide); omega))) (fun _ => ?_)
  refine va_gets hx hb hB.1 hS hown (hts _ q1270) (fun _ h9 => h9) dJ18_valueOf_18 ?_
  refine lv_iload_n hx hb dJ18_valueOf_21 rfl (lv_at hl 0 rfl) ?_
  refine lv_sipush (v := 128) hx hb dJ18_valueOf_22 (by decide) ?_
  refine lv_iadd hx hb dJ18_valueOf_25 ?_
  have e1 : nI k + 128 = nI (128 + k) := by rw [show (128 : Int32) = nI 128 from rfl, nI_add, Nat.add_comm]
  rw [e1]
  refine vb_tq hx hb hB.2 hS (nI_in (by omega) (by decide)) (v := .ref (b (128 + k))) (by rw [nI_clamp (by omega)]) dJ18_valueOf_26 ?_
  exact rq_ref (r := some (b (128 + k))) hx hb hlk hr (Or.inl ⟨_, rfl⟩) dJ18_valueOf_27
def svB (b : Nat) (v : Int32) (V : State) : Prop := va_OF "java/lang/Short" "value" "S" (.int v) b nA V V.heap
theorem svB_blind {as : List Value} {b : Nat} {v : Int32} : FrameBlind (va_Pc as (svB b v)) := fun a V g mk q => ⟨q.1, va_OF.moved (Vm.Alike.refl V.vm) q.2⟩
set_option maxHeartbeats 1000000 in
theorem tJ18_shortValue (l : Launch) (b : Nat) (v : Int32) (hv : narrow .short (.int v) = .int v) : Met l yJ18_shortValue (ws_ yJ18_shortValue cJ18_shortValue 1 (some .short)) { frames := 0, cells := 0, slots := 0, locals := 0 } (va_Pc [.ref b] (svB b v)) (rQ (some (.int v))) 0 0 (fun _ => False) := by
  refine g_entry (by decide) (Nat.le_of_ble_eq_true rfl) ?_
  intro p e s m args below meth c ls hx hb hml hown hts hlk hr hB hl _
  have hS : va_S nA s.heap s.heap [] := va_S.rf
  have hown : s.vm.findClass RJ18 = some m.cls := hown
  have hl : lv_has ls 1 [(0, .ref b)] := hl
  refine lv_aload_n hx hb dJ18_shortValue_0 rfl (lv_at hl 0 rfl) ?_
  refine vk_getf hx hb hB hS hown (hts _ q1281) (fun _ h9 => h9) dJ18_shortValue_1 ?_
  exact rq_bool hx hb hlk hr hv dJ18_shortValue_4
def slB (D : va_G) (sl th : Nat) (C : String) (sz : Nat) (V : State) : Prop := V.heap.size = sz ∧ va_P D vcl [(sl, .inr (14, [.ref th]))] V.heap ∧ va_K D vcl [] V ∧ cNw V ∧ cNc V ∧ zTh (fun q => sz ≤ q) V V.heap ∧ va_O C th nA V V.heap
theorem slB_blind {as : List Value} {D : va_G} {sl th : Nat} {C : String} {sz : Nat} : FrameBlind (va_Pc as (slB D sl th C sz)) := fun a V g mk q => by
  obtain ⟨q0, q1, q2, q3, q4, q5, q6, q7⟩ := q
  exact ⟨q0, q1, q2, va_K.moved (u := V) (U := V.calling g mk a) (Vm.Alike.refl V.vm) q3, cNw.same rfl q4, q5.moved (Vm.Alike.refl V.vm), q6.moved (Vm.Alike.refl V.vm), q7.moved (Vm.Alike.refl V.vm)⟩
def slN (D : va_G) (sl th : Nat) (v : Int32) (sz : Nat) (V : State) : Prop := slB D sl th "java/lang/Short" sz V ∧ va_OF "java/lang/Short" "value" "S" (.int v) th nA V V.heap
theorem slN_blind {as : List Value} {D : va_G} {sl th : Nat} {v : Int32} {sz : Nat} : FrameBlind (va_Pc as (slN D sl th v sz)) := fun a V g mk q => ⟨q.1, (slB_blind a V g mk ⟨q.1, q.2.1⟩).2, q.2.2.moved (Vm.Alike.refl V.vm)⟩
set_option maxHeartbeats 4000000 in
theorem tX15_way (l : Launch) (D : va_G) (sl th kd sz : Nat) (hkd : kd < 6) : xMet l yX15_way (ws_ yX15_way cX15_way 1 (some (.object "GateRoad$Way"))) { frames := 5, cells := 1, slots := 7, locals := 105 } (va_Pc [.ref sl] (slB D sl th (cnm kd) sz)) (xoQ D sz True (some (.ref th)) (-13)) 1 7 (fun q => sz ≤ q) := by
  refine xg_entry (by decide) (Nat.le_of_ble_eq_true rfl) ?_
  intro p e s m args below meth c ls hx hb hml hown hts hlk hr hB hl hno
  obtain ⟨hsz, hP, hK, hN, hNc, hz, hO⟩ := id hB
  subst hsz
  have hown : s.vm.findClass RX15 = some m.cls := hown
  have hl : lv_has ls 1 [(0, .ref sl)] := hl
  refine lv_aload_n hx hb dX15_way_0 rfl (lv_at hl 0 rfl) ?_
  refine va_get hx hb hts in_X15 hown hK hP 0 rfl rfl 0 (by decide) (hts _ q1289) (fun _ h9 => h9) rfl dX15_way_1 ?_
  rcases lt6 hkd with h | h | h | h | h | h <;> subst h
  · refine va_instE hx hb hown (hts _ q1308) hO.recv dX15_way_4 ?_
    refine lv_if_eq (tgt := 18) hx hb dX15_way_7 (by decide) (fun h9 => absurd h9 (by decide)) (fun _ => ?_)
    refine lv_aload_n hx hb dX15_way_10 rfl (lv_at hl 0 rfl) ?_
    refine va_get hx hb hts in_X15 hown hK hP 0 rfl rfl 0 (by decide) (hts _ q1289) (fun _ h9 => h9) rfl dX15_way_11 ?_
    refine va_castE hx hb hown (hts _ q1308) hO.recv dX15_way_14 ?_
    exact xoQ.ret trivial (W.aret hx hb hr (Or.inl ⟨_, rfl⟩) (Or.inr ⟨_, rfl⟩) (fun t ht hW => ⟨rfl, ht⟩) (fun q h => by cases h) dX15_way_17 hlk)
  · refine va_instY (C := "GateRoad$Tolled") hx hb hown (hts _ q1308) (hN.1 _ _ (by decide)) hO.recv dX15_way_4 ?_
    refine lv_if_eq (tgt := 18) hx hb dX15_way_7 (by decide) (fun h9 => absurd h9 (by decide)) (fun _ => ?_)
    refine lv_aload_n hx hb dX15_way_10 rfl (lv_at hl 0 rfl) ?_
    refine va_get hx hb hts in_X15 hown hK hP 0 rfl rfl 0 (by decide) (hts _ q1289) (fun _ h9 => h9) rfl dX15_way_11 ?_
    refine va_castY (C := "GateRoad$Tolled") hx hb hown (hts _ q1308) (hN.1 _ _ (by decide)) hO.recv dX15_way_14 ?_
    exact xoQ.ret trivial (W.aret hx hb hr (Or.inl ⟨_, rfl⟩) (Or.inr ⟨_, rfl⟩) (fun t ht hW => ⟨rfl, ht⟩) (fun q h => by cases h) dX15_way_17 hlk)
  · refine va_instY (C := "GateRoad$Numbered") hx hb hown (hts _ q1308) (hN.1 _ _ (by decide)) hO.recv dX15_way_4 ?_
    refine lv_if_eq (tgt := 18) hx hb dX15_way_7 (by decide) (fun h9 => absurd h9 (by decide)) (fun _ => ?_)
    refine lv_aload_n hx hb dX15_way_10 rfl (lv_at hl 0 rfl) ?_
    refine va_get hx hb hts in_X15 hown hK hP 0 rfl rfl 0 (by decide) (hts _ q1289) (fun _ h9 => h9) rfl dX15_way_11 ?_
    refine va_castY (C := "GateRoad$Numbered") hx hb hown (hts _ q1308) (hN.1 _ _ (by decide)) hO.recv dX15_way_14 ?_
    exact xoQ.ret trivial (W.aret hx hb hr (Or.inl ⟨_, rfl⟩) (Or.inr ⟨_, rfl⟩) (fun t ht hW => ⟨rfl, ht⟩) (fun q h => by cases h) dX15_way_17 hlk)
  · refine va_instY (C := "GateRoad$Drawn") hx hb hown (hts _ q1308) (hN.1 _ _ (by decide)) hO.recv dX15_way_4 ?_
    refine lv_if_eq (tgt := 18) hx hb dX15_way_7 (by decide) (fun h9 => absurd h9 (by decide)) (fun _ => ?_)
    refine lv_aload_n hx hb dX15_way_10 rfl (lv_at hl 0 rfl) ?_
    refine va_get hx hb hts in_X15 hown hK hP 0 rfl rfl 0 (by decide) (hts _ q1289) (fun _ h9 => h9) rfl dX15_way_11 ?_
    refine va_castY (C := "GateRoad$Drawn") hx hb hown (hts _ q1308) (hN.1 _ _ (by decide)) hO.recv dX15_way_14 ?_
    exact xoQ.ret trivial (W.aret hx hb hr (Or.inl ⟨_, rfl⟩) (Or.inr ⟨_, rfl⟩) (fun t ht hW => ⟨rfl, ht⟩) (fun q h => by cases h) dX15_way_17 hlk)
  · refine va_instY (C := "GateRoad$Last") hx hb hown (hts _ q1308) (hN.1 _ _ (by decide)) hO.recv dX15_way_4 ?_
    refine lv_if_eq (tgt := 18) hx hb dX15_way_7 (by decide) (fun h9 => absurd h9 (by decide)) (fun _ => ?_)
    refine lv_aload_n hx hb dX15_way_10 rfl (lv_at hl 0 rfl) ?_
    refine va_get hx hb hts in_X15 hown hK hP 0 rfl rfl 0 (by decide) (hts _ q1289) (fun _ h9 => h9) rfl dX15_way_11 ?_
    refine va_castY (C := "GateRoad$Last") hx hb hown (hts _ q1308) (hN.1 _ _ (by decide)) hO.recv dX15_way_14 ?_
    exact xoQ.ret trivial (W.aret hx hb hr (Or.inl ⟨_, rfl⟩) (Or.inr ⟨_, rfl⟩) (fun t ht hW => ⟨rfl, ht⟩) (fun q h => by cases h) dX15_way_17 hlk)
  · refine va_instY (C := "GateRoad$Sorted") hx hb hown (hts _ q1308) (hN.1 _ _ (by decide)) hO.recv dX15_way_4 ?_
    refine lv_if_eq (tgt := 18) hx hb dX15_way_7 (by decide) (fun h9 => absurd h9 (by decide)) (fun _ => ?_)
    refine lv_aload_n hx hb dX15_way_10 rfl (lv_at hl 0 rfl) ?_
    refine va_get hx hb hts in_X15 hown hK hP 0 rfl rfl 0 (by decide) (hts _ q1289) (fun _ h9 => h9) rfl dX15_way_11 ?_
    refine va_castY (C := "GateRoad$Sorted") hx hb hown (hts _ q1308) (hN.1 _ _ (by decide)) hO.recv dX15_way_14 ?_
    exact xoQ.ret trivial (W.aret hx hb hr (Or.inl ⟨_, rfl⟩) (Or.inr ⟨_, rfl⟩) (fun t ht hW => ⟨rfl, ht⟩) (fun q h => by cases h) dX15_way_17 hlk)

set_option maxHeartbeats 4000000 in
theorem tX15_wayS (l : Launch) (D : va_G) (sl th sz : Nat) : xMet l yX15_way (ws_ yX15_way cX15_way 1 (some (.object "GateRoad$Way"))) { frames := 5, cells := 1, slots := 7, locals := 105 } (va_Pc [.ref sl] (slB D sl th "java/lang/Short" sz)) (xoQ D sz False (some (.ref th)) (-13)) 1 7 (fun q => sz ≤ q) := by
  refine xg_entry (by decide) (Nat.le_of_ble_eq_true rfl) ?_
  intro p e s m args below meth c ls hx hb hml hown hts hlk hr hB hl hno
  obtain ⟨hsz, hP, hK, hN, hNc, hz, hO⟩ := id hB
  subst hsz
  have hown : s.vm.findClass RX15 = some m.cls := hown
  have hl : lv_has ls 1 [(0, .ref sl)] := hl
  refine lv_aload_n hx hb dX15_way_0 rfl (lv_at hl 0 rfl) ?_
  refine va_get hx hb hts in_X15 hown hK hP 0 rfl rfl 0 (by decide) (hts _ q1289) (fun _ h9 => h9) rfl dX15_way_1 ?_
  refine va_instNo hx hb hown (hts _ q1308) (hNc ("java/lang/Short", "GateRoad$Way") (by decide)) hO.recv dX15_way_4 ?_
  refine lv_if_eq (tgt := 18) hx hb dX15_way_7 (by decide) (fun _ => ?_) (fun h9 => absurd rfl h9)
  exact x_odd (cells := 0) (slots := 0) (p3 := 24) hx hb hml hl.1 hown hts hlk hno hK (hK.sub [] rfl) hz q1302 q1303 dX15_way_18 dX15_way_21 (fun H locs st Q c1 s1 k => lv_bipush (v := -13) hx hb dX15_way_22 (by decide) k) dX15_way_24 dX15_way_27 ⟨Nat.le_of_ble_eq_true rfl, Nat.le_of_ble_eq_true rfl⟩ (Nat.le_of_ble_eq_true rfl) (Nat.le_of_ble_eq_true rfl) (fun q h => h) (Nat.le_refl _) (Nat.le_refl _) (fun t a L h1 h2 h3 h4 h5 => Or.inr ⟨fun z => z.elim, a, rfl, h1, h2, h3, L, h4, h5⟩)
set_option maxHeartbeats 4000000 in
theorem tX15_number (l : Launch) (D : va_G) (sl th : Nat) (v : Int32) (sz : Nat) (hv : narrow .short (.int v) = .int v) : xMet l yX15_number (ws_ yX15_number cX15_number 1 (some .int)) { frames := 5, cells := 1, slots := 7, locals := 105 } (va_Pc [.ref sl] (slN D sl th v sz)) (xoQ D sz True (some (.int v)) (-13)) 1 7 (fun q => sz ≤ q) := by
  refine xg_entry (by decide) (Nat.le_of_ble_eq_true rfl) ?_
  intro p e s m args below meth c ls hx hb hml hown hts hlk hr hB hl hno
  obtain ⟨⟨hsz, hP, hK, hN, hNc, hz, hO⟩, hF⟩ := id hB
  subst hsz
  have hown : s.vm.findClass RX15 = some m.cls := hown
  have hl : lv_has ls 1 [(0, .ref sl)] := hl
  refine lv_aload_n hx hb dX15_number_0 rfl (lv_at hl 0 rfl) ?_
  refine va_get hx hb hts in_X15 hown hK hP 0 rfl rfl 0 (by decide) (hts _ q1289) (fun _ h9 => h9) rfl dX15_number_1 ?_
  refine va_instE hx hb hown (hts _ q1297) hO.recv dX15_number_4 ?_
  refine lv_if_eq (tgt := 21) hx hb dX15_number_7 (by decide) (fun h9 => absurd h9 (by decide)) (fun _ => ?_)
  refine lv_aload_n hx hb dX15_number_10 rfl (lv_at hl 0 rfl) ?_
  refine va_get hx hb hts in_X15 hown hK hP 0 rfl rfl 0 (by decide) (hts _ q1289) (fun _ h9 => h9) rfl dX15_number_11 ?_
  refine va_castE hx hb hown (hts _ q1297) hO.recv dX15_number_14 ?_
  refine r_call (W.runV (C := RJ18) (As := []) (rest := []) ⟨hx, hb, hml, hown, hts⟩ (tJ18_shortValue l th v hv) (cwV 0 hts (lw_V q1298 q1299 q1300 q99 q1301) rfl rfl rfl (by decide +kernel) ⟨Nat.le_of_ble_eq_true rfl, Nat.le_of_ble_eq_true rfl⟩) ⟨svB_blind, hO.recv, fun U hU hW => ⟨rfl, by unfold svB; rw [hU]; exact va_OF.moved hW.alike hF⟩⟩ rfl rfl hl.1 rfl (lv_room (Nat.le_of_ble_eq_true rfl)) dX15_number_17 ⟨Nat.zero_le _, Nat.zero_le _⟩) ?_
  exact xoQ.ret trivial (W.iret hx hb hr (fun t ht hW => ⟨rfl, ht⟩) (fun q h => by cases h) dX15_number_20 hlk)
set_option maxHeartbeats 4000000 in
theorem tX15_numberW (l : Launch) (D : va_G) (sl th kd sz : Nat) (hkd : kd < 6) : xMet l yX15_number (ws_ yX15_number cX15_number 1 (some .int)) { frames := 5, cells := 1, slots := 7, locals := 105 } (va_Pc [.ref sl] (slB D sl th (cnm kd) sz)) (xoQ D sz False (some (.int 0)) (-13)) 1 7 (fun q => sz ≤ q) := by
  refine xg_entry (by decide) (Nat.le_of_ble_eq_true rfl) ?_
  intro p e s m args below meth c ls hx hb hml hown hts hlk hr hB hl hno
  obtain ⟨hsz, hP, hK, hN, hNc, hz, hO⟩ := id hB
  subst hsz
  have hown : s.vm.findClass RX15 = some m.cls := hown
  have hl : lv_has ls 1 [(0, .ref sl)] := hl
  refine lv_aload_n hx hb dX15_number_0 rfl (lv_at hl 0 rfl) ?_
  refine va_get hx hb hts in_X15 hown hK hP 0 rfl rfl 0 (by decide) (hts _ q1289) (fun _ h9 => h9) rfl dX15_number_1 ?_
  rcases lt6 hkd with h | h | h | h | h | h <;> subst h
  · refine va_instNo (C := "GateRoad$Way") hx hb hown (hts _ q1297) (hNc ("GateRoad$Way", "java/lang/Short") (by decide)) hO.recv dX15_number_4 ?_
    refine lv_if_eq (tgt := 21) hx hb dX15_number_7 (by decide) (fun _ => ?_) (fun h9 => absurd rfl h9)
    exact x_odd (cells := 0) (slots := 0) (p3 := 27) hx hb hml hl.1 hown hts hlk hno hK (hK.sub [] rfl) hz q1302 q1303 dX15_number_21 dX15_number_24 (fun H locs st Q c1 s1 k => lv_bipush (v := -13) hx hb dX15_number_25 (by decide) k) dX15_number_27 dX15_number_30 ⟨Nat.le_of_ble_eq_true rfl, Nat.le_of_ble_eq_true rfl⟩ (Nat.le_of_ble_eq_true rfl) (Nat.le_of_ble_eq_true rfl) (fun q h => h) (Nat.le_refl _) (Nat.le_refl _) (fun t a L h1 h2 h3 h4 h5 => Or.inr ⟨fun z => z.elim, a, rfl, h1, h2, h3, L, h4, h5⟩)
  · refine va_instNo (C := "GateRoad$Tolled") hx hb hown (hts _ q1297) (hNc ("GateRoad$Tolled", "java/lang/Short") (by decide)) hO.recv dX15_number_4 ?_
    refine lv_if_eq (tgt := 21) hx hb dX15_number_7 (by decide) (fun _ => ?_) (fun h9 => absurd rfl h9)
    exact x_odd (cells := 0) (slots := 0) (p3 := 27) hx hb hml hl.1 hown hts hlk hno hK (hK.sub [] rfl) hz q1302 q1303 dX15_number_21 dX15_number_24 (fun H locs st Q c1 s1 k => lv_bipush (v := -13) hx hb dX15_number_25 (by decide) k) dX15_number_27 dX15_number_30 ⟨Nat.le_of_ble_eq_true rfl, Nat.le_of_ble_eq_true rfl⟩ (Nat.le_of_ble_eq_true rfl) (Nat.le_of_ble_eq_true rfl) (fun q h => h) (Nat.le_refl _) (Nat.le_refl _) (fun t a L h1 h2 h3 h4 h5 => Or.inr ⟨fun z => z.elim, a, rfl, h1, h2, h3, L, h4, h5⟩)
  · refine va_instNo (C := "GateRoad$Numbered") hx hb hown (hts _ q1297) (hNc ("GateRoad$Numbered", "java/lang/Short") (by decide)) hO.recv dX15_number_4 ?_
    refine lv_if_eq (tgt := 21) hx hb dX15_number_7 (by decide) (fun _ => ?_) (fun h9 => absurd rfl h9)
    exact x_odd (cells := 0) (slots := 0) (p3 := 27) hx hb hml hl.1 hown hts hlk hno hK (hK.sub [] rfl) hz q1302 q1303 dX15_number_21 dX15_number_24 (fun H locs st Q c1 s1 k => lv_bipush (v := -13) hx hb dX15_number_25 (by decide) k) dX15_number_27 dX15_number_30 ⟨Nat.le_of_ble_eq_true rfl, Nat.le_of_ble_eq_true rfl⟩ (Nat.le_of_ble_eq_true rfl) (Nat.le_of_ble_eq_true rfl) (fun q h => h) (Nat.le_refl _) (Nat.le_refl _) (fun t a L h1 h2 h3 h4 h5 => Or.inr ⟨fun z => z.elim, a, rfl, h1, h2, h3, L, h4, h5⟩)
  · refine va_instNo (C := "GateRoad$Drawn") hx hb hown (hts _ q1297) (hNc ("GateRoad$Drawn", "java/lang/Short") (by decide)) hO.recv dX15_number_4 ?_
    refine lv_if_eq (tgt := 21) hx hb dX15_number_7 (by decide) (fun _ => ?_) (fun h9 => absurd rfl h9)
    exact x_odd (cells := 0) (slots := 0) (p3 := 27) hx hb hml hl.1 hown hts hlk hno hK (hK.sub [] rfl) hz q1302 q1303 dX15_number_21 dX15_number_24 (fun H locs st Q c1 s1 k => lv_bipush (v := -13) hx hb dX15_number_25 (by decide) k) dX15_number_27 dX15_number_30 ⟨Nat.le_of_ble_eq_true rfl, Nat.le_of_ble_eq_true rfl⟩ (Nat.le_of_ble_eq_true rfl) (Nat.le_of_ble_eq_true rfl) (fun q h => h) (Nat.le_refl _) (Nat.le_refl _) (fun t a L h1 h2 h3 h4 h5 => Or.inr ⟨fun z => z.elim, a, rfl, h1, h2, h3, L, h4, h5⟩)
  · refine va_instNo (C := "GateRoad$Last") hx hb hown (hts _ q1297) (hNc ("GateRoad$Last", "java/lang/Short") (by decide)) hO.recv dX15_number_4 ?_
    refine lv_if_eq (tgt := 21) hx hb dX15_number_7 (by decide) (fun _ => ?_) (fun h9 => absurd rfl h9)
    exact x_odd (cells := 0) (slots := 0) (p3 := 27) hx hb hml hl.1 hown hts hlk hno hK (hK.sub [] rfl) hz q1302 q1303 dX15_number_21 dX15_number_24 (fun H locs st Q c1 s1 k => lv_bipush (v := -13) hx hb dX15_number_25 (by decide) k) dX15_number_27 dX15_number_30 ⟨Nat.le_of_ble_eq_true rfl, Nat.le_of_ble_eq_true rfl⟩ (Nat.le_of_ble_eq_true rfl) (Nat.le_of_ble_eq_true rfl) (fun q h => h) (Nat.le_refl _) (Nat.le_refl _) (fun t a L h1 h2 h3 h4 h5 => Or.inr ⟨fun z => z.elim, a, rfl, h1, h2, h3, L, h4, h5⟩)
  · refine va_instNo (C := "GateRoad$Sorted") hx hb hown (hts _ q1297) (hNc ("GateRoad$Sorted", "java/lang/Short") (by decide)) hO.recv dX15_number_4 ?_
    refine lv_if_eq (tgt := 21) hx hb dX15_number_7 (by decide) (fun _ => ?_) (fun h9 => absurd rfl h9)
    exact x_odd (cells := 0) (slots := 0) (p3 := 27) hx hb hml hl.1 hown hts hlk hno hK (hK.sub [] rfl) hz q1302 q1303 dX15_number_21 dX15_number_24 (fun H locs st Q c1 s1 k => lv_bipush (v := -13) hx hb dX15_number_25 (by decide) k) dX15_number_27 dX15_number_30 ⟨Nat.le_of_ble_eq_true rfl, Nat.le_of_ble_eq_true rfl⟩ (Nat.le_of_ble_eq_true rfl) (Nat.le_of_ble_eq_true rfl) (fun q h => h) (Nat.le_refl _) (Nat.le_refl _) (fun t a L h1 h2 h3 h4 h5 => Or.inr ⟨fun z => z.elim, a, rfl, h1, h2, h3, L, h4, h5⟩)

def iuB (D : va_G) (a kd : Nat) (V : State) : Prop := va_O (cnm kd) a nA V V.heap ∧ cNw V ∧ cNc V
theorem iuB_blind {as : List Value} {D : va_G} {a kd : Nat} : FrameBlind (va_Pc as (iuB D a kd)) := fun b V g mk q => ⟨q.1, q.2.1.moved (Vm.Alike.refl V.vm), cNw.same rfl q.2.2.1, q.2.2.2.moved (Vm.Alike.refl V.vm)⟩
set_option maxHeartbeats 4000000 in
theorem tX0_isUnder (l : Launch) (D : va_G) (a kd k : Nat) (hkd : kd < 6) (hk : k < 6) : Met l yX0_isUnder (ws_ yX0_isUnder cX0_isUnder 2 (some .boolean)) { frames := 0, cells := 0, slots := 0, locals := 0 } (va_Pc [.ref a, .int (nI k)] (iuB D a kd)) (rQ (some (.int (undV kd k)))) 0 0 (fun _ => False) := by
  refine g_entry (by decide) (Nat.le_of_ble_eq_true rfl) ?_
  intro p e s m args below meth c ls hx hb hml hown hts hlk hr hB hl _
  have hS : va_S nA s.heap s.heap [] := va_S.rf
  obtain ⟨hO, hN, hNc⟩ := hB
  have hown : s.vm.findClass RX0 = some m.cls := hown
  have hl : lv_has ls 2 [(0, .ref a), (1, .int (nI k))] := hl
  rcases lt6 hk with h | h | h | h | h | h <;> subst h
  · refine lv_iload_n hx hb dX0_isUnder_0 rfl (lv_at hl 1 rfl) ?_
    refine ts_in (off := 35) (tgt := 36) hx hb dX0_isUnder_1 0 rfl (by decide) (by decide) ?_
    refine lv_iconst (v := 1) hx hb dX0_isUnder_36 (by decide) ?_
    have e9 : undV kd 0 = 1 := rfl
    rw [e9]
    exact rq_bool hx hb hlk hr rfl dX0_isUnder_37
  · refine lv_iload_n hx hb dX0_isUnder_0 rfl (lv_at hl 1 rfl) ?_
    refine ts_in (off := 37) (tgt := 38) hx hb dX0_isUnder_1 1 rfl (by decide) (by decide) ?_
    refine lv_aload_n hx hb dX0_isUnder_38 rfl (lv_at hl 0 rfl) ?_
    rcases lt6 hkd with h | h | h | h | h | h <;> subst h
    · refine va_instNo (C := "GateRoad$Way") hx hb hown (hts _ q821) (hNc ("GateRoad$Way", "GateRoad$Tolled") (by decide)) hO.recv dX0_isUnder_39 ?_
      exact rq_bool hx hb hlk hr rfl dX0_isUnder_42
    · refine va_instE hx hb hown (hts _ q821) hO.recv dX0_isUnder_39 ?_
      exact rq_bool hx hb hlk hr rfl dX0_isUnder_42
    · refine va_instNo (C := "GateRoad$Numbered") hx hb hown (hts _ q821) (hNc ("GateRoad$Numbered", "GateRoad$Tolled") (by decide)) hO.recv dX0_isUnder_39 ?_
      exact rq_bool hx hb hlk hr rfl dX0_isUnder_42
    · refine va_instNo (C := "GateRoad$Drawn") hx hb hown (hts _ q821) (hNc ("GateRoad$Drawn", "GateRoad$Tolled") (by decide)) hO.recv dX0_isUnder_39 ?_
      exact rq_bool hx hb hlk hr rfl dX0_isUnder_42
    · refine va_instNo (C := "GateRoad$Last") hx hb hown (hts _ q821) (hNc ("GateRoad$Last", "GateRoad$Tolled") (by decide)) hO.recv dX0_isUnder_39 ?_
      exact rq_bool hx hb hlk hr rfl dX0_isUnder_42
    · refine va_instY (C := "GateRoad$Sorted") hx hb hown (hts _ q821) (hN.1 _ _ (by decide)) hO.recv dX0_isUnder_39 ?_
      exact rq_bool hx hb hlk hr rfl dX0_isUnder_42
  · refine lv_iload_n hx hb dX0_isUnder_0 rfl (lv_at hl 1 rfl) ?_
    refine ts_in (off := 42) (tgt := 43) hx hb dX0_isUnder_1 2 rfl (by decide) (by decide) ?_
    refine lv_aload_n hx hb dX0_isUnder_43 rfl (lv_at hl 0 rfl) ?_
    rcases lt6 hkd with h | h | h | h | h | h <;> subst h
    · refine va_instNo (C := "GateRoad$Way") hx hb hown (hts _ q831) (hNc ("GateRoad$Way", "GateRoad$Numbered") (by decide)) hO.recv dX0_isUnder_44 ?_
      exact rq_bool hx hb hlk hr rfl dX0_isUnder_47
    · refine va_instNo (C := "GateRoad$Tolled") hx hb hown (hts _ q831) (hNc ("GateRoad$Tolled", "GateRoad$Numbered") (by decide)) hO.recv dX0_isUnder_44 ?_
      exact rq_bool hx hb hlk hr rfl dX0_isUnder_47
    · refine va_instE hx hb hown (hts _ q831) hO.recv dX0_isUnder_44 ?_
      exact rq_bool hx hb hlk hr rfl dX0_isUnder_47
    · refine va_instY (C := "GateRoad$Drawn") hx hb hown (hts _ q831) (hN.1 _ _ (by decide)) hO.recv dX0_isUnder_44 ?_
      exact rq_bool hx hb hlk hr rfl dX0_isUnder_47
    · refine va_instNo (C := "GateRoad$Last") hx hb hown (hts _ q831) (hNc ("GateRoad$Last", "GateRoad$Numbered") (by decide)) hO.recv dX0_isUnder_44 ?_
      exact rq_bool hx hb hlk hr rfl dX0_isUnder_47
    · refine va_instNo (C := "GateRoad$Sorted") hx hb hown (hts _ q831) (hNc ("GateRoad$Sorted", "GateRoad$Numbered") (by decide)) hO.recv dX0_isUnder_44 ?_
      exact rq_bool hx hb hlk hr rfl dX0_isUnder_47
  · refine lv_iload_n hx hb dX0_isUnder_0 rfl (lv_at hl 1 rfl) ?_
    refine ts_in (off := 47) (tgt := 48) hx hb dX0_isUnder_1 3 rfl (by decide) (by decide) ?_
    refine lv_aload_n hx hb dX0_isUnder_48 rfl (lv_at hl 0 rfl) ?_
    rcases lt6 hkd with h | h | h | h | h | h <;> subst h
    · refine va_instNo (C := "GateRoad$Way") hx hb hown (hts _ q841) (hNc ("GateRoad$Way", "GateRoad$Drawn") (by decide)) hO.recv dX0_isUnder_49 ?_
      exact rq_bool hx hb hlk hr rfl dX0_isUnder_52
    · refine va_instNo (C := "GateRoad$Tolled") hx hb hown (hts _ q841) (hNc ("GateRoad$Tolled", "GateRoad$Drawn") (by decide)) hO.recv dX0_isUnder_49 ?_
      exact rq_bool hx hb hlk hr rfl dX0_isUnder_52
    · refine va_instNo (C := "GateRoad$Numbered") hx hb hown (hts _ q841) (hNc ("GateRoad$Numbered", "GateRoad$Drawn") (by decide)) hO.recv dX0_isUnder_49 ?_
      exact rq_bool hx hb hlk hr rfl dX0_isUnder_52
    · refine va_instE hx hb hown (hts _ q841) hO.recv dX0_isUnder_49 ?_
      exact rq_bool hx hb hlk hr rfl dX0_isUnder_52
    · refine va_instNo (C := "GateRoad$Last") hx hb hown (hts _ q841) (hNc ("GateRoad$Last", "GateRoad$Drawn") (by decide)) hO.recv dX0_isUnder_49 ?_
      exact rq_bool hx hb hlk hr rfl dX0_isUnder_52
    · refine va_instNo (C := "GateRoad$Sorted") hx hb hown (hts _ q841) (hNc ("GateRoad$Sorted", "GateRoad$Drawn") (by decide)) hO.recv dX0_isUnder_49 ?_
      exact rq_bool hx hb hlk hr rfl dX0_isUnder_52
  · refine lv_iload_n hx hb dX0_isUnder_0 rfl (lv_at hl 1 rfl) ?_
    refine ts_in (off := 52) (tgt := 53) hx hb dX0_isUnder_1 4 rfl (by decide) (by decide) ?_
    refine lv_aload_n hx hb dX0_isUnder_53 rfl (lv_at hl 0 rfl) ?_
    rcases lt6 hkd with h | h | h | h | h | h <;> subst h
    · refine va_instNo (C := "GateRoad$Way") hx hb hown (hts _ q851) (hNc ("GateRoad$Way", "GateRoad$Last") (by decide)) hO.recv dX0_isUnder_54 ?_
      exact rq_bool hx hb hlk hr rfl dX0_isUnder_57
    · refine va_instNo (C := "GateRoad$Tolled") hx hb hown (hts _ q851) (hNc ("GateRoad$Tolled", "GateRoad$Last") (by decide)) hO.recv dX0_isUnder_54 ?_
      exact rq_bool hx hb hlk hr rfl dX0_isUnder_57
    · refine va_instNo (C := "GateRoad$Numbered") hx hb hown (hts _ q851) (hNc ("GateRoad$Numbered", "GateRoad$Last") (by decide)) hO.recv dX0_isUnder_54 ?_
      exact rq_bool hx hb hlk hr rfl dX0_isUnder_57
    · refine va_instNo (C := "GateRoad$Drawn") hx hb hown (hts _ q851) (hNc ("GateRoad$Drawn", "GateRoad$Last") (by decide)) hO.recv dX0_isUnder_54 ?_
      exact rq_bool hx hb hlk hr rfl dX0_isUnder_57
    · refine va_instE hx hb hown (hts _ q851) hO.recv dX0_isUnder_54 ?_
      exact rq_bool hx hb hlk hr rfl dX0_isUnder_57
    · refine va_instNo (C := "GateRoad$Sorted") hx hb hown (hts _ q851) (hNc ("GateRoad$Sorted", "GateRoad$Last") (by decide)) hO.recv dX0_isUnder_54 ?_
      exact rq_bool hx hb hlk hr rfl dX0_isUnder_57
  · refine lv_iload_n hx hb dX0_isUnder_0 rfl (lv_at hl 1 rfl) ?_
    refine lv_tableOut (tgt := 58) hx hb dX0_isUnder_1 (by decide) (by decide) ?_
    refine lv_aload_n hx hb dX0_isUnder_58 rfl (lv_at hl 0 rfl) ?_
    rcases lt6 hkd with h | h | h | h | h | h <;> subst h
    · refine va_instNo (C := "GateRoad$Way") hx hb hown (hts _ q861) (hNc ("GateRoad$Way", "GateRoad$Sorted") (by decide)) hO.recv dX0_isUnder_59 ?_
      exact rq_bool hx hb hlk hr rfl dX0_isUnder_62
    · refine va_instNo (C := "GateRoad$Tolled") hx hb hown (hts _ q861) (hNc ("GateRoad$Tolled", "GateRoad$Sorted") (by decide)) hO.recv dX0_isUnder_59 ?_
      exact rq_bool hx hb hlk hr rfl dX0_isUnder_62
    · refine va_instNo (C := "GateRoad$Numbered") hx hb hown (hts _ q861) (hNc ("GateRoad$Numbered", "GateRoad$Sorted") (by decide)) hO.recv dX0_isUnder_59 ?_
      exact rq_bool hx hb hlk hr rfl dX0_isUnder_62
    · refine va_instNo (C := "GateRoad$Drawn") hx hb hown (hts _ q861) (hNc ("GateRoad$Drawn", "GateRoad$Sorted") (by decide)) hO.recv dX0_isUnder_59 ?_
      exact rq_bool hx hb hlk hr rfl dX0_isUnder_62
    · refine va_instNo (C := "GateRoad$Last") hx hb hown (hts _ q861) (hNc ("GateRoad$Last", "GateRoad$Sorted") (by decide)) hO.recv dX0_isUnder_59 ?_
      exact rq_bool hx hb hlk hr rfl dX0_isUnder_62
    · refine va_instE hx hb hown (hts _ q861) hO.recv dX0_isUnder_59 ?_
      exact rq_bool hx hb hlk hr rfl dX0_isUnder_62

