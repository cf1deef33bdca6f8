/-! ===== ways: kind, key, pays, spares of each class; by wip/../gen/ways.py ===== -/
set_option maxRecDepth 100000
theorem vrun_call {p : Program} {l : Launch} {e : Env} {R : Room} {s : State} {m : MethodId} {args : Array Value} {below : List Frame} {meth : Method} {c : Code} {H : Heap} {locs : List Loc} {cells slots mc ms : Nat} {g : JFrame} {rest : List Value} {Qa : State → Outcome → State → Prop} {free : Addr → Prop} (h : va_Run p l e R s m args below meth c H locs cells slots mc ms g rest Qa free) : CallRun p l e R s m args below meth c H locs cells slots mc ms g rest Qa free := by
  intro T hT X
  obtain ⟨v, st₀, t, T', L, h1, h2, h3, h4, -, h5, h6⟩ := h T hT X
  exact ⟨v, st₀, t, T', L, h1, h2, h3, h4, h5, h6⟩
theorem lw_SU {own : String} {idx : Nat} {y : MethodName} {b : ByteArray} {L : Nat} {r : Option FieldType} (h1 : Cond.methodLink own idx y ∈ lw_all) (h2 : Cond.sameMethod y.cls y.cls y.name y.desc ∈ lw_all) (h3 : Cond.superclass own y.cls ∈ lw_all) (h4 : Cond.instanceMethod y ∈ lw_all) (h5 : Cond.initialized y.cls ∈ lw_all) (h6 : Cond.code y b L r ∈ lw_all) : GoodIn lw_all (va_wsSU own idx y (ws_ y b L r)) := by
  refine lw_app ?_ (lw_meth h6)
  intro w hw
  simp only [List.mem_cons, List.not_mem_nil, or_false] at hw
  rcases hw with e | e | e | e | e <;> rw [e] <;> assumption
theorem lw_O {own : String} {idx : Nat} {C owner : String} {x y : MethodName} {b : ByteArray} {L : Nat} {r : Option FieldType} (h1 : Cond.methodLink own idx x ∈ lw_all) (h2 : Cond.sameMethod x.cls owner x.name x.desc ∈ lw_all) (h3 : Cond.instanceMethod ⟨owner, x.name, x.desc⟩ ∈ lw_all) (h4 : Cond.selects C x y ∈ lw_all) (h5 : Cond.instanceMethod y ∈ lw_all) (h6 : Cond.initialized y.cls ∈ lw_all) (h7 : Cond.code y b L r ∈ lw_all) : GoodIn lw_all (va_wsO own idx C owner x y (ws_ y b L r)) := by
  refine lw_app ?_ (lw_meth h7)
  intro w hw
  simp only [List.mem_cons, List.not_mem_nil, or_false] at hw
  rcases hw with e | e | e | e | e | e <;> rw [e] <;> assumption
theorem lw_Up {own : String} {idx : Nat} {C owner : String} {x y : MethodName} {b : ByteArray} {L : Nat} {r : Option FieldType} (h1 : Cond.methodLink own idx x ∈ lw_all) (h2 : Cond.sameMethod x.cls owner x.name x.desc ∈ lw_all) (h4 : Cond.selects C x y ∈ lw_all) (h5 : Cond.instanceMethod y ∈ lw_all) (h6 : Cond.initialized y.cls ∈ lw_all) (h7 : Cond.code y b L r ∈ lw_all) : GoodIn lw_all (va_wsU own idx C owner x y (ws_ y b L r)) := by
  refine lw_app ?_ (lw_meth h7)
  intro w hw
  simp only [List.mem_cons, List.not_mem_nil, or_false] at hw
  rcases hw with e | e | e | e | e <;> rw [e] <;> assumption
theorem tX8_kind (l : Launch) (D : va_G) (a ci : Nat) (C : String) (T : u_T) (N : Nat) (hc : vcl[ci]? = some (C, T, N)) (fs : List Value) : Met l yX8_kind (ws_ yX8_kind cX8_kind 1 (some .int)) { frames := 0, cells := 0, slots := 0, locals := 0 } (va_Pc [.ref a] (fun U => va_P D vcl [(a, .inr (ci, fs))] U.heap ∧ va_K D vcl [] U)) (rQ (some (.int (0)))) 0 0 (fun _ => False) := by
  refine g_entry (by decide) (Nat.le_of_ble_eq_true rfl) ?_
  intro p e s m args below meth c ls hx hb hml hown hts hlk hr hB hl _
  obtain ⟨hP, hK⟩ := hB
  have hl : lv_has ls 1 [(0, .ref a)] := hl
  have hown : s.vm.findClass RX8 = some m.cls := hown
  refine lv_iconst (v := 0) hx hb dX8_kind_0 (by decide) ?_
  exact rq_int hx hb hlk hr dX8_kind_1

theorem tX9_kind (l : Launch) (D : va_G) (a ci : Nat) (C : String) (T : u_T) (N : Nat) (hc : vcl[ci]? = some (C, T, N)) (fs : List Value) : Met l yX9_kind (ws_ yX9_kind cX9_kind 1 (some .int)) { frames := 0, cells := 0, slots := 0, locals := 0 } (va_Pc [.ref a] (fun U => va_P D vcl [(a, .inr (ci, fs))] U.heap ∧ va_K D vcl [] U)) (rQ (some (.int (1)))) 0 0 (fun _ => False) := by
  refine g_entry (by decide) (Nat.le_of_ble_eq_true rfl) ?_
  intro p e s m args below meth c ls hx hb hml hown hts hlk hr hB hl _
  obtain ⟨hP, hK⟩ := hB
  have hl : lv_has ls 1 [(0, .ref a)] := hl
  have hown : s.vm.findClass RX9 = some m.cls := hown
  refine lv_iconst (v := 1) hx hb dX9_kind_0 (by decide) ?_
  exact rq_int hx hb hlk hr dX9_kind_1

theorem tX10_kind (l : Launch) (D : va_G) (a ci : Nat) (C : String) (T : u_T) (N : Nat) (hc : vcl[ci]? = some (C, T, N)) (fs : List Value) : Met l yX10_kind (ws_ yX10_kind cX10_kind 1 (some .int)) { frames := 0, cells := 0, slots := 0, locals := 0 } (va_Pc [.ref a] (fun U => va_P D vcl [(a, .inr (ci, fs))] U.heap ∧ va_K D vcl [] U)) (rQ (some (.int (2)))) 0 0 (fun _ => False) := by
  refine g_entry (by decide) (Nat.le_of_ble_eq_true rfl) ?_
  intro p e s m args below meth c ls hx hb hml hown hts hlk hr hB hl _
  obtain ⟨hP, hK⟩ := hB
  have hl : lv_has ls 1 [(0, .ref a)] := hl
  have hown : s.vm.findClass RX10 = some m.cls := hown
  refine lv_iconst (v := 2) hx hb dX10_kind_0 (by decide) ?_
  exact rq_int hx hb hlk hr dX10_kind_1

theorem tX12_kind (l : Launch) (D : va_G) (a ci : Nat) (C : String) (T : u_T) (N : Nat) (hc : vcl[ci]? = some (C, T, N)) (fs : List Value) : Met l yX12_kind (ws_ yX12_kind cX12_kind 1 (some .int)) { frames := 0, cells := 0, slots := 0, locals := 0 } (va_Pc [.ref a] (fun U => va_P D vcl [(a, .inr (ci, fs))] U.heap ∧ va_K D vcl [] U)) (rQ (some (.int (4)))) 0 0 (fun _ => False) := by
  refine g_entry (by decide) (Nat.le_of_ble_eq_true rfl) ?_
  intro p e s m args below meth c ls hx hb hml hown hts hlk hr hB hl _
  obtain ⟨hP, hK⟩ := hB
  have hl : lv_has ls 1 [(0, .ref a)] := hl
  have hown : s.vm.findClass RX12 = some m.cls := hown
  refine lv_iconst (v := 4) hx hb dX12_kind_0 (by decide) ?_
  exact rq_int hx hb hlk hr dX12_kind_1

theorem tX8_key (l : Launch) (D : va_G) (a ci : Nat) (C : String) (T : u_T) (N : Nat) (hc : vcl[ci]? = some (C, T, N)) (fs : List Value) (x : Int32) (y : Int32) (z : Int32) : Met l yX8_key (ws_ yX8_key cX8_key 4 (some .int)) { frames := 0, cells := 0, slots := 0, locals := 0 } (va_Pc [.ref a, .int x, .int y, .int z] (fun U => va_P D vcl [(a, .inr (ci, fs))] U.heap ∧ va_K D vcl [] U)) (rQ (some (.int (y)))) 0 0 (fun _ => False) := by
  refine g_entry (by decide) (Nat.le_of_ble_eq_true rfl) ?_
  intro p e s m args below meth c ls hx hb hml hown hts hlk hr hB hl _
  obtain ⟨hP, hK⟩ := hB
  have hl : lv_has ls 4 [(0, .ref a), (1, .int x), (2, .int y), (3, .int z)] := hl
  have hown : s.vm.findClass RX8 = some m.cls := hown
  refine lv_iload_n hx hb dX8_key_0 rfl (lv_at hl 2 rfl) ?_
  exact rq_int hx hb hlk hr dX8_key_1

theorem tX10_key (l : Launch) (D : va_G) (a ci : Nat) (C : String) (T : u_T) (N : Nat) (hc : vcl[ci]? = some (C, T, N)) (fs : List Value) (x : Int32) (y : Int32) (z : Int32) : Met l yX10_key (ws_ yX10_key cX10_key 4 (some .int)) { frames := 0, cells := 0, slots := 0, locals := 0 } (va_Pc [.ref a, .int x, .int y, .int z] (fun U => va_P D vcl [(a, .inr (ci, fs))] U.heap ∧ va_K D vcl [] U)) (rQ (some (.int (x)))) 0 0 (fun _ => False) := by
  refine g_entry (by decide) (Nat.le_of_ble_eq_true rfl) ?_
  intro p e s m args below meth c ls hx hb hml hown hts hlk hr hB hl _
  obtain ⟨hP, hK⟩ := hB
  have hl : lv_has ls 4 [(0, .ref a), (1, .int x), (2, .int y), (3, .int z)] := hl
  have hown : s.vm.findClass RX10 = some m.cls := hown
  refine lv_iload_n hx hb dX10_key_0 rfl (lv_at hl 1 rfl) ?_
  exact rq_int hx hb hlk hr dX10_key_1

theorem tX8_pays (l : Launch) (D : va_G) (a ci : Nat) (C : String) (T : u_T) (N : Nat) (hc : vcl[ci]? = some (C, T, N)) (fs : List Value) (x : Int32) : Met l yX8_pays (ws_ yX8_pays cX8_pays 2 (some .int)) { frames := 0, cells := 0, slots := 0, locals := 0 } (va_Pc [.ref a, .int x] (fun U => va_P D vcl [(a, .inr (ci, fs))] U.heap ∧ va_K D vcl [] U)) (rQ (some (.int (0)))) 0 0 (fun _ => False) := by
  refine g_entry (by decide) (Nat.le_of_ble_eq_true rfl) ?_
  intro p e s m args below meth c ls hx hb hml hown hts hlk hr hB hl _
  obtain ⟨hP, hK⟩ := hB
  have hl : lv_has ls 2 [(0, .ref a), (1, .int x)] := hl
  have hown : s.vm.findClass RX8 = some m.cls := hown
  refine lv_iconst (v := 0) hx hb dX8_pays_0 (by decide) ?_
  exact rq_int hx hb hlk hr dX8_pays_1

theorem tX9_pays (l : Launch) (D : va_G) (a ci : Nat) (C : String) (T : u_T) (N : Nat) (hc : vcl[ci]? = some (C, T, N)) (fs : List Value) (x : Int32) : Met l yX9_pays (ws_ yX9_pays cX9_pays 2 (some .int)) { frames := 0, cells := 0, slots := 0, locals := 0 } (va_Pc [.ref a, .int x] (fun U => va_P D vcl [(a, .inr (ci, fs))] U.heap ∧ va_K D vcl [] U)) (rQ (some (.int (x)))) 0 0 (fun _ => False) := by
  refine g_entry (by decide) (Nat.le_of_ble_eq_true rfl) ?_
  intro p e s m args below meth c ls hx hb hml hown hts hlk hr hB hl _
  obtain ⟨hP, hK⟩ := hB
  have hl : lv_has ls 2 [(0, .ref a), (1, .int x)] := hl
  have hown : s.vm.findClass RX9 = some m.cls := hown
  refine lv_iload_n hx hb dX9_pays_0 rfl (lv_at hl 1 rfl) ?_
  exact rq_int hx hb hlk hr dX9_pays_1

theorem tX8_spares (l : Launch) (D : va_G) (a ci : Nat) (C : String) (T : u_T) (N : Nat) (hc : vcl[ci]? = some (C, T, N)) (fs : List Value) (x : Int32) : Met l yX8_spares (ws_ yX8_spares cX8_spares 2 (some .int)) { frames := 0, cells := 0, slots := 0, locals := 0 } (va_Pc [.ref a, .int x] (fun U => va_P D vcl [(a, .inr (ci, fs))] U.heap ∧ va_K D vcl [] U)) (rQ (some (.int (0)))) 0 0 (fun _ => False) := by
  refine g_entry (by decide) (Nat.le_of_ble_eq_true rfl) ?_
  intro p e s m args below meth c ls hx hb hml hown hts hlk hr hB hl _
  obtain ⟨hP, hK⟩ := hB
  have hl : lv_has ls 2 [(0, .ref a), (1, .int x)] := hl
  have hown : s.vm.findClass RX8 = some m.cls := hown
  refine lv_iconst (v := 0) hx hb dX8_spares_0 (by decide) ?_
  exact rq_int hx hb hlk hr dX8_spares_1

theorem tX12_spares (l : Launch) (D : va_G) (a ci : Nat) (C : String) (T : u_T) (N : Nat) (hc : vcl[ci]? = some (C, T, N)) (fs : List Value) (x : Int32) : Met l yX12_spares (ws_ yX12_spares cX12_spares 2 (some .int)) { frames := 0, cells := 0, slots := 0, locals := 0 } (va_Pc [.ref a, .int x] (fun U => va_P D vcl [(a, .inr (ci, fs))] U.heap ∧ va_K D vcl [] U)) (rQ (some (.int (if x ≤ 4 then 0 else 2)))) 0 0 (fun _ => False) := by
  refine g_entry (by decide) (Nat.le_of_ble_eq_true rfl) ?_
  intro p e s m args below meth c ls hx hb hml hown hts hlk hr hB hl _
  obtain ⟨hP, hK⟩ := hB
  have hl : lv_has ls 2 [(0, .ref a), (1, .int x)] := hl
  have hown : s.vm.findClass RX12 = some m.cls := hown
  refine lv_iload_n hx hb dX12_spares_0 rfl (lv_at hl 1 rfl) ?_
  refine lv_iconst (v := 4) hx hb dX12_spares_1 (by decide) ?_
  refine lv_icmp_le (tgt := 9) hx hb dX12_spares_2 (by decide) (fun c_ => ?_) (fun c_ => ?_)
  · rw [if_pos c_]
    refine lv_iconst (v := 0) hx hb dX12_spares_9 (by decide) ?_
    exact rq_int hx hb hlk hr dX12_spares_10
  · rw [if_neg c_]
    refine lv_iconst (v := 2) hx hb dX12_spares_5 (by decide) ?_
    refine lv_goto (tgt := 10) hx hb dX12_spares_6 (by decide) ?_
    exact rq_int hx hb hlk hr dX12_spares_10

theorem tX11_kind (l : Launch) (D : va_G) (a ci : Nat) (C : String) (T : u_T) (N : Nat) (hc : vcl[ci]? = some (C, T, N)) (fs : List Value) : Met l yX11_kind (ws_ yX11_kind cX11_kind 1 (some .int)) { frames := 1, cells := 0, slots := 0, locals := 20 } (va_Pc [.ref a] (fun U => va_P D vcl [(a, .inr (ci, fs))] U.heap ∧ va_K D vcl [] U)) (rQ (some (.int (2 + 1)))) 0 0 (fun _ => False) := by
  refine g_entry (by decide) (Nat.le_of_ble_eq_true rfl) ?_
  intro p e s m args below meth c ls hx hb hml hown hts hlk hr hB hl _
  obtain ⟨hP, hK⟩ := hB
  have hl : lv_has ls 1 [(0, .ref a)] := hl
  have hown : s.vm.findClass RX11 = some m.cls := hown
  refine lv_aload_n hx hb dX11_kind_0 rfl (lv_at hl 0 rfl) ?_
  refine r_call (vrun_call (va_runSU (As := []) (rest := []) (hat := (hK.1 ci _ hc).2) ⟨hx, hb, hml, hown, hts⟩ (tX10_kind l D a ci C T N hc fs ) (va_cwSU 0 hts (lw_SU q950 q1769 q850 q951 q91 q952) rfl rfl rfl (by decide +kernel) ⟨Nat.le_of_ble_eq_true rfl, Nat.le_of_ble_eq_true rfl⟩) ⟨blindK, va_recv hK hP (ci := ci) (q0 := 0) hc rfl, fun U hU hW => ⟨rfl, by rw [hU]; exact hP, va_K.moved hW.alike hK⟩⟩ rfl rfl hl.1 rfl (lv_room (Nat.le_of_ble_eq_true rfl)) dX11_kind_1 ⟨Nat.zero_le _, Nat.zero_le _⟩)) ?_
  refine lv_iconst (v := 1) hx hb dX11_kind_4 (by decide) ?_
  refine lv_iadd hx hb dX11_kind_5 ?_
  exact rq_int hx hb hlk hr dX11_kind_6

theorem tX13_kind (l : Launch) (D : va_G) (a ci : Nat) (C : String) (T : u_T) (N : Nat) (hc : vcl[ci]? = some (C, T, N)) (fs : List Value) : Met l yX13_kind (ws_ yX13_kind cX13_kind 1 (some .int)) { frames := 1, cells := 0, slots := 0, locals := 20 } (va_Pc [.ref a] (fun U => va_P D vcl [(a, .inr (ci, fs))] U.heap ∧ va_K D vcl [] U)) (rQ (some (.int (1 + 4)))) 0 0 (fun _ => False) := by
  refine g_entry (by decide) (Nat.le_of_ble_eq_true rfl) ?_
  intro p e s m args below meth c ls hx hb hml hown hts hlk hr hB hl _
  obtain ⟨hP, hK⟩ := hB
  have hl : lv_has ls 1 [(0, .ref a)] := hl
  have hown : s.vm.findClass RX13 = some m.cls := hown
  refine lv_aload_n hx hb dX13_kind_0 rfl (lv_at hl 0 rfl) ?_
  refine r_call (vrun_call (va_runSU (As := []) (rest := []) (hat := (hK.1 ci _ hc).2) ⟨hx, hb, hml, hown, hts⟩ (tX9_kind l D a ci C T N hc fs ) (va_cwSU 0 hts (lw_SU q960 q1770 q870 q961 q90 q962) rfl rfl rfl (by decide +kernel) ⟨Nat.le_of_ble_eq_true rfl, Nat.le_of_ble_eq_true rfl⟩) ⟨blindK, va_recv hK hP (ci := ci) (q0 := 0) hc rfl, fun U hU hW => ⟨rfl, by rw [hU]; exact hP, va_K.moved hW.alike hK⟩⟩ rfl rfl hl.1 rfl (lv_room (Nat.le_of_ble_eq_true rfl)) dX13_kind_1 ⟨Nat.zero_le _, Nat.zero_le _⟩)) ?_
  refine lv_iconst (v := 4) hx hb dX13_kind_4 (by decide) ?_
  refine lv_iadd hx hb dX13_kind_5 ?_
  exact rq_int hx hb hlk hr dX13_kind_6

theorem tX13_pays (l : Launch) (D : va_G) (a ci : Nat) (C : String) (T : u_T) (N : Nat) (hc : vcl[ci]? = some (C, T, N)) (fs : List Value) (x : Int32) : Met l yX13_pays (ws_ yX13_pays cX13_pays 2 (some .int)) { frames := 1, cells := 0, slots := 0, locals := 21 } (va_Pc [.ref a, .int x] (fun U => va_P D vcl [(a, .inr (ci, fs))] U.heap ∧ va_K D vcl [] U)) (rQ (some (.int (x / 2)))) 0 0 (fun _ => False) := by
  refine g_entry (by decide) (Nat.le_of_ble_eq_true rfl) ?_
  intro p e s m args below meth c ls hx hb hml hown hts hlk hr hB hl _
  obtain ⟨hP, hK⟩ := hB
  have hl : lv_has ls 2 [(0, .ref a), (1, .int x)] := hl
  have hown : s.vm.findClass RX13 = some m.cls := hown
  refine lv_aload_n hx hb dX13_pays_0 rfl (lv_at hl 0 rfl) ?_
  refine lv_iload_n hx hb dX13_pays_1 rfl (lv_at hl 1 rfl) ?_
  refine r_call (vrun_call (va_runSU (As := [.int x]) (rest := []) (hat := (hK.1 ci _ hc).2) ⟨hx, hb, hml, hown, hts⟩ (tX9_pays l D a ci C T N hc fs x) (va_cwSU 1 hts (lw_SU q1039 q1772 q870 q1040 q90 q1041) rfl rfl rfl (by decide +kernel) ⟨Nat.le_of_ble_eq_true rfl, Nat.le_of_ble_eq_true rfl⟩) ⟨blindK, va_recv hK hP (ci := ci) (q0 := 0) hc rfl, fun U hU hW => ⟨rfl, by rw [hU]; exact hP, va_K.moved hW.alike hK⟩⟩ rfl rfl hl.1 rfl (lv_room (Nat.le_of_ble_eq_true rfl)) dX13_pays_2 ⟨Nat.zero_le _, Nat.zero_le _⟩)) ?_
  refine lv_iconst (v := 2) hx hb dX13_pays_5 (by decide) ?_
  refine lv_idiv hx hb dX13_pays_6 (by decide) ?_
  exact rq_int hx hb hlk hr dX13_pays_7

theorem tX11_key (l : Launch) (D : va_G) (a ci : Nat) (C : String) (T : u_T) (N : Nat) (hc : vcl[ci]? = some (C, T, N)) (fs : List Value) (x : Int32) (y : Int32) (z : Int32) : Met l yX11_key (ws_ yX11_key cX11_key 4 (some .int)) { frames := 1, cells := 0, slots := 0, locals := 23 } (va_Pc [.ref a, .int x, .int y, .int z] (fun U => va_P D vcl [(a, .inr (ci, fs))] U.heap ∧ va_K D vcl [] U)) (rQ (some (.int ((5 * x + 3) - (5 * x + 3) / 17 * 17)))) 0 0 (fun _ => False) := by
  refine g_entry (by decide) (Nat.le_of_ble_eq_true rfl) ?_
  intro p e s m args below meth c ls hx hb hml hown hts hlk hr hB hl _
  obtain ⟨hP, hK⟩ := hB
  have hl : lv_has ls 4 [(0, .ref a), (1, .int x), (2, .int y), (3, .int z)] := hl
  have hown : s.vm.findClass RX11 = some m.cls := hown
  refine lv_iconst (v := 5) hx hb dX11_key_0 (by decide) ?_
  refine lv_aload_n hx hb dX11_key_1 rfl (lv_at hl 0 rfl) ?_
  refine lv_iload_n hx hb dX11_key_2 rfl (lv_at hl 1 rfl) ?_
  refine lv_iload_n hx hb dX11_key_3 rfl (lv_at hl 2 rfl) ?_
  refine lv_iload_n hx hb dX11_key_4 rfl (lv_at hl 3 rfl) ?_
  refine r_call (vrun_call (va_runSU (As := [.int x, .int y, .int z]) (rest := [.int 5]) (hat := (hK.1 ci _ hc).2) ⟨hx, hb, hml, hown, hts⟩ (tX10_key l D a ci C T N hc fs x y z) (va_cwSU 3 hts (lw_SU q996 q1771 q850 q997 q91 q998) rfl rfl rfl (by decide +kernel) ⟨Nat.le_of_ble_eq_true rfl, Nat.le_of_ble_eq_true rfl⟩) ⟨blindK, va_recv hK hP (ci := ci) (q0 := 0) hc rfl, fun U hU hW => ⟨rfl, by rw [hU]; exact hP, va_K.moved hW.alike hK⟩⟩ rfl rfl hl.1 rfl (lv_room (Nat.le_of_ble_eq_true rfl)) dX11_key_5 ⟨Nat.zero_le _, Nat.zero_le _⟩)) ?_
  refine lv_imul hx hb dX11_key_8 ?_
  refine lv_iconst (v := 3) hx hb dX11_key_9 (by decide) ?_
  refine lv_iadd hx hb dX11_key_10 ?_
  refine lv_bipush (v := 17) hx hb dX11_key_11 (by decide) ?_
  refine lv_irem hx hb dX11_key_13 (by decide) ?_
  exact rq_int hx hb hlk hr dX11_key_14

theorem tX12_key (l : Launch) (D : va_G) (a ci : Nat) (C : String) (T : u_T) (N : Nat) (hc : vcl[ci]? = some (C, T, N)) (fs : List Value) (x : Int32) (y : Int32) (z : Int32) : Met l yX12_key (ws_ yX12_key cX12_key 4 (some .int)) { frames := 1, cells := 0, slots := 0, locals := 23 } (va_Pc [.ref a, .int x, .int y, .int z] (fun U => va_P D vcl [(a, .inr (ci, fs))] U.heap ∧ va_K D vcl [] U)) (rQ (some (.int (-y)))) 0 0 (fun _ => False) := by
  refine g_entry (by decide) (Nat.le_of_ble_eq_true rfl) ?_
  intro p e s m args below meth c ls hx hb hml hown hts hlk hr hB hl _
  obtain ⟨hP, hK⟩ := hB
  have hl : lv_has ls 4 [(0, .ref a), (1, .int x), (2, .int y), (3, .int z)] := hl
  have hown : s.vm.findClass RX12 = some m.cls := hown
  refine lv_aload_n hx hb dX12_key_0 rfl (lv_at hl 0 rfl) ?_
  refine lv_iload_n hx hb dX12_key_1 rfl (lv_at hl 1 rfl) ?_
  refine lv_iload_n hx hb dX12_key_2 rfl (lv_at hl 2 rfl) ?_
  refine lv_iload_n hx hb dX12_key_3 rfl (lv_at hl 3 rfl) ?_
  refine r_call (vrun_call (va_runSU (As := [.int x, .int y, .int z]) (rest := []) (hat := (hK.1 ci _ hc).2) ⟨hx, hb, hml, hown, hts⟩ (tX8_key l D a ci C T N hc fs x y z) (va_cwSU 3 hts (lw_SU q1002 q992 q860 q990 q89 q1011) rfl rfl rfl (by decide +kernel) ⟨Nat.le_of_ble_eq_true rfl, Nat.le_of_ble_eq_true rfl⟩) ⟨blindK, va_recv hK hP (ci := ci) (q0 := 0) hc rfl, fun U hU hW => ⟨rfl, by rw [hU]; exact hP, va_K.moved hW.alike hK⟩⟩ rfl rfl hl.1 rfl (lv_room (Nat.le_of_ble_eq_true rfl)) dX12_key_4 ⟨Nat.zero_le _, Nat.zero_le _⟩)) ?_
  refine lv_ineg hx hb dX12_key_7 ?_
  exact rq_int hx hb hlk hr dX12_key_8

/-- super.key of a Sorted: named in Tolled, found in Way -/
theorem tX13_key (l : Launch) (D : va_G) (a ci : Nat) (C : String) (T : u_T) (N : Nat) (hc : vcl[ci]? = some (C, T, N)) (fs : List Value) (x : Int32) (y : Int32) (z : Int32) : Met l yX13_key (ws_ yX13_key cX13_key 4 (some .int)) { frames := 1, cells := 0, slots := 0, locals := 23 } (va_Pc [.ref a, .int x, .int y, .int z] (fun U => va_P D vcl [(a, .inr (ci, fs))] U.heap ∧ va_K D vcl [] U)) (rQ (some (.int (y - 3 * z)))) 0 0 (fun _ => False) := by
  refine g_entry (by decide) (Nat.le_of_ble_eq_true rfl) ?_
  intro p e s m args below meth c ls hx hb hml hown hts hlk hr hB hl _
  obtain ⟨hP, hK⟩ := hB
  have hl : lv_has ls 4 [(0, .ref a), (1, .int x), (2, .int y), (3, .int z)] := hl
  have hown : s.vm.findClass RX13 = some m.cls := hown
  refine lv_aload_n hx hb dX13_key_0 rfl (lv_at hl 0 rfl) ?_
  refine lv_iload_n hx hb dX13_key_1 rfl (lv_at hl 1 rfl) ?_
  refine lv_iload_n hx hb dX13_key_2 rfl (lv_at hl 2 rfl) ?_
  refine lv_iload_n hx hb dX13_key_3 rfl (lv_at hl 3 rfl) ?_
  refine r_call (v := some (.int y)) (rest := []) (a := #[]) ?_ ?_
  · intro T0 hT X
    have hcode := hts _ q1011
    obtain ⟨mk, methM, hnamed, hmethM, hstM, habM⟩ := Cond.instanceMethod_spec (hts _ q990)
    obtain ⟨methM', cM, hmethM', -, -, -, -, -, -, hsigM⟩ := Cond.code_spec hnamed hcode
    cases hmethM.symm.trans hmethM'
    obtain ⟨ps, dk, kp, hps, hdk, hkp, hsuper, -, -, hnid⟩ := Cond.superclass_spec hown (hts _ q870)
    obtain ⟨ps2, dk2, kp2, hps2, hdk2, hkp2, hsuper2, -, -, hnid2⟩ := Cond.superclass_spec hps (hts _ q830)
    have hpm : ps2 = mk.cls := Option.some.inj (hps2.symm.trans (findClass_of_methodNamed hnamed))
    have hsub : s.vm.isSubclass ps mk.cls = true := by
      have hlt : ps < s.vm.classes.size := (Array.getElem?_eq_some_iff.mp hdk2).1
      obtain ⟨k0, hk0⟩ : ∃ k0, s.vm.classes.size = k0 + 1 := ⟨s.vm.classes.size - 1, (Nat.sub_add_cancel (Nat.lt_of_le_of_lt (Nat.zero_le _) hlt)).symm⟩
      simp [Vm.isSubclass, Vm.isSubclassAux, hk0, hdk2, hsuper2, hpm]
    obtain ⟨cellB, hcB, hoB, hclB⟩ := va_recv hK hP (ci := ci) (q0 := 0) hc rfl
    obtain ⟨hfc, kB, hkB, -⟩ := (hK.1 ci _ hc).2
    have e9 : cellB.cls = _ := Option.some.inj (hclB.symm.trans hfc)
    have hkB : s.vm.classes[cellB.cls]? = some kB := by rw [e9]; exact hkB
    have hlen : ([.int x, .int y, .int z] : List Value).length = methM.sig.parameters.length := by
      have h9 : parseMethodDescriptor "(III)I" = some methM.sig := hsigM
      have h8 : (parseMethodDescriptor "(III)I").map (fun d => d.parameters.length) = some 3 := by decide +kernel
      rw [h9] at h8
      exact (Option.some.inj h8).symm
    obtain ⟨vm₁, X₁, hstep₁⟩ := X.invokespecialUp hx (x := ⟨"GateRoad$Tolled", "key", "(III)I"⟩) (owner := "GateRoad$Way") hown (hts _ q1007) (hts _ q1008) hnamed hmethM hstM habM (by decide) hdk hnid hps hsuper hsub (a := a) (cell := cellB) (by rw [hT]; exact hcB)
      (fun z h => by rw [h] at hoB; cases hoB) hkB (g := F0 m 4 ls [.int z, .int y, .int x, .ref a]) rfl (argsL := [.int x, .int y, .int z]) (rest := []) hlen rfl (by rw [hb]; exact dX13_key_4)
    have hKb : Back l { frames := 1, cells := 0, slots := 0, locals := 23 } p e below s args yX8_key 3 8 (PreOf { frames := 1, cells := 0, slots := 0, locals := 23 } 0 0 (va_Pc [.ref a, .int x, .int y, .int z] (fun U => va_P D vcl [(a, .inr (ci, fs))] U.heap ∧ va_K D vcl [] U))) (PostOf (rQ (some (.int y))) 0 0 (fun _ => False)) :=
      back_of (bytes := cX8_key) (maxL := 4) (ret := some .int) (tX8_key l D a ci C T N hc fs x y z) blindK rfl rfl (Nat.le_of_ble_eq_true rfl) (Nat.le_of_ble_eq_true rfl) (pay_in hts (lw_meth q1011)) List.mem_cons_self (fun a' U hW => word_at hW (Or.inl (by first | rfl | simp [Cond.onTables, Cond.keeps, Cond.steady])) (hts _ q89))
    obtain ⟨v, ⟨U', l2, c2, s2⟩, X', ⟨g', mk', t, L, e1, e2, hq, h1, hL, h2, h3⟩, hsteps⟩ := hKb m meth c ⟨T0.setVm vm₁, _, _, _⟩ (F0 m 4 ls []) (.invokespecial 11) mk #[.ref a, .int x, .int y, .int z] X₁ rfl (hl.1.trans hml.symm) (by rw [hb]; exact dX13_key_4) (Nat.le_of_ble_eq_true rfl) (X₁.named hnamed) ⟨Nat.zero_le _, Nat.zero_le _, rfl, by show va_P _ _ _ T0.heap; rw [hT]; exact hP, va_K.moved X₁.warmed.alike hK⟩
    dsimp only [Pt.U, Pt.locs, Pt.cells, Pt.slots] at X' e1 e2 h1 h2 h3 hsteps
    subst h1; subst h2; subst h3
    exact ⟨v, (T0.setVm vm₁).calling g' mk' #[.ref a, .int x, .int y, .int z], t, U', _, hT, X', hL, e1, hq, fun target h => hstep₁ target (by rw [doInvoke_state]; exact hsteps.trans h)⟩
  refine lv_iconst (v := 3) hx hb dX13_key_7 (by decide) ?_
  refine lv_iload_n hx hb dX13_key_8 rfl (lv_at hl 3 rfl) ?_
  refine lv_imul hx hb dX13_key_9 ?_
  refine lv_isub hx hb dX13_key_10 ?_
  exact rq_int hx hb hlk hr dX13_key_11
