/-! ===== constructors of Odd and Fault; by gen/odd.py ===== -/
set_option maxRecDepth 100000
def zTh (A : Nat → Prop) (V : State) (H : Heap) : Prop := va_Zq "java/lang/Throwable" "UNASSIGNED_STACK" "[Ljava/lang/StackTraceElement;" A V H ∧ va_Zq "java/lang/Throwable" "SUPPRESSED_SENTINEL" "Ljava/util/List;" A V H
theorem zTh.moved {A : Nat → Prop} {u U : State} {H : Heap} (hvm : u.vm.Alike U.vm) (h : zTh A u H) : zTh A U H := ⟨h.1.moved hvm, h.2.moved hvm⟩
theorem zTh.kept {A : Nat → Prop} {U : State} {H H1 : Heap} (h : zTh A U H) (hq : ∀ a : Nat, a < H.size → ¬ A a → H1[a]? = H[a]?) : zTh A U H1 := ⟨h.1.kept hq, h.2.kept hq⟩
theorem zTh.narrow {A B : Nat → Prop} {U : State} {H : Heap} (h : zTh A U H) (hAB : ∀ q, B q → A q) : zTh B U H := ⟨h.1.narrow hAB, h.2.narrow hAB⟩
theorem va_Zq.val {C n d : String} {A : Nat → Prop} {U : State} {H : Heap} (h : va_Zq C n d A U H) : ∃ v : Value, va_Z C n d v A U H ∧ (v = .null ∨ ∃ t, v = .ref t) := by
  rcases h with h | ⟨t, h⟩
  · exact ⟨_, h, Or.inl rfl⟩
  · exact ⟨_, h, Or.inr ⟨t, rfl⟩⟩
def oA (a sz : Nat) : Nat → Prop := fun q => q = a ∨ sz ≤ q
def oFs (v : Int32) : List Value := [.null, .null, .null, .null, .null, .int 0, .int v]
def oP (D : va_G) (a ci sz : Nat) (V : State) : Prop := (V.heap.size = sz ∧ va_P D vcl [(a, .inr (ci, oFs 0))] V.heap) ∧ va_K D vcl [] V ∧ zTh (oA a sz) V V.heap
def oQ (D : va_G) (a ci sz : Nat) (v : Int32) : Array Value → State → Outcome → State → Prop := va_Qv (fun _ : Unit => True) (fun _ t => va_P D vcl [(a, .inr (ci, oFs v))] t.heap) (oA a sz)
theorem o_blind {as : List Value} {D : va_G} {a ci sz : Nat} : FrameBlind (va_Pc as (oP D a ci sz)) := fun a V g mk q => ⟨q.1, q.2.1, va_K.moved (u := V) (U := V.calling g mk a) (Vm.Alike.refl V.vm) q.2.2.1, q.2.2.2.moved (Vm.Alike.refl V.vm)⟩

set_option maxHeartbeats 4000000 in
theorem tJ12_init_X14 (l : Launch) (D : va_G) (a sz : Nat) : Met l yJ12_init_2 (ws_ yJ12_init_2 cJ12_init_2 5 none) { frames := 1, cells := 0, slots := 0, locals := 12 } (va_Pc [.ref a, .null, .null, .int 0, .int 0] (oP D a 15 sz)) (oQ D a 15 sz 0) 0 0 (oA a sz) := by
  refine g_entry (by decide) (Nat.le_of_ble_eq_true rfl) ?_
  intro p e s m args below meth c ls hx hb hml hown hts hlk hr hB hl hnm
  obtain ⟨⟨hsz, hP⟩, hK, hz1, hz2⟩ := hB
  subst hsz
  obtain ⟨v1, hz1, hv1⟩ := hz1.val
  obtain ⟨v2, hz2, hv2⟩ := hz2.val
  have hl : lv_has ls 5 [(0, .ref a), (1, .null), (2, .null), (3, .int 0), (4, .int 0)] := hl
  have hown : s.vm.findClass "java/lang/Throwable" = some m.cls := hown
  have hP : va_P D vcl [(a, .inr (15, [.null, .null, .null, .null, .null, .int 0, .int 0]))] s.heap := hP
  have hD : va_D (oA a s.heap.size) [(a, .inr (15, [.null, .null, .null, .null, .null, .int 0, .int 0]))] := vd_1 (Or.inl rfl)
  have hS : va_S (oA a s.heap.size) s.heap s.heap [] := va_S.rf
  refine lv_aload_n hx hb dJ12_init_2_0 rfl (lv_at hl 0 rfl) ?_
  refine W.objInit hx hb hown (hts _ q458) (hts _ q107) (hts _ q108) rfl (by rw [hml]; exact hl.1) rfl dJ12_init_2_1 (Nat.le_of_ble_eq_true rfl) (Nat.le_of_ble_eq_true rfl) ?_
  refine W.eq (g2 := F0 m 4 ls []) rfl ?_
  refine lv_aload_n hx hb dJ12_init_2_4 rfl (lv_at hl 0 rfl) ?_
  refine lv_aload_n hx hb dJ12_init_2_5 rfl (lv_at hl 0 rfl) ?_
  refine va_put (D := D) (ci := 15) (v := .ref a) (ty := tyX14 0) (C := RX14) (T := TX14) (N := 7) hx hb hts in_X14 tyX14 tyX14_ok nmX14 hown hK hP hD hS 0 rfl rfl 0 (by decide) (hts _ q489) (fun _ h9 => h9) rfl (by decide +kernel) (rfl) (rfl) (Nat.le_of_ble_eq_true rfl) dJ12_init_2_6 (fun H locs hP hD hS => ?_)
  have hP : va_P D vcl [(a, .inr (15, [.ref a, .null, .null, .null, .null, .int 0, .int 0]))] H := hP
  have hD : va_D (oA a s.heap.size) [(a, .inr (15, [.ref a, .null, .null, .null, .null, .int 0, .int 0]))] := hD
  refine lv_aload_n hx hb dJ12_init_2_9 rfl (lv_at hl 0 rfl) ?_
  refine va_gets hx hb hz1 hS hown (hts _ q459) (fun _ h9 => h9) dJ12_init_2_10 ?_
  refine va_put (D := D) (ci := 15) (v := v1) (ty := tyX14 1) (C := RX14) (T := TX14) (N := 7) hx hb hts in_X14 tyX14 tyX14_ok nmX14 hown hK hP hD hS 0 rfl rfl 1 (by decide) (hts _ q490) (fun _ h9 => h9) rfl (by decide +kernel) (by rcases hv1 with h | ⟨t, h⟩ <;> subst h <;> rfl) (by rcases hv1 with h | ⟨t, h⟩ <;> subst h <;> rfl) (Nat.le_of_ble_eq_true rfl) dJ12_init_2_13 (fun H locs hP hD hS => ?_)
  have hP : va_P D vcl [(a, .inr (15, [.ref a, v1, .null, .null, .null, .int 0, .int 0]))] H := hP
  have hD : va_D (oA a s.heap.size) [(a, .inr (15, [.ref a, v1, .null, .null, .null, .int 0, .int 0]))] := hD
  refine lv_aload_n hx hb dJ12_init_2_16 rfl (lv_at hl 0 rfl) ?_
  refine va_gets hx hb hz2 hS hown (hts _ q461) (fun _ h9 => h9) dJ12_init_2_17 ?_
  refine va_put (D := D) (ci := 15) (v := v2) (ty := tyX14 2) (C := RX14) (T := TX14) (N := 7) hx hb hts in_X14 tyX14 tyX14_ok nmX14 hown hK hP hD hS 0 rfl rfl 2 (by decide) (hts _ q491) (fun _ h9 => h9) rfl (by decide +kernel) (by rcases hv2 with h | ⟨t, h⟩ <;> subst h <;> rfl) (by rcases hv2 with h | ⟨t, h⟩ <;> subst h <;> rfl) (Nat.le_of_ble_eq_true rfl) dJ12_init_2_20 (fun H locs hP hD hS => ?_)
  have hP : va_P D vcl [(a, .inr (15, [.ref a, v1, v2, .null, .null, .int 0, .int 0]))] H := hP
  have hD : va_D (oA a s.heap.size) [(a, .inr (15, [.ref a, v1, v2, .null, .null, .int 0, .int 0]))] := hD
  refine lv_iload hx hb dJ12_init_2_23 (lv_at hl 4 rfl) ?_
  refine lv_if_eq (tgt := 36) hx hb dJ12_init_2_25 (by decide) (fun _ => ?_) (fun h9 => absurd rfl h9)
  refine lv_aload_n hx hb dJ12_init_2_36 rfl (lv_at hl 0 rfl) ?_
  refine lv_null hx hb dJ12_init_2_37 ?_
  refine va_put (D := D) (ci := 15) (v := .null) (ty := tyX14 1) (C := RX14) (T := TX14) (N := 7) hx hb hts in_X14 tyX14 tyX14_ok nmX14 hown hK hP hD hS 0 rfl rfl 1 (by decide) (hts _ q490) (fun _ h9 => h9) rfl (by decide +kernel) (rfl) (rfl) (Nat.le_of_ble_eq_true rfl) dJ12_init_2_38 (fun H locs hP hD hS => ?_)
  have hP : va_P D vcl [(a, .inr (15, [.ref a, .null, v2, .null, .null, .int 0, .int 0]))] H := hP
  have hD : va_D (oA a s.heap.size) [(a, .inr (15, [.ref a, .null, v2, .null, .null, .int 0, .int 0]))] := hD
  refine lv_aload_n hx hb dJ12_init_2_41 rfl (lv_at hl 0 rfl) ?_
  refine lv_aload_nN hx hb dJ12_init_2_42 rfl (lv_at hl 1 rfl) ?_
  refine va_put (D := D) (ci := 15) (v := .null) (ty := tyX14 3) (C := RX14) (T := TX14) (N := 7) hx hb hts in_X14 tyX14 tyX14_ok nmX14 hown hK hP hD hS 0 rfl rfl 3 (by decide) (hts _ q488) (fun _ h9 => h9) rfl (by decide +kernel) (rfl) (rfl) (Nat.le_of_ble_eq_true rfl) dJ12_init_2_43 (fun H locs hP hD hS => ?_)
  have hP : va_P D vcl [(a, .inr (15, [.ref a, .null, v2, .null, .null, .int 0, .int 0]))] H := hP
  have hD : va_D (oA a s.heap.size) [(a, .inr (15, [.ref a, .null, v2, .null, .null, .int 0, .int 0]))] := hD
  refine lv_aload_n hx hb dJ12_init_2_46 rfl (lv_at hl 0 rfl) ?_
  refine lv_aload_nN hx hb dJ12_init_2_47 rfl (lv_at hl 2 rfl) ?_
  refine va_put (D := D) (ci := 15) (v := .null) (ty := tyX14 0) (C := RX14) (T := TX14) (N := 7) hx hb hts in_X14 tyX14 tyX14_ok nmX14 hown hK hP hD hS 0 rfl rfl 0 (by decide) (hts _ q489) (fun _ h9 => h9) rfl (by decide +kernel) (rfl) (rfl) (Nat.le_of_ble_eq_true rfl) dJ12_init_2_48 (fun H locs hP hD hS => ?_)
  have hP : va_P D vcl [(a, .inr (15, [.null, .null, v2, .null, .null, .int 0, .int 0]))] H := hP
  have hD : va_D (oA a s.heap.size) [(a, .inr (15, [.null, .null, v2, .null, .null, .int 0, .int 0]))] := hD
  refine lv_iload_n hx hb dJ12_init_2_51 rfl (lv_at hl 3 rfl) ?_
  refine lv_if_ne (tgt := 60) hx hb dJ12_init_2_52 (by decide) (fun h9 => absurd rfl h9) (fun _ => ?_)
  refine lv_aload_n hx hb dJ12_init_2_55 rfl (lv_at hl 0 rfl) ?_
  refine lv_null hx hb dJ12_init_2_56 ?_
  refine va_put (D := D) (ci := 15) (v := .null) (ty := tyX14 2) (C := RX14) (T := TX14) (N := 7) hx hb hts in_X14 tyX14 tyX14_ok nmX14 hown hK hP hD hS 0 rfl rfl 2 (by decide) (hts _ q491) (fun _ h9 => h9) rfl (by decide +kernel) (rfl) (rfl) (Nat.le_of_ble_eq_true rfl) dJ12_init_2_57 (fun H locs hP hD hS => ?_)
  have hP : va_P D vcl [(a, .inr (15, [.null, .null, .null, .null, .null, .int 0, .int 0]))] H := hP
  have hD : va_D (oA a s.heap.size) [(a, .inr (15, [.null, .null, .null, .null, .null, .int 0, .int 0]))] := hD
  exact W.vret hx hb hr (fun t ht hW => ⟨⟨(), rfl, trivial, by show va_P _ _ _ t.heap; rw [ht]; exact hP⟩, hS.F ht⟩) hS.2.2 dJ12_init_2_60 hlk

set_option maxHeartbeats 4000000 in
theorem tJ13_init_X14 (l : Launch) (D : va_G) (a sz : Nat) : Met l yJ13_init (ws_ yJ13_init cJ13_init 5 none) { frames := 2, cells := 0, slots := 0, locals := 36 } (va_Pc [.ref a, .null, .null, .int 0, .int 0] (oP D a 15 sz)) (oQ D a 15 sz 0) 0 0 (oA a sz) := by
  refine g_entry (by decide) (Nat.le_of_ble_eq_true rfl) ?_
  intro p e s m args below meth c ls hx hb hml hown hts hlk hr hB hl hnm
  obtain ⟨⟨hsz, hP⟩, hK, hz⟩ := hB
  subst hsz
  have hl : lv_has ls 5 [(0, .ref a), (1, .null), (2, .null), (3, .int 0), (4, .int 0)] := hl
  have hown : s.vm.findClass "java/lang/Exception" = some m.cls := hown
  refine lv_aload_n hx hb dJ13_init_0 rfl (lv_at hl 0 rfl) ?_
  refine lv_aload_nN hx hb dJ13_init_1 rfl (lv_at hl 1 rfl) ?_
  refine lv_aload_nN hx hb dJ13_init_2 rfl (lv_at hl 2 rfl) ?_
  refine lv_iload_n hx hb dJ13_init_3 rfl (lv_at hl 3 rfl) ?_
  refine lv_iload hx hb dJ13_init_4 (lv_at hl 4 rfl) ?_
  refine va_callv (va_runI (As := [.null, .null, .int 0, .int 0]) (rest := []) ⟨hx, hb, hml, hown, hts⟩ (tJ12_init_X14 l D a s.heap.size) (cwI 4 hts (lw_meth q484) rfl rfl rfl (hts _ q80) (hts _ q482) (hts _ q483) rfl (by decide +kernel) ⟨Nat.le_of_ble_eq_true rfl, Nat.le_of_ble_eq_true rfl⟩) ⟨o_blind, fun U hU hW => ⟨rfl, ⟨by rw [hU], by rw [hU]; exact hP⟩, va_K.moved hW.alike hK, by rw [hU]; exact hz.moved hW.alike⟩⟩ rfl rfl hl.1 rfl (lv_room (Nat.le_of_ble_eq_true rfl)) dJ13_init_6 ⟨Nat.le_of_ble_eq_true rfl, Nat.le_of_ble_eq_true rfl⟩) (va_S.rf (A := oA a s.heap.size)) (fun q _ h => h) (fun q h => h) (fun b t H1 locs1 ht hvm hb2 hB _ _ hS => ?_)
  exact W.vret hx hb hr (fun t2 ht2 hW => ⟨⟨(), rfl, trivial, by show va_P _ _ _ t2.heap; rw [ht2, ← ht]; exact hB⟩, hS.F ht2⟩) hS.2.2 dJ13_init_9 hlk

set_option maxHeartbeats 4000000 in
theorem tJ14_init_X14 (l : Launch) (D : va_G) (a sz : Nat) : Met l yJ14_init (ws_ yJ14_init cJ14_init 5 none) { frames := 3, cells := 0, slots := 0, locals := 60 } (va_Pc [.ref a, .null, .null, .int 0, .int 0] (oP D a 15 sz)) (oQ D a 15 sz 0) 0 0 (oA a sz) := by
  refine g_entry (by decide) (Nat.le_of_ble_eq_true rfl) ?_
  intro p e s m args below meth c ls hx hb hml hown hts hlk hr hB hl hnm
  obtain ⟨⟨hsz, hP⟩, hK, hz⟩ := hB
  subst hsz
  have hl : lv_has ls 5 [(0, .ref a), (1, .null), (2, .null), (3, .int 0), (4, .int 0)] := hl
  have hown : s.vm.findClass "java/lang/RuntimeException" = some m.cls := hown
  refine lv_aload_n hx hb dJ14_init_0 rfl (lv_at hl 0 rfl) ?_
  refine lv_aload_nN hx hb dJ14_init_1 rfl (lv_at hl 1 rfl) ?_
  refine lv_aload_nN hx hb dJ14_init_2 rfl (lv_at hl 2 rfl) ?_
  refine lv_iload_n hx hb dJ14_init_3 rfl (lv_at hl 3 rfl) ?_
  refine lv_iload hx hb dJ14_init_4 (lv_at hl 4 rfl) ?_
  refine va_callv (va_runI (As := [.null, .null, .int 0, .int 0]) (rest := []) ⟨hx, hb, hml, hown, hts⟩ (tJ13_init_X14 l D a s.heap.size) (cwI 4 hts (lw_meth q481) rfl rfl rfl (hts _ q81) (hts _ q479) (hts _ q480) rfl (by decide +kernel) ⟨Nat.le_of_ble_eq_true rfl, Nat.le_of_ble_eq_true rfl⟩) ⟨o_blind, fun U hU hW => ⟨rfl, ⟨by rw [hU], by rw [hU]; exact hP⟩, va_K.moved hW.alike hK, by rw [hU]; exact hz.moved hW.alike⟩⟩ rfl rfl hl.1 rfl (lv_room (Nat.le_of_ble_eq_true rfl)) dJ14_init_6 ⟨Nat.le_of_ble_eq_true rfl, Nat.le_of_ble_eq_true rfl⟩) (va_S.rf (A := oA a s.heap.size)) (fun q _ h => h) (fun q h => h) (fun b t H1 locs1 ht hvm hb2 hB _ _ hS => ?_)
  exact W.vret hx hb hr (fun t2 ht2 hW => ⟨⟨(), rfl, trivial, by show va_P _ _ _ t2.heap; rw [ht2, ← ht]; exact hB⟩, hS.F ht2⟩) hS.2.2 dJ14_init_9 hlk

set_option maxHeartbeats 4000000 in
theorem tX14_init (l : Launch) (D : va_G) (a sz : Nat) (v : Int32) : Met l yX14_init (ws_ yX14_init cX14_init 2 none) { frames := 4, cells := 0, slots := 0, locals := 84 } (va_Pc [.ref a, .int v] (oP D a 15 sz)) (oQ D a 15 sz v) 0 0 (oA a sz) := by
  refine g_entry (by decide) (Nat.le_of_ble_eq_true rfl) ?_
  intro p e s m args below meth c ls hx hb hml hown hts hlk hr hB hl hnm
  obtain ⟨⟨hsz, hP⟩, hK, hz⟩ := hB
  subst hsz
  have hl : lv_has ls 2 [(0, .ref a), (1, .int v)] := hl
  have hown : s.vm.findClass "GateRoad$Odd" = some m.cls := hown
  have hin2 : meth.name = "<init>" := hnm
  refine lv_aload_n hx hb dX14_init_0 rfl (lv_at hl 0 rfl) ?_
  refine lv_null hx hb dX14_init_1 ?_
  refine lv_null hx hb dX14_init_2 ?_
  refine lv_iconst (v := 0) hx hb dX14_init_3 (by decide) ?_
  refine lv_iconst (v := 0) hx hb dX14_init_4 (by decide) ?_
  refine va_callv (va_runI (As := [.null, .null, .int 0, .int 0]) (rest := []) ⟨hx, hb, hml, hown, hts⟩ (tJ14_init_X14 l D a s.heap.size) (cwI 4 hts (lw_meth q478) rfl rfl rfl (hts _ q82) (hts _ q1233) (hts _ q477) rfl (by decide +kernel) ⟨Nat.le_of_ble_eq_true rfl, Nat.le_of_ble_eq_true rfl⟩) ⟨o_blind, fun U hU hW => ⟨rfl, ⟨by rw [hU], by rw [hU]; exact hP⟩, va_K.moved hW.alike hK, by rw [hU]; exact hz.moved hW.alike⟩⟩ rfl rfl hl.1 rfl (lv_room (Nat.le_of_ble_eq_true rfl)) dX14_init_5 ⟨Nat.le_of_ble_eq_true rfl, Nat.le_of_ble_eq_true rfl⟩) (va_S.rf (A := oA a s.heap.size)) (fun q _ h => h) (fun q h => h) (fun b t H1 locs1 ht hvm hb2 hB _ _ hS => ?_)
  have hP : va_P D vcl [(a, .inr (15, [.null, .null, .null, .null, .null, .int 0, .int 0]))] H1 := by rw [← ht]; exact hB
  have hD : va_D (oA a s.heap.size) [(a, .inr (15, [.null, .null, .null, .null, .null, .int 0, .int 0]))] := vd_1 (Or.inl rfl)
  refine lv_aload_n hx hb dX14_init_8 rfl (lv_at hl 0 rfl) ?_
  refine lv_iload_n hx hb dX14_init_9 rfl (lv_at hl 1 rfl) ?_
  refine va_putF (D := D) (ci := 15) (v := .int v) (ty := .int) (C := RX14) (T := TX14) (N := 7) hx hb hts in_X14 tyX14 tyX14_ok nmX14 hown hK hP hD hS 0 rfl rfl 6 (by decide) (hts _ q1234) (fun _ h9 => h9) rfl hin2 rfl (by decide +kernel) rfl rfl (Nat.le_of_ble_eq_true rfl) dX14_init_10 (fun H locs hP hD hS => ?_)
  have hP : va_P D vcl [(a, .inr (15, [.null, .null, .null, .null, .null, .int 0, .int v]))] H := hP
  exact W.vret hx hb hr (fun t2 ht2 hW => ⟨⟨(), rfl, trivial, by show va_P _ _ _ t2.heap; rw [ht2]; exact hP⟩, hS.F ht2⟩) hS.2.2 dX14_init_13 hlk

set_option maxHeartbeats 4000000 in
theorem tJ12_init_X3 (l : Launch) (D : va_G) (a sz : Nat) : Met l yJ12_init_2 (ws_ yJ12_init_2 cJ12_init_2 5 none) { frames := 1, cells := 0, slots := 0, locals := 12 } (va_Pc [.ref a, .null, .null, .int 0, .int 0] (oP D a 16 sz)) (oQ D a 16 sz 0) 0 0 (oA a sz) := by
  refine g_entry (by decide) (Nat.le_of_ble_eq_true rfl) ?_
  intro p e s m args below meth c ls hx hb hml hown hts hlk hr hB hl hnm
  obtain ⟨⟨hsz, hP⟩, hK, hz1, hz2⟩ := hB
  subst hsz
  obtain ⟨v1, hz1, hv1⟩ := hz1.val
  obtain ⟨v2, hz2, hv2⟩ := hz2.val
  have hl : lv_has ls 5 [(0, .ref a), (1, .null), (2, .null), (3, .int 0), (4, .int 0)] := hl
  have hown : s.vm.findClass "java/lang/Throwable" = some m.cls := hown
  have hP : va_P D vcl [(a, .inr (16, [.null, .null, .null, .null, .null, .int 0, .int 0]))] s.heap := hP
  have hD : va_D (oA a s.heap.size) [(a, .inr (16, [.null, .null, .null, .null, .null, .int 0, .int 0]))] := vd_1 (Or.inl rfl)
  have hS : va_S (oA a s.heap.size) s.heap s.heap [] := va_S.rf
  refine lv_aload_n hx hb dJ12_init_2_0 rfl (lv_at hl 0 rfl) ?_
  refine W.objInit hx hb hown (hts _ q458) (hts _ q107) (hts _ q108) rfl (by rw [hml]; exact hl.1) rfl dJ12_init_2_1 (Nat.le_of_ble_eq_true rfl) (Nat.le_of_ble_eq_true rfl) ?_
  refine W.eq (g2 := F0 m 4 ls []) rfl ?_
  refine lv_aload_n hx hb dJ12_init_2_4 rfl (lv_at hl 0 rfl) ?_
  refine lv_aload_n hx hb dJ12_init_2_5 rfl (lv_at hl 0 rfl) ?_
  refine va_put (D := D) (ci := 16) (v := .ref a) (ty := tyX3 0) (C := RX3) (T := TX3) (N := 7) hx hb hts in_X3 tyX3 tyX3_ok nmX3 hown hK hP hD hS 0 rfl rfl 0 (by decide) (hts _ q489) (fun _ h9 => h9) rfl (by decide +kernel) (rfl) (rfl) (Nat.le_of_ble_eq_true rfl) dJ12_init_2_6 (fun H locs hP hD hS => ?_)
  have hP : va_P D vcl [(a, .inr (16, [.ref a, .null, .null, .null, .null, .int 0, .int 0]))] H := hP
  have hD : va_D (oA a s.heap.size) [(a, .inr (16, [.ref a, .null, .null, .null, .null, .int 0, .int 0]))] := hD
  refine lv_aload_n hx hb dJ12_init_2_9 rfl (lv_at hl 0 rfl) ?_
  refine va_gets hx hb hz1 hS hown (hts _ q459) (fun _ h9 => h9) dJ12_init_2_10 ?_
  refine va_put (D := D) (ci := 16) (v := v1) (ty := tyX3 1) (C := RX3) (T := TX3) (N := 7) hx hb hts in_X3 tyX3 tyX3_ok nmX3 hown hK hP hD hS 0 rfl rfl 1 (by decide) (hts _ q490) (fun _ h9 => h9) rfl (by decide +kernel) (by rcases hv1 with h | ⟨t, h⟩ <;> subst h <;> rfl) (by rcases hv1 with h | ⟨t, h⟩ <;> subst h <;> rfl) (Nat.le_of_ble_eq_true rfl) dJ12_init_2_13 (fun H locs hP hD hS => ?_)
  have hP : va_P D vcl [(a, .inr (16, [.ref a, v1, .null, .null, .null, .int 0, .int 0]))] H := hP
  have hD : va_D (oA a s.heap.size) [(a, .inr (16, [.ref a, v1, .null, .null, .null, .int 0, .int 0]))] := hD
  refine lv_aload_n hx hb dJ12_init_2_16 rfl (lv_at hl 0 rfl) ?_
  refine va_gets hx hb hz2 hS hown (hts _ q461) (fun _ h9 => h9) dJ12_init_2_17 ?_
  refine va_put (D := D) (ci := 16) (v := v2) (ty := tyX3 2) (C := RX3) (T := TX3) (N := 7) hx hb hts in_X3 tyX3 tyX3_ok nmX3 hown hK hP hD hS 0 rfl rfl 2 (by decide) (hts _ q491) (fun _ h9 => h9) rfl (by decide +kernel) (by rcases hv2 with h | ⟨t, h⟩ <;> subst h <;> rfl) (by rcases hv2 with h | ⟨t, h⟩ <;> subst h <;> rfl) (Nat.le_of_ble_eq_true rfl) dJ12_init_2_20 (fun H locs hP hD hS => ?_)
  have hP : va_P D vcl [(a, .inr (16, [.ref a, v1, v2, .null, .null, .int 0, .int 0]))] H := hP
  have hD : va_D (oA a s.heap.size) [(a, .inr (16, [.ref a, v1, v2, .null, .null, .int 0, .int 0]))] := hD
  refine lv_iload hx hb dJ12_init_2_23 (lv_at hl 4 rfl) ?_
  refine lv_if_eq (tgt := 36) hx hb dJ12_init_2_25 (by decide) (fun _ => ?_) (fun h9 => absurd rfl h9)
  refine lv_aload_n hx hb dJ12_init_2_36 rfl (lv_at hl 0 rfl) ?_
  refine lv_null hx hb dJ12_init_2_37 ?_
  refine va_put (D := D) (ci := 16) (v := .null) (ty := tyX3 1) (C := RX3) (T := TX3) (N := 7) hx hb hts in_X3 tyX3 tyX3_ok nmX3 hown hK hP hD hS 0 rfl rfl 1 (by decide) (hts _ q490) (fun _ h9 => h9) rfl (by decide +kernel) (rfl) (rfl) (Nat.le_of_ble_eq_true rfl) dJ12_init_2_38 (fun H locs hP hD hS => ?_)
  have hP : va_P D vcl [(a, .inr (16, [.ref a, .null, v2, .null, .null, .int 0, .int 0]))] H := hP
  have hD : va_D (oA a s.heap.size) [(a, .inr (16, [.ref a, .null, v2, .null, .null, .int 0, .int 0]))] := hD
  refine lv_aload_n hx hb dJ12_init_2_41 rfl (lv_at hl 0 rfl) ?_
  refine lv_aload_nN hx hb dJ12_init_2_42 rfl (lv_at hl 1 rfl) ?_
  refine va_put (D := D) (ci := 16) (v := .null) (ty := tyX3 3) (C := RX3) (T := TX3) (N := 7) hx hb hts in_X3 tyX3 tyX3_ok nmX3 hown hK hP hD hS 0 rfl rfl 3 (by decide) (hts _ q488) (fun _ h9 => h9) rfl (by decide +kernel) (rfl) (rfl) (Nat.le_of_ble_eq_true rfl) dJ12_init_2_43 (fun H locs hP hD hS => ?_)
  have hP : va_P D vcl [(a, .inr (16, [.ref a, .null, v2, .null, .null, .int 0, .int 0]))] H := hP
  have hD : va_D (oA a s.heap.size) [(a, .inr (16, [.ref a, .null, v2, .null, .null, .int 0, .int 0]))] := hD
  refine lv_aload_n hx hb dJ12_init_2_46 rfl (lv_at hl 0 rfl) ?_
  refine lv_aload_nN hx hb dJ12_init_2_47 rfl (lv_at hl 2 rfl) ?_
  refine va_put (D := D) (ci := 16) (v := .null) (ty := tyX3 0) (C := RX3) (T := TX3) (N := 7) hx hb hts in_X3 tyX3 tyX3_ok nmX3 hown hK hP hD hS 0 rfl rfl 0 (by decide) (hts _ q489) (fun _ h9 => h9) rfl (by decide +kernel) (rfl) (rfl) (Nat.le_of_ble_eq_true rfl) dJ12_init_2_48 (fun H locs hP hD hS => ?_)
  have hP : va_P D vcl [(a, .inr (16, [.null, .null, v2, .null, .null, .int 0, .int 0]))] H := hP
  have hD : va_D (oA a s.heap.size) [(a, .inr (16, [.null, .null, v2, .null, .null, .int 0, .int 0]))] := hD
  refine lv_iload_n hx hb dJ12_init_2_51 rfl (lv_at hl 3 rfl) ?_
  refine lv_if_ne (tgt := 60) hx hb dJ12_init_2_52 (by decide) (fun h9 => absurd rfl h9) (fun _ => ?_)
  refine lv_aload_n hx hb dJ12_init_2_55 rfl (lv_at hl 0 rfl) ?_
  refine lv_null hx hb dJ12_init_2_56 ?_
  refine va_put (D := D) (ci := 16) (v := .null) (ty := tyX3 2) (C := RX3) (T := TX3) (N := 7) hx hb hts in_X3 tyX3 tyX3_ok nmX3 hown hK hP hD hS 0 rfl rfl 2 (by decide) (hts _ q491) (fun _ h9 => h9) rfl (by decide +kernel) (rfl) (rfl) (Nat.le_of_ble_eq_true rfl) dJ12_init_2_57 (fun H locs hP hD hS => ?_)
  have hP : va_P D vcl [(a, .inr (16, [.null, .null, .null, .null, .null, .int 0, .int 0]))] H := hP
  have hD : va_D (oA a s.heap.size) [(a, .inr (16, [.null, .null, .null, .null, .null, .int 0, .int 0]))] := hD
  exact W.vret hx hb hr (fun t ht hW => ⟨⟨(), rfl, trivial, by show va_P _ _ _ t.heap; rw [ht]; exact hP⟩, hS.F ht⟩) hS.2.2 dJ12_init_2_60 hlk

set_option maxHeartbeats 4000000 in
theorem tJ13_init_X3 (l : Launch) (D : va_G) (a sz : Nat) : Met l yJ13_init (ws_ yJ13_init cJ13_init 5 none) { frames := 2, cells := 0, slots := 0, locals := 36 } (va_Pc [.ref a, .null, .null, .int 0, .int 0] (oP D a 16 sz)) (oQ D a 16 sz 0) 0 0 (oA a sz) := by
  refine g_entry (by decide) (Nat.le_of_ble_eq_true rfl) ?_
  intro p e s m args below meth c ls hx hb hml hown hts hlk hr hB hl hnm
  obtain ⟨⟨hsz, hP⟩, hK, hz⟩ := hB
  subst hsz
  have hl : lv_has ls 5 [(0, .ref a), (1, .null), (2, .null), (3, .int 0), (4, .int 0)] := hl
  have hown : s.vm.findClass "java/lang/Exception" = some m.cls := hown
  refine lv_aload_n hx hb dJ13_init_0 rfl (lv_at hl 0 rfl) ?_
  refine lv_aload_nN hx hb dJ13_init_1 rfl (lv_at hl 1 rfl) ?_
  refine lv_aload_nN hx hb dJ13_init_2 rfl (lv_at hl 2 rfl) ?_
  refine lv_iload_n hx hb dJ13_init_3 rfl (lv_at hl 3 rfl) ?_
  refine lv_iload hx hb dJ13_init_4 (lv_at hl 4 rfl) ?_
  refine va_callv (va_runI (As := [.null, .null, .int 0, .int 0]) (rest := []) ⟨hx, hb, hml, hown, hts⟩ (tJ12_init_X3 l D a s.heap.size) (cwI 4 hts (lw_meth q484) rfl rfl rfl (hts _ q80) (hts _ q482) (hts _ q483) rfl (by decide +kernel) ⟨Nat.le_of_ble_eq_true rfl, Nat.le_of_ble_eq_true rfl⟩) ⟨o_blind, fun U hU hW => ⟨rfl, ⟨by rw [hU], by rw [hU]; exact hP⟩, va_K.moved hW.alike hK, by rw [hU]; exact hz.moved hW.alike⟩⟩ rfl rfl hl.1 rfl (lv_room (Nat.le_of_ble_eq_true rfl)) dJ13_init_6 ⟨Nat.le_of_ble_eq_true rfl, Nat.le_of_ble_eq_true rfl⟩) (va_S.rf (A := oA a s.heap.size)) (fun q _ h => h) (fun q h => h) (fun b t H1 locs1 ht hvm hb2 hB _ _ hS => ?_)
  exact W.vret hx hb hr (fun t2 ht2 hW => ⟨⟨(), rfl, trivial, by show va_P _ _ _ t2.heap; rw [ht2, ← ht]; exact hB⟩, hS.F ht2⟩) hS.2.2 dJ13_init_9 hlk

set_option maxHeartbeats 4000000 in
theorem tJ14_init_X3 (l : Launch) (D : va_G) (a sz : Nat) : Met l yJ14_init (ws_ yJ14_init cJ14_init 5 none) { frames := 3, cells := 0, slots := 0, locals := 60 } (va_Pc [.ref a, .null, .null, .int 0, .int 0] (oP D a 16 sz)) (oQ D a 16 sz 0) 0 0 (oA a sz) := by
  refine g_entry (by decide) (Nat.le_of_ble_eq_true rfl) ?_
  intro p e s m args below meth c ls hx hb hml hown hts hlk hr hB hl hnm
  obtain ⟨⟨hsz, hP⟩, hK, hz⟩ := hB
  subst hsz
  have hl : lv_has ls 5 [(0, .ref a), (1, .null), (2, .null), (3, .int 0), (4, .int 0)] := hl
  have hown : s.vm.findClass "java/lang/RuntimeException" = some m.cls := hown
  refine lv_aload_n hx hb dJ14_init_0 rfl (lv_at hl 0 rfl) ?_
  refine lv_aload_nN hx hb dJ14_init_1 rfl (lv_at hl 1 rfl) ?_
  refine lv_aload_nN hx hb dJ14_init_2 rfl (lv_at hl 2 rfl) ?_
  refine lv_iload_n hx hb dJ14_init_3 rfl (lv_at hl 3 rfl) ?_
  refine lv_iload hx hb dJ14_init_4 (lv_at hl 4 rfl) ?_
  refine va_callv (va_runI (As := [.null, .null, .int 0, .int 0]) (rest := []) ⟨hx, hb, hml, hown, hts⟩ (tJ13_init_X3 l D a s.heap.size) (cwI 4 hts (lw_meth q481) rfl rfl rfl (hts _ q81) (hts _ q479) (hts _ q480) rfl (by decide +kernel) ⟨Nat.le_of_ble_eq_true rfl, Nat.le_of_ble_eq_true rfl⟩) ⟨o_blind, fun U hU hW => ⟨rfl, ⟨by rw [hU], by rw [hU]; exact hP⟩, va_K.moved hW.alike hK, by rw [hU]; exact hz.moved hW.alike⟩⟩ rfl rfl hl.1 rfl (lv_room (Nat.le_of_ble_eq_true rfl)) dJ14_init_6 ⟨Nat.le_of_ble_eq_true rfl, Nat.le_of_ble_eq_true rfl⟩) (va_S.rf (A := oA a s.heap.size)) (fun q _ h => h) (fun q h => h) (fun b t H1 locs1 ht hvm hb2 hB _ _ hS => ?_)
  exact W.vret hx hb hr (fun t2 ht2 hW => ⟨⟨(), rfl, trivial, by show va_P _ _ _ t2.heap; rw [ht2, ← ht]; exact hB⟩, hS.F ht2⟩) hS.2.2 dJ14_init_9 hlk

set_option maxHeartbeats 4000000 in
theorem tX3_init (l : Launch) (D : va_G) (a sz : Nat) (v : Int32) : Met l yX3_init (ws_ yX3_init cX3_init 2 none) { frames := 4, cells := 0, slots := 0, locals := 84 } (va_Pc [.ref a, .int v] (oP D a 16 sz)) (oQ D a 16 sz v) 0 0 (oA a sz) := by
  refine g_entry (by decide) (Nat.le_of_ble_eq_true rfl) ?_
  intro p e s m args below meth c ls hx hb hml hown hts hlk hr hB hl hnm
  obtain ⟨⟨hsz, hP⟩, hK, hz⟩ := hB
  subst hsz
  have hl : lv_has ls 2 [(0, .ref a), (1, .int v)] := hl
  have hown : s.vm.findClass "GateRoad$Fault" = some m.cls := hown
  have hin2 : meth.name = "<init>" := hnm
  refine lv_aload_n hx hb dX3_init_0 rfl (lv_at hl 0 rfl) ?_
  refine lv_null hx hb dX3_init_1 ?_
  refine lv_null hx hb dX3_init_2 ?_
  refine lv_iconst (v := 0) hx hb dX3_init_3 (by decide) ?_
  refine lv_iconst (v := 0) hx hb dX3_init_4 (by decide) ?_
  refine va_callv (va_runI (As := [.null, .null, .int 0, .int 0]) (rest := []) ⟨hx, hb, hml, hown, hts⟩ (tJ14_init_X3 l D a s.heap.size) (cwI 4 hts (lw_meth q478) rfl rfl rfl (hts _ q82) (hts _ q476) (hts _ q477) rfl (by decide +kernel) ⟨Nat.le_of_ble_eq_true rfl, Nat.le_of_ble_eq_true rfl⟩) ⟨o_blind, fun U hU hW => ⟨rfl, ⟨by rw [hU], by rw [hU]; exact hP⟩, va_K.moved hW.alike hK, by rw [hU]; exact hz.moved hW.alike⟩⟩ rfl rfl hl.1 rfl (lv_room (Nat.le_of_ble_eq_true rfl)) dX3_init_5 ⟨Nat.le_of_ble_eq_true rfl, Nat.le_of_ble_eq_true rfl⟩) (va_S.rf (A := oA a s.heap.size)) (fun q _ h => h) (fun q h => h) (fun b t H1 locs1 ht hvm hb2 hB _ _ hS => ?_)
  have hP : va_P D vcl [(a, .inr (16, [.null, .null, .null, .null, .null, .int 0, .int 0]))] H1 := by rw [← ht]; exact hB
  have hD : va_D (oA a s.heap.size) [(a, .inr (16, [.null, .null, .null, .null, .null, .int 0, .int 0]))] := vd_1 (Or.inl rfl)
  refine lv_aload_n hx hb dX3_init_8 rfl (lv_at hl 0 rfl) ?_
  refine lv_iload_n hx hb dX3_init_9 rfl (lv_at hl 1 rfl) ?_
  refine va_putF (D := D) (ci := 16) (v := .int v) (ty := .int) (C := RX3) (T := TX3) (N := 7) hx hb hts in_X3 tyX3 tyX3_ok nmX3 hown hK hP hD hS 0 rfl rfl 6 (by decide) (hts _ q485) (fun _ h9 => h9) rfl hin2 rfl (by decide +kernel) rfl rfl (Nat.le_of_ble_eq_true rfl) dX3_init_10 (fun H locs hP hD hS => ?_)
  have hP : va_P D vcl [(a, .inr (16, [.null, .null, .null, .null, .null, .int 0, .int v]))] H := hP
  exact W.vret hx hb hr (fun t2 ht2 hW => ⟨⟨(), rfl, trivial, by show va_P _ _ _ t2.heap; rw [ht2]; exact hP⟩, hS.F ht2⟩) hS.2.2 dX3_init_13 hlk

