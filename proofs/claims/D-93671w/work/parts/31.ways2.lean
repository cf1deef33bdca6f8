/-! ===== constructors of the ways, made; by gen/ways2.py ===== -/
set_option maxRecDepth 100000
def wiP (D : va_G) (G : Nat → Nat) (a ci sz : Nat) (V : State) : Prop := (V.heap.size = sz ∧ va_P D vcl [(a, .inr (ci, [.int 0, .null, .int 0]))] V.heap) ∧ va_K D vcl [(G 1, .byte)] V
def wiB (D : va_G) (G : Nat → Nat) (a ci : Nat) (num : Int32) (b : Nat) (t : State) : Prop := va_P D vcl [(a, .inr (ci, [.int num, .ref b, .int 0])), (b, .inl (G 1, 16, .inl (fun _ => 0)))] t.heap
def wiQ (D : va_G) (G : Nat → Nat) (a ci sz : Nat) (num : Int32) : Array Value → State → Outcome → State → Prop := va_Qv (fun b : Nat => sz ≤ b) (wiB D G a ci num) (fun q => q = a ∨ sz ≤ q)
theorem vd_1 {A : Nat → Prop} {a : Nat} {x : va_E} (h : A a) : va_D A [(a, x)] := ⟨fun i j p q hp hq _ => by
    match i, j, hp, hq with
    | 0, 0, _, _ => rfl, fun k q hq => by
    match k, hq with
    | 0, hq => cases hq; exact h⟩
theorem wi_blind {as : List Value} {D : va_G} {G : Nat → Nat} {a ci sz : Nat} : FrameBlind (va_Pc as (wiP D G a ci sz)) := fun a V g mk q => ⟨q.1, q.2.1, va_K.moved (u := V) (U := V.calling g mk a) (Vm.Alike.refl V.vm) q.2.2⟩
theorem cls_byte {D : va_G} {cl : List vw_C} {tys : List (ClassId × FieldType)} {s : State} {x y : ClassId} (hK : va_K D cl tys s) {i j : Nat} (hi : tys[i]? = some (x, .byte)) (hj : tys[j]? = some (y, .byte)) : x = y := by
  have h1 : s.vm.findClass ("[" ++ FieldType.byte.toString) = some x := (hK.2 i _ hi).2
  have h2 : s.vm.findClass ("[" ++ FieldType.byte.toString) = some y := (hK.2 j _ hj).2
  exact Option.some.inj (h1.symm.trans h2)
set_option maxHeartbeats 4000000 in
theorem tX8_init_0 (l : Launch) (D : va_G) (G : Nat → Nat) (a sz : Nat) (num : Int32) : Met l yX8_init (ws_ yX8_init cX8_init 2 none) { frames := 1, cells := 1, slots := 16, locals := 12 } (va_Pc [.ref a, .int num] (wiP D G a 2 sz)) (wiQ D G a 2 sz num) 1 16 (fun q => q = a ∨ sz ≤ q) := by
  refine g_entry (by decide) (Nat.le_of_ble_eq_true rfl) ?_
  intro p e s m args below meth c ls hx hb hml hown hts hlk hr hB hl hnm
  obtain ⟨⟨hsz, hP⟩, hK⟩ := hB
  subst hsz
  have hl : lv_has ls 2 [(0, .ref a), (1, .int num)] := hl
  have hown : s.vm.findClass RX8 = some m.cls := hown
  have hin2 : meth.name = "<init>" := hnm
  have hD : va_D (fun q => q = a ∨ s.heap.size ≤ q) [(a, .inr (2, [.int 0, .null, .int 0]))] := vd_1 (Or.inl rfl)
  have hA : ∀ q, s.heap.size ≤ q → (q = a ∨ s.heap.size ≤ q) := fun q h => Or.inr h
  have hS : va_S (fun q => q = a ∨ s.heap.size ≤ q) s.heap s.heap [] := va_S.rf
  refine lv_aload_n hx hb dX8_init_0 rfl (lv_at hl 0 rfl) ?_
  refine W.objInit hx hb hown (hts _ q807) (hts _ q107) (hts _ q108) rfl (by rw [hml]; exact hl.1) rfl dX8_init_1 (Nat.le_of_ble_eq_true rfl) (Nat.le_of_ble_eq_true rfl) ?_
  refine W.eq (g2 := F0 m 4 ls []) rfl ?_
  refine lv_aload_n hx hb dX8_init_4 rfl (lv_at hl 0 rfl) ?_
  refine lv_bipush (v := 16) hx hb dX8_init_5 (by decide) ?_
  refine va_newa (atype := .byte) hx hb (hts _ q160) (ty := .byte) rfl hK hP hD hS hA (n := 16) (N' := 16) (a0 := (16, .inl (fun _ => 0))) (fun _ => rfl) (by decide) rfl (by decide) (Nat.le_of_ble_eq_true rfl) (Nat.le_of_ble_eq_true rfl) dX8_init_7 (fun b cA H hK hP hD hS => ?_)
  have ec : G 1 = cA := cls_byte hK (i := 0) (j := 1) rfl rfl
  subst ec
  have hP : va_P D vcl [(a, .inr (2, [.int 0, .null, .int 0])), (b, .inl (G 1, 16, .inl (fun _ => 0)))] H := hP
  have hD : va_D (fun q => q = a ∨ s.heap.size ≤ q) [(a, .inr (2, [.int 0, .null, .int 0])), (b, .inl (G 1, 16, .inl (fun _ => 0)))] := hD
  have hb2 : s.heap.size ≤ b := by
    rcases hD.2 1 _ rfl with h | h
    · exact absurd (hD.1 0 1 _ _ rfl rfl h.symm) (by decide)
    · exact h
  refine va_putF (D := D) (ci := 2) (v := .ref b) (ty := .array .byte) (C := RX8) (T := TX8) (N := 3) hx hb hts in_X8 tyX8 tyX8_ok nmX8 hown hK hP hD hS 0 rfl rfl 1 (by decide) (hts _ q810) (fun _ h9 => h9) rfl hin2 rfl (by decide +kernel) rfl rfl (Nat.le_of_ble_eq_true rfl) dX8_init_9 (fun H locs hP hD hS => ?_)
  have hP : va_P D vcl [(a, .inr (2, [.int 0, .ref b, .int 0])), (b, .inl (G 1, 16, .inl (fun _ => 0)))] H := hP
  have hD : va_D (fun q => q = a ∨ s.heap.size ≤ q) [(a, .inr (2, [.int 0, .ref b, .int 0])), (b, .inl (G 1, 16, .inl (fun _ => 0)))] := hD
  refine lv_aload_n hx hb dX8_init_12 rfl (lv_at hl 0 rfl) ?_
  refine lv_iload_n hx hb dX8_init_13 rfl (lv_at hl 1 rfl) ?_
  refine va_putF (D := D) (ci := 2) (v := .int num) (ty := .int) (C := RX8) (T := TX8) (N := 3) hx hb hts in_X8 tyX8 tyX8_ok nmX8 hown hK hP hD hS 0 rfl rfl 0 (by decide) (hts _ q808) (fun _ h9 => h9) rfl hin2 rfl (by decide +kernel) rfl rfl (Nat.le_of_ble_eq_true rfl) dX8_init_14 (fun H locs hP hD hS => ?_)
  have hP : va_P D vcl [(a, .inr (2, [.int num, .ref b, .int 0])), (b, .inl (G 1, 16, .inl (fun _ => 0)))] H := hP
  refine W.widen (k := 1) (n := 16) (Nat.le_of_ble_eq_true rfl) (Nat.le_of_ble_eq_true rfl) ?_
  exact W.vret hx hb hr (fun t ht hW => ⟨⟨b, rfl, hb2, by show va_P _ _ _ t.heap; rw [ht]; exact hP⟩, hS.F ht⟩) hS.2.2 dX8_init_17 hlk

set_option maxHeartbeats 4000000 in
theorem tX8_init_1 (l : Launch) (D : va_G) (G : Nat → Nat) (a sz : Nat) (num : Int32) : Met l yX8_init (ws_ yX8_init cX8_init 2 none) { frames := 1, cells := 1, slots := 16, locals := 12 } (va_Pc [.ref a, .int num] (wiP D G a 3 sz)) (wiQ D G a 3 sz num) 1 16 (fun q => q = a ∨ sz ≤ q) := by
  refine g_entry (by decide) (Nat.le_of_ble_eq_true rfl) ?_
  intro p e s m args below meth c ls hx hb hml hown hts hlk hr hB hl hnm
  obtain ⟨⟨hsz, hP⟩, hK⟩ := hB
  subst hsz
  have hl : lv_has ls 2 [(0, .ref a), (1, .int num)] := hl
  have hown : s.vm.findClass RX8 = some m.cls := hown
  have hin2 : meth.name = "<init>" := hnm
  have hD : va_D (fun q => q = a ∨ s.heap.size ≤ q) [(a, .inr (3, [.int 0, .null, .int 0]))] := vd_1 (Or.inl rfl)
  have hA : ∀ q, s.heap.size ≤ q → (q = a ∨ s.heap.size ≤ q) := fun q h => Or.inr h
  have hS : va_S (fun q => q = a ∨ s.heap.size ≤ q) s.heap s.heap [] := va_S.rf
  refine lv_aload_n hx hb dX8_init_0 rfl (lv_at hl 0 rfl) ?_
  refine W.objInit hx hb hown (hts _ q807) (hts _ q107) (hts _ q108) rfl (by rw [hml]; exact hl.1) rfl dX8_init_1 (Nat.le_of_ble_eq_true rfl) (Nat.le_of_ble_eq_true rfl) ?_
  refine W.eq (g2 := F0 m 4 ls []) rfl ?_
  refine lv_aload_n hx hb dX8_init_4 rfl (lv_at hl 0 rfl) ?_
  refine lv_bipush (v := 16) hx hb dX8_init_5 (by decide) ?_
  refine va_newa (atype := .byte) hx hb (hts _ q160) (ty := .byte) rfl hK hP hD hS hA (n := 16) (N' := 16) (a0 := (16, .inl (fun _ => 0))) (fun _ => rfl) (by decide) rfl (by decide) (Nat.le_of_ble_eq_true rfl) (Nat.le_of_ble_eq_true rfl) dX8_init_7 (fun b cA H hK hP hD hS => ?_)
  have ec : G 1 = cA := cls_byte hK (i := 0) (j := 1) rfl rfl
  subst ec
  have hP : va_P D vcl [(a, .inr (3, [.int 0, .null, .int 0])), (b, .inl (G 1, 16, .inl (fun _ => 0)))] H := hP
  have hD : va_D (fun q => q = a ∨ s.heap.size ≤ q) [(a, .inr (3, [.int 0, .null, .int 0])), (b, .inl (G 1, 16, .inl (fun _ => 0)))] := hD
  have hb2 : s.heap.size ≤ b := by
    rcases hD.2 1 _ rfl with h | h
    · exact absurd (hD.1 0 1 _ _ rfl rfl h.symm) (by decide)
    · exact h
  refine va_putF (D := D) (ci := 3) (v := .ref b) (ty := .array .byte) (C := RX9) (T := TX9) (N := 3) hx hb hts in_X9 tyX9 tyX9_ok nmX9 hown hK hP hD hS 0 rfl rfl 1 (by decide) (hts _ q810) (fun _ h9 => h9) rfl hin2 rfl (by decide +kernel) rfl rfl (Nat.le_of_ble_eq_true rfl) dX8_init_9 (fun H locs hP hD hS => ?_)
  have hP : va_P D vcl [(a, .inr (3, [.int 0, .ref b, .int 0])), (b, .inl (G 1, 16, .inl (fun _ => 0)))] H := hP
  have hD : va_D (fun q => q = a ∨ s.heap.size ≤ q) [(a, .inr (3, [.int 0, .ref b, .int 0])), (b, .inl (G 1, 16, .inl (fun _ => 0)))] := hD
  refine lv_aload_n hx hb dX8_init_12 rfl (lv_at hl 0 rfl) ?_
  refine lv_iload_n hx hb dX8_init_13 rfl (lv_at hl 1 rfl) ?_
  refine va_putF (D := D) (ci := 3) (v := .int num) (ty := .int) (C := RX9) (T := TX9) (N := 3) hx hb hts in_X9 tyX9 tyX9_ok nmX9 hown hK hP hD hS 0 rfl rfl 0 (by decide) (hts _ q808) (fun _ h9 => h9) rfl hin2 rfl (by decide +kernel) rfl rfl (Nat.le_of_ble_eq_true rfl) dX8_init_14 (fun H locs hP hD hS => ?_)
  have hP : va_P D vcl [(a, .inr (3, [.int num, .ref b, .int 0])), (b, .inl (G 1, 16, .inl (fun _ => 0)))] H := hP
  refine W.widen (k := 1) (n := 16) (Nat.le_of_ble_eq_true rfl) (Nat.le_of_ble_eq_true rfl) ?_
  exact W.vret hx hb hr (fun t ht hW => ⟨⟨b, rfl, hb2, by show va_P _ _ _ t.heap; rw [ht]; exact hP⟩, hS.F ht⟩) hS.2.2 dX8_init_17 hlk

set_option maxHeartbeats 4000000 in
theorem tX9_init_1 (l : Launch) (D : va_G) (G : Nat → Nat) (a sz : Nat) (num : Int32) : Met l yX9_init (ws_ yX9_init cX9_init 2 none) { frames := 2, cells := 1, slots := 16, locals := 33 } (va_Pc [.ref a, .int num] (wiP D G a 3 sz)) (wiQ D G a 3 sz num) 1 16 (fun q => q = a ∨ sz ≤ q) := by
  refine g_entry (by decide) (Nat.le_of_ble_eq_true rfl) ?_
  intro p e s m args below meth c ls hx hb hml hown hts hlk hr hB hl hnm
  obtain ⟨⟨hsz, hP⟩, hK⟩ := hB
  subst hsz
  have hl : lv_has ls 2 [(0, .ref a), (1, .int num)] := hl
  have hown : s.vm.findClass RX9 = some m.cls := hown
  refine lv_aload_n hx hb dX9_init_0 rfl (lv_at hl 0 rfl) ?_
  refine lv_iload_n hx hb dX9_init_1 rfl (lv_at hl 1 rfl) ?_
  refine va_callv (va_runI (As := [.int num]) (rest := []) ⟨hx, hb, hml, hown, hts⟩ (tX8_init_1 l D G a s.heap.size num) (cwI 1 hts (lw_meth q806) rfl rfl rfl (hts _ q89) (hts _ q826) (hts _ q805) rfl (by decide +kernel) ⟨Nat.le_of_ble_eq_true rfl, Nat.le_of_ble_eq_true rfl⟩) ⟨wi_blind, fun U hU hW => ⟨rfl, ⟨by rw [hU], by rw [hU]; exact hP⟩, va_K.moved hW.alike hK⟩⟩ rfl rfl hl.1 rfl (lv_room (Nat.le_of_ble_eq_true rfl)) dX9_init_2 ⟨Nat.le_of_ble_eq_true rfl, Nat.le_of_ble_eq_true rfl⟩) (va_S.rf (A := fun q => q = a ∨ s.heap.size ≤ q)) (fun q _ h => h) (fun q h => h) (fun b t H1 locs1 ht hvm hb2 hB _ _ hS => ?_)
  refine W.widen (k := 1) (n := 16) (Nat.le_of_ble_eq_true rfl) (Nat.le_of_ble_eq_true rfl) ?_
  exact W.vret hx hb hr (fun t2 ht2 hW => ⟨⟨b, rfl, hb2, by show va_P _ _ _ t2.heap; rw [ht2, ← ht]; exact hB⟩, hS.F ht2⟩) hS.2.2 dX9_init_5 hlk

set_option maxHeartbeats 4000000 in
theorem tX8_init_2 (l : Launch) (D : va_G) (G : Nat → Nat) (a sz : Nat) (num : Int32) : Met l yX8_init (ws_ yX8_init cX8_init 2 none) { frames := 1, cells := 1, slots := 16, locals := 12 } (va_Pc [.ref a, .int num] (wiP D G a 4 sz)) (wiQ D G a 4 sz num) 1 16 (fun q => q = a ∨ sz ≤ q) := by
  refine g_entry (by decide) (Nat.le_of_ble_eq_true rfl) ?_
  intro p e s m args below meth c ls hx hb hml hown hts hlk hr hB hl hnm
  obtain ⟨⟨hsz, hP⟩, hK⟩ := hB
  subst hsz
  have hl : lv_has ls 2 [(0, .ref a), (1, .int num)] := hl
  have hown : s.vm.findClass RX8 = some m.cls := hown
  have hin2 : meth.name = "<init>" := hnm
  have hD : va_D (fun q => q = a ∨ s.heap.size ≤ q) [(a, .inr (4, [.int 0, .null, .int 0]))] := vd_1 (Or.inl rfl)
  have hA : ∀ q, s.heap.size ≤ q → (q = a ∨ s.heap.size ≤ q) := fun q h => Or.inr h
  have hS : va_S (fun q => q = a ∨ s.heap.size ≤ q) s.heap s.heap [] := va_S.rf
  refine lv_aload_n hx hb dX8_init_0 rfl (lv_at hl 0 rfl) ?_
  refine W.objInit hx hb hown (hts _ q807) (hts _ q107) (hts _ q108) rfl (by rw [hml]; exact hl.1) rfl dX8_init_1 (Nat.le_of_ble_eq_true rfl) (Nat.le_of_ble_eq_true rfl) ?_
  refine W.eq (g2 := F0 m 4 ls []) rfl ?_
  refine lv_aload_n hx hb dX8_init_4 rfl (lv_at hl 0 rfl) ?_
  refine lv_bipush (v := 16) hx hb dX8_init_5 (by decide) ?_
  refine va_newa (atype := .byte) hx hb (hts _ q160) (ty := .byte) rfl hK hP hD hS hA (n := 16) (N' := 16) (a0 := (16, .inl (fun _ => 0))) (fun _ => rfl) (by decide) rfl (by decide) (Nat.le_of_ble_eq_true rfl) (Nat.le_of_ble_eq_true rfl) dX8_init_7 (fun b cA H hK hP hD hS => ?_)
  have ec : G 1 = cA := cls_byte hK (i := 0) (j := 1) rfl rfl
  subst ec
  have hP : va_P D vcl [(a, .inr (4, [.int 0, .null, .int 0])), (b, .inl (G 1, 16, .inl (fun _ => 0)))] H := hP
  have hD : va_D (fun q => q = a ∨ s.heap.size ≤ q) [(a, .inr (4, [.int 0, .null, .int 0])), (b, .inl (G 1, 16, .inl (fun _ => 0)))] := hD
  have hb2 : s.heap.size ≤ b := by
    rcases hD.2 1 _ rfl with h | h
    · exact absurd (hD.1 0 1 _ _ rfl rfl h.symm) (by decide)
    · exact h
  refine va_putF (D := D) (ci := 4) (v := .ref b) (ty := .array .byte) (C := RX10) (T := TX10) (N := 3) hx hb hts in_X10 tyX10 tyX10_ok nmX10 hown hK hP hD hS 0 rfl rfl 1 (by decide) (hts _ q810) (fun _ h9 => h9) rfl hin2 rfl (by decide +kernel) rfl rfl (Nat.le_of_ble_eq_true rfl) dX8_init_9 (fun H locs hP hD hS => ?_)
  have hP : va_P D vcl [(a, .inr (4, [.int 0, .ref b, .int 0])), (b, .inl (G 1, 16, .inl (fun _ => 0)))] H := hP
  have hD : va_D (fun q => q = a ∨ s.heap.size ≤ q) [(a, .inr (4, [.int 0, .ref b, .int 0])), (b, .inl (G 1, 16, .inl (fun _ => 0)))] := hD
  refine lv_aload_n hx hb dX8_init_12 rfl (lv_at hl 0 rfl) ?_
  refine lv_iload_n hx hb dX8_init_13 rfl (lv_at hl 1 rfl) ?_
  refine va_putF (D := D) (ci := 4) (v := .int num) (ty := .int) (C := RX10) (T := TX10) (N := 3) hx hb hts in_X10 tyX10 tyX10_ok nmX10 hown hK hP hD hS 0 rfl rfl 0 (by decide) (hts _ q808) (fun _ h9 => h9) rfl hin2 rfl (by decide +kernel) rfl rfl (Nat.le_of_ble_eq_true rfl) dX8_init_14 (fun H locs hP hD hS => ?_)
  have hP : va_P D vcl [(a, .inr (4, [.int num, .ref b, .int 0])), (b, .inl (G 1, 16, .inl (fun _ => 0)))] H := hP
  refine W.widen (k := 1) (n := 16) (Nat.le_of_ble_eq_true rfl) (Nat.le_of_ble_eq_true rfl) ?_
  exact W.vret hx hb hr (fun t ht hW => ⟨⟨b, rfl, hb2, by show va_P _ _ _ t.heap; rw [ht]; exact hP⟩, hS.F ht⟩) hS.2.2 dX8_init_17 hlk

set_option maxHeartbeats 4000000 in
theorem tX10_init_2 (l : Launch) (D : va_G) (G : Nat → Nat) (a sz : Nat) (num : Int32) : Met l yX10_init (ws_ yX10_init cX10_init 2 none) { frames := 2, cells := 1, slots := 16, locals := 33 } (va_Pc [.ref a, .int num] (wiP D G a 4 sz)) (wiQ D G a 4 sz num) 1 16 (fun q => q = a ∨ sz ≤ q) := by
  refine g_entry (by decide) (Nat.le_of_ble_eq_true rfl) ?_
  intro p e s m args below meth c ls hx hb hml hown hts hlk hr hB hl hnm
  obtain ⟨⟨hsz, hP⟩, hK⟩ := hB
  subst hsz
  have hl : lv_has ls 2 [(0, .ref a), (1, .int num)] := hl
  have hown : s.vm.findClass RX10 = some m.cls := hown
  refine lv_aload_n hx hb dX10_init_0 rfl (lv_at hl 0 rfl) ?_
  refine lv_iload_n hx hb dX10_init_1 rfl (lv_at hl 1 rfl) ?_
  refine va_callv (va_runI (As := [.int num]) (rest := []) ⟨hx, hb, hml, hown, hts⟩ (tX8_init_2 l D G a s.heap.size num) (cwI 1 hts (lw_meth q806) rfl rfl rfl (hts _ q89) (hts _ q836) (hts _ q805) rfl (by decide +kernel) ⟨Nat.le_of_ble_eq_true rfl, Nat.le_of_ble_eq_true rfl⟩) ⟨wi_blind, fun U hU hW => ⟨rfl, ⟨by rw [hU], by rw [hU]; exact hP⟩, va_K.moved hW.alike hK⟩⟩ rfl rfl hl.1 rfl (lv_room (Nat.le_of_ble_eq_true rfl)) dX10_init_2 ⟨Nat.le_of_ble_eq_true rfl, Nat.le_of_ble_eq_true rfl⟩) (va_S.rf (A := fun q => q = a ∨ s.heap.size ≤ q)) (fun q _ h => h) (fun q h => h) (fun b t H1 locs1 ht hvm hb2 hB _ _ hS => ?_)
  refine W.widen (k := 1) (n := 16) (Nat.le_of_ble_eq_true rfl) (Nat.le_of_ble_eq_true rfl) ?_
  exact W.vret hx hb hr (fun t2 ht2 hW => ⟨⟨b, rfl, hb2, by show va_P _ _ _ t2.heap; rw [ht2, ← ht]; exact hB⟩, hS.F ht2⟩) hS.2.2 dX10_init_5 hlk

set_option maxHeartbeats 4000000 in
theorem tX8_init_3 (l : Launch) (D : va_G) (G : Nat → Nat) (a sz : Nat) (num : Int32) : Met l yX8_init (ws_ yX8_init cX8_init 2 none) { frames := 1, cells := 1, slots := 16, locals := 12 } (va_Pc [.ref a, .int num] (wiP D G a 5 sz)) (wiQ D G a 5 sz num) 1 16 (fun q => q = a ∨ sz ≤ q) := by
  refine g_entry (by decide) (Nat.le_of_ble_eq_true rfl) ?_
  intro p e s m args below meth c ls hx hb hml hown hts hlk hr hB hl hnm
  obtain ⟨⟨hsz, hP⟩, hK⟩ := hB
  subst hsz
  have hl : lv_has ls 2 [(0, .ref a), (1, .int num)] := hl
  have hown : s.vm.findClass RX8 = some m.cls := hown
  have hin2 : meth.name = "<init>" := hnm
  have hD : va_D (fun q => q = a ∨ s.heap.size ≤ q) [(a, .inr (5, [.int 0, .null, .int 0]))] := vd_1 (Or.inl rfl)
  have hA : ∀ q, s.heap.size ≤ q → (q = a ∨ s.heap.size ≤ q) := fun q h => Or.inr h
  have hS : va_S (fun q => q = a ∨ s.heap.size ≤ q) s.heap s.heap [] := va_S.rf
  refine lv_aload_n hx hb dX8_init_0 rfl (lv_at hl 0 rfl) ?_
  refine W.objInit hx hb hown (hts _ q807) (hts _ q107) (hts _ q108) rfl (by rw [hml]; exact hl.1) rfl dX8_init_1 (Nat.le_of_ble_eq_true rfl) (Nat.le_of_ble_eq_true rfl) ?_
  refine W.eq (g2 := F0 m 4 ls []) rfl ?_
  refine lv_aload_n hx hb dX8_init_4 rfl (lv_at hl 0 rfl) ?_
  refine lv_bipush (v := 16) hx hb dX8_init_5 (by decide) ?_
  refine va_newa (atype := .byte) hx hb (hts _ q160) (ty := .byte) rfl hK hP hD hS hA (n := 16) (N' := 16) (a0 := (16, .inl (fun _ => 0))) (fun _ => rfl) (by decide) rfl (by decide) (Nat.le_of_ble_eq_true rfl) (Nat.le_of_ble_eq_true rfl) dX8_init_7 (fun b cA H hK hP hD hS => ?_)
  have ec : G 1 = cA := cls_byte hK (i := 0) (j := 1) rfl rfl
  subst ec
  have hP : va_P D vcl [(a, .inr (5, [.int 0, .null, .int 0])), (b, .inl (G 1, 16, .inl (fun _ => 0)))] H := hP
  have hD : va_D (fun q => q = a ∨ s.heap.size ≤ q) [(a, .inr (5, [.int 0, .null, .int 0])), (b, .inl (G 1, 16, .inl (fun _ => 0)))] := hD
  have hb2 : s.heap.size ≤ b := by
    rcases hD.2 1 _ rfl with h | h
    · exact absurd (hD.1 0 1 _ _ rfl rfl h.symm) (by decide)
    · exact h
  refine va_putF (D := D) (ci := 5) (v := .ref b) (ty := .array .byte) (C := RX11) (T := TX11) (N := 3) hx hb hts in_X11 tyX11 tyX11_ok nmX11 hown hK hP hD hS 0 rfl rfl 1 (by decide) (hts _ q810) (fun _ h9 => h9) rfl hin2 rfl (by decide +kernel) rfl rfl (Nat.le_of_ble_eq_true rfl) dX8_init_9 (fun H locs hP hD hS => ?_)
  have hP : va_P D vcl [(a, .inr (5, [.int 0, .ref b, .int 0])), (b, .inl (G 1, 16, .inl (fun _ => 0)))] H := hP
  have hD : va_D (fun q => q = a ∨ s.heap.size ≤ q) [(a, .inr (5, [.int 0, .ref b, .int 0])), (b, .inl (G 1, 16, .inl (fun _ => 0)))] := hD
  refine lv_aload_n hx hb dX8_init_12 rfl (lv_at hl 0 rfl) ?_
  refine lv_iload_n hx hb dX8_init_13 rfl (lv_at hl 1 rfl) ?_
  refine va_putF (D := D) (ci := 5) (v := .int num) (ty := .int) (C := RX11) (T := TX11) (N := 3) hx hb hts in_X11 tyX11 tyX11_ok nmX11 hown hK hP hD hS 0 rfl rfl 0 (by decide) (hts _ q808) (fun _ h9 => h9) rfl hin2 rfl (by decide +kernel) rfl rfl (Nat.le_of_ble_eq_true rfl) dX8_init_14 (fun H locs hP hD hS => ?_)
  have hP : va_P D vcl [(a, .inr (5, [.int num, .ref b, .int 0])), (b, .inl (G 1, 16, .inl (fun _ => 0)))] H := hP
  refine W.widen (k := 1) (n := 16) (Nat.le_of_ble_eq_true rfl) (Nat.le_of_ble_eq_true rfl) ?_
  exact W.vret hx hb hr (fun t ht hW => ⟨⟨b, rfl, hb2, by show va_P _ _ _ t.heap; rw [ht]; exact hP⟩, hS.F ht⟩) hS.2.2 dX8_init_17 hlk

set_option maxHeartbeats 4000000 in
theorem tX10_init_3 (l : Launch) (D : va_G) (G : Nat → Nat) (a sz : Nat) (num : Int32) : Met l yX10_init (ws_ yX10_init cX10_init 2 none) { frames := 2, cells := 1, slots := 16, locals := 33 } (va_Pc [.ref a, .int num] (wiP D G a 5 sz)) (wiQ D G a 5 sz num) 1 16 (fun q => q = a ∨ sz ≤ q) := by
  refine g_entry (by decide) (Nat.le_of_ble_eq_true rfl) ?_
  intro p e s m args below meth c ls hx hb hml hown hts hlk hr hB hl hnm
  obtain ⟨⟨hsz, hP⟩, hK⟩ := hB
  subst hsz
  have hl : lv_has ls 2 [(0, .ref a), (1, .int num)] := hl
  have hown : s.vm.findClass RX10 = some m.cls := hown
  refine lv_aload_n hx hb dX10_init_0 rfl (lv_at hl 0 rfl) ?_
  refine lv_iload_n hx hb dX10_init_1 rfl (lv_at hl 1 rfl) ?_
  refine va_callv (va_runI (As := [.int num]) (rest := []) ⟨hx, hb, hml, hown, hts⟩ (tX8_init_3 l D G a s.heap.size num) (cwI 1 hts (lw_meth q806) rfl rfl rfl (hts _ q89) (hts _ q836) (hts _ q805) rfl (by decide +kernel) ⟨Nat.le_of_ble_eq_true rfl, Nat.le_of_ble_eq_true rfl⟩) ⟨wi_blind, fun U hU hW => ⟨rfl, ⟨by rw [hU], by rw [hU]; exact hP⟩, va_K.moved hW.alike hK⟩⟩ rfl rfl hl.1 rfl (lv_room (Nat.le_of_ble_eq_true rfl)) dX10_init_2 ⟨Nat.le_of_ble_eq_true rfl, Nat.le_of_ble_eq_true rfl⟩) (va_S.rf (A := fun q => q = a ∨ s.heap.size ≤ q)) (fun q _ h => h) (fun q h => h) (fun b t H1 locs1 ht hvm hb2 hB _ _ hS => ?_)
  refine W.widen (k := 1) (n := 16) (Nat.le_of_ble_eq_true rfl) (Nat.le_of_ble_eq_true rfl) ?_
  exact W.vret hx hb hr (fun t2 ht2 hW => ⟨⟨b, rfl, hb2, by show va_P _ _ _ t2.heap; rw [ht2, ← ht]; exact hB⟩, hS.F ht2⟩) hS.2.2 dX10_init_5 hlk

set_option maxHeartbeats 4000000 in
theorem tX11_init_3 (l : Launch) (D : va_G) (G : Nat → Nat) (a sz : Nat) (num : Int32) : Met l yX11_init (ws_ yX11_init cX11_init 2 none) { frames := 3, cells := 1, slots := 16, locals := 54 } (va_Pc [.ref a, .int num] (wiP D G a 5 sz)) (wiQ D G a 5 sz num) 1 16 (fun q => q = a ∨ sz ≤ q) := by
  refine g_entry (by decide) (Nat.le_of_ble_eq_true rfl) ?_
  intro p e s m args below meth c ls hx hb hml hown hts hlk hr hB hl hnm
  obtain ⟨⟨hsz, hP⟩, hK⟩ := hB
  subst hsz
  have hl : lv_has ls 2 [(0, .ref a), (1, .int num)] := hl
  have hown : s.vm.findClass RX11 = some m.cls := hown
  refine lv_aload_n hx hb dX11_init_0 rfl (lv_at hl 0 rfl) ?_
  refine lv_iload_n hx hb dX11_init_1 rfl (lv_at hl 1 rfl) ?_
  refine va_callv (va_runI (As := [.int num]) (rest := []) ⟨hx, hb, hml, hown, hts⟩ (tX10_init_3 l D G a s.heap.size num) (cwI 1 hts (lw_meth q835) rfl rfl rfl (hts _ q91) (hts _ q846) (hts _ q834) rfl (by decide +kernel) ⟨Nat.le_of_ble_eq_true rfl, Nat.le_of_ble_eq_true rfl⟩) ⟨wi_blind, fun U hU hW => ⟨rfl, ⟨by rw [hU], by rw [hU]; exact hP⟩, va_K.moved hW.alike hK⟩⟩ rfl rfl hl.1 rfl (lv_room (Nat.le_of_ble_eq_true rfl)) dX11_init_2 ⟨Nat.le_of_ble_eq_true rfl, Nat.le_of_ble_eq_true rfl⟩) (va_S.rf (A := fun q => q = a ∨ s.heap.size ≤ q)) (fun q _ h => h) (fun q h => h) (fun b t H1 locs1 ht hvm hb2 hB _ _ hS => ?_)
  refine W.widen (k := 1) (n := 16) (Nat.le_of_ble_eq_true rfl) (Nat.le_of_ble_eq_true rfl) ?_
  exact W.vret hx hb hr (fun t2 ht2 hW => ⟨⟨b, rfl, hb2, by show va_P _ _ _ t2.heap; rw [ht2, ← ht]; exact hB⟩, hS.F ht2⟩) hS.2.2 dX11_init_5 hlk

set_option maxHeartbeats 4000000 in
theorem tX8_init_4 (l : Launch) (D : va_G) (G : Nat → Nat) (a sz : Nat) (num : Int32) : Met l yX8_init (ws_ yX8_init cX8_init 2 none) { frames := 1, cells := 1, slots := 16, locals := 12 } (va_Pc [.ref a, .int num] (wiP D G a 6 sz)) (wiQ D G a 6 sz num) 1 16 (fun q => q = a ∨ sz ≤ q) := by
  refine g_entry (by decide) (Nat.le_of_ble_eq_true rfl) ?_
  intro p e s m args below meth c ls hx hb hml hown hts hlk hr hB hl hnm
  obtain ⟨⟨hsz, hP⟩, hK⟩ := hB
  subst hsz
  have hl : lv_has ls 2 [(0, .ref a), (1, .int num)] := hl
  have hown : s.vm.findClass RX8 = some m.cls := hown
  have hin2 : meth.name = "<init>" := hnm
  have hD : va_D (fun q => q = a ∨ s.heap.size ≤ q) [(a, .inr (6, [.int 0, .null, .int 0]))] := vd_1 (Or.inl rfl)
  have hA : ∀ q, s.heap.size ≤ q → (q = a ∨ s.heap.size ≤ q) := fun q h => Or.inr h
  have hS : va_S (fun q => q = a ∨ s.heap.size ≤ q) s.heap s.heap [] := va_S.rf
  refine lv_aload_n hx hb dX8_init_0 rfl (lv_at hl 0 rfl) ?_
  refine W.objInit hx hb hown (hts _ q807) (hts _ q107) (hts _ q108) rfl (by rw [hml]; exact hl.1) rfl dX8_init_1 (Nat.le_of_ble_eq_true rfl) (Nat.le_of_ble_eq_true rfl) ?_
  refine W.eq (g2 := F0 m 4 ls []) rfl ?_
  refine lv_aload_n hx hb dX8_init_4 rfl (lv_at hl 0 rfl) ?_
  refine lv_bipush (v := 16) hx hb dX8_init_5 (by decide) ?_
  refine va_newa (atype := .byte) hx hb (hts _ q160) (ty := .byte) rfl hK hP hD hS hA (n := 16) (N' := 16) (a0 := (16, .inl (fun _ => 0))) (fun _ => rfl) (by decide) rfl (by decide) (Nat.le_of_ble_eq_true rfl) (Nat.le_of_ble_eq_true rfl) dX8_init_7 (fun b cA H hK hP hD hS => ?_)
  have ec : G 1 = cA := cls_byte hK (i := 0) (j := 1) rfl rfl
  subst ec
  have hP : va_P D vcl [(a, .inr (6, [.int 0, .null, .int 0])), (b, .inl (G 1, 16, .inl (fun _ => 0)))] H := hP
  have hD : va_D (fun q => q = a ∨ s.heap.size ≤ q) [(a, .inr (6, [.int 0, .null, .int 0])), (b, .inl (G 1, 16, .inl (fun _ => 0)))] := hD
  have hb2 : s.heap.size ≤ b := by
    rcases hD.2 1 _ rfl with h | h
    · exact absurd (hD.1 0 1 _ _ rfl rfl h.symm) (by decide)
    · exact h
  refine va_putF (D := D) (ci := 6) (v := .ref b) (ty := .array .byte) (C := RX12) (T := TX12) (N := 3) hx hb hts in_X12 tyX12 tyX12_ok nmX12 hown hK hP hD hS 0 rfl rfl 1 (by decide) (hts _ q810) (fun _ h9 => h9) rfl hin2 rfl (by decide +kernel) rfl rfl (Nat.le_of_ble_eq_true rfl) dX8_init_9 (fun H locs hP hD hS => ?_)
  have hP : va_P D vcl [(a, .inr (6, [.int 0, .ref b, .int 0])), (b, .inl (G 1, 16, .inl (fun _ => 0)))] H := hP
  have hD : va_D (fun q => q = a ∨ s.heap.size ≤ q) [(a, .inr (6, [.int 0, .ref b, .int 0])), (b, .inl (G 1, 16, .inl (fun _ => 0)))] := hD
  refine lv_aload_n hx hb dX8_init_12 rfl (lv_at hl 0 rfl) ?_
  refine lv_iload_n hx hb dX8_init_13 rfl (lv_at hl 1 rfl) ?_
  refine va_putF (D := D) (ci := 6) (v := .int num) (ty := .int) (C := RX12) (T := TX12) (N := 3) hx hb hts in_X12 tyX12 tyX12_ok nmX12 hown hK hP hD hS 0 rfl rfl 0 (by decide) (hts _ q808) (fun _ h9 => h9) rfl hin2 rfl (by decide +kernel) rfl rfl (Nat.le_of_ble_eq_true rfl) dX8_init_14 (fun H locs hP hD hS => ?_)
  have hP : va_P D vcl [(a, .inr (6, [.int num, .ref b, .int 0])), (b, .inl (G 1, 16, .inl (fun _ => 0)))] H := hP
  refine W.widen (k := 1) (n := 16) (Nat.le_of_ble_eq_true rfl) (Nat.le_of_ble_eq_true rfl) ?_
  exact W.vret hx hb hr (fun t ht hW => ⟨⟨b, rfl, hb2, by show va_P _ _ _ t.heap; rw [ht]; exact hP⟩, hS.F ht⟩) hS.2.2 dX8_init_17 hlk

set_option maxHeartbeats 4000000 in
theorem tX12_init_4 (l : Launch) (D : va_G) (G : Nat → Nat) (a sz : Nat) (num : Int32) : Met l yX12_init (ws_ yX12_init cX12_init 2 none) { frames := 2, cells := 1, slots := 16, locals := 33 } (va_Pc [.ref a, .int num] (wiP D G a 6 sz)) (wiQ D G a 6 sz num) 1 16 (fun q => q = a ∨ sz ≤ q) := by
  refine g_entry (by decide) (Nat.le_of_ble_eq_true rfl) ?_
  intro p e s m args below meth c ls hx hb hml hown hts hlk hr hB hl hnm
  obtain ⟨⟨hsz, hP⟩, hK⟩ := hB
  subst hsz
  have hl : lv_has ls 2 [(0, .ref a), (1, .int num)] := hl
  have hown : s.vm.findClass RX12 = some m.cls := hown
  refine lv_aload_n hx hb dX12_init_0 rfl (lv_at hl 0 rfl) ?_
  refine lv_iload_n hx hb dX12_init_1 rfl (lv_at hl 1 rfl) ?_
  refine va_callv (va_runI (As := [.int num]) (rest := []) ⟨hx, hb, hml, hown, hts⟩ (tX8_init_4 l D G a s.heap.size num) (cwI 1 hts (lw_meth q806) rfl rfl rfl (hts _ q89) (hts _ q856) (hts _ q805) rfl (by decide +kernel) ⟨Nat.le_of_ble_eq_true rfl, Nat.le_of_ble_eq_true rfl⟩) ⟨wi_blind, fun U hU hW => ⟨rfl, ⟨by rw [hU], by rw [hU]; exact hP⟩, va_K.moved hW.alike hK⟩⟩ rfl rfl hl.1 rfl (lv_room (Nat.le_of_ble_eq_true rfl)) dX12_init_2 ⟨Nat.le_of_ble_eq_true rfl, Nat.le_of_ble_eq_true rfl⟩) (va_S.rf (A := fun q => q = a ∨ s.heap.size ≤ q)) (fun q _ h => h) (fun q h => h) (fun b t H1 locs1 ht hvm hb2 hB _ _ hS => ?_)
  refine W.widen (k := 1) (n := 16) (Nat.le_of_ble_eq_true rfl) (Nat.le_of_ble_eq_true rfl) ?_
  exact W.vret hx hb hr (fun t2 ht2 hW => ⟨⟨b, rfl, hb2, by show va_P _ _ _ t2.heap; rw [ht2, ← ht]; exact hB⟩, hS.F ht2⟩) hS.2.2 dX12_init_5 hlk

set_option maxHeartbeats 4000000 in
theorem tX8_init_5 (l : Launch) (D : va_G) (G : Nat → Nat) (a sz : Nat) (num : Int32) : Met l yX8_init (ws_ yX8_init cX8_init 2 none) { frames := 1, cells := 1, slots := 16, locals := 12 } (va_Pc [.ref a, .int num] (wiP D G a 7 sz)) (wiQ D G a 7 sz num) 1 16 (fun q => q = a ∨ sz ≤ q) := by
  refine g_entry (by decide) (Nat.le_of_ble_eq_true rfl) ?_
  intro p e s m args below meth c ls hx hb hml hown hts hlk hr hB hl hnm
  obtain ⟨⟨hsz, hP⟩, hK⟩ := hB
  subst hsz
  have hl : lv_has ls 2 [(0, .ref a), (1, .int num)] := hl
  have hown : s.vm.findClass RX8 = some m.cls := hown
  have hin2 : meth.name = "<init>" := hnm
  have hD : va_D (fun q => q = a ∨ s.heap.size ≤ q) [(a, .inr (7, [.int 0, .null, .int 0]))] := vd_1 (Or.inl rfl)
  have hA : ∀ q, s.heap.size ≤ q → (q = a ∨ s.heap.size ≤ q) := fun q h => Or.inr h
  have hS : va_S (fun q => q = a ∨ s.heap.size ≤ q) s.heap s.heap [] := va_S.rf
  refine lv_aload_n hx hb dX8_init_0 rfl (lv_at hl 0 rfl) ?_
  refine W.objInit hx hb hown (hts _ q807) (hts _ q107) (hts _ q108) rfl (by rw [hml]; exact hl.1) rfl dX8_init_1 (Nat.le_of_ble_eq_true rfl) (Nat.le_of_ble_eq_true rfl) ?_
  refine W.eq (g2 := F0 m 4 ls []) rfl ?_
  refine lv_aload_n hx hb dX8_init_4 rfl (lv_at hl 0 rfl) ?_
  refine lv_bipush (v := 16) hx hb dX8_init_5 (by decide) ?_
  refine va_newa (atype := .byte) hx hb (hts _ q160) (ty := .byte) rfl hK hP hD hS hA (n := 16) (N' := 16) (a0 := (16, .inl (fun _ => 0))) (fun _ => rfl) (by decide) rfl (by decide) (Nat.le_of_ble_eq_true rfl) (Nat.le_of_ble_eq_true rfl) dX8_init_7 (fun b cA H hK hP hD hS => ?_)
  have ec : G 1 = cA := cls_byte hK (i := 0) (j := 1) rfl rfl
  subst ec
  have hP : va_P D vcl [(a, .inr (7, [.int 0, .null, .int 0])), (b, .inl (G 1, 16, .inl (fun _ => 0)))] H := hP
  have hD : va_D (fun q => q = a ∨ s.heap.size ≤ q) [(a, .inr (7, [.int 0, .null, .int 0])), (b, .inl (G 1, 16, .inl (fun _ => 0)))] := hD
  have hb2 : s.heap.size ≤ b := by
    rcases hD.2 1 _ rfl with h | h
    · exact absurd (hD.1 0 1 _ _ rfl rfl h.symm) (by decide)
    · exact h
  refine va_putF (D := D) (ci := 7) (v := .ref b) (ty := .array .byte) (C := RX13) (T := TX13) (N := 3) hx hb hts in_X13 tyX13 tyX13_ok nmX13 hown hK hP hD hS 0 rfl rfl 1 (by decide) (hts _ q810) (fun _ h9 => h9) rfl hin2 rfl (by decide +kernel) rfl rfl (Nat.le_of_ble_eq_true rfl) dX8_init_9 (fun H locs hP hD hS => ?_)
  have hP : va_P D vcl [(a, .inr (7, [.int 0, .ref b, .int 0])), (b, .inl (G 1, 16, .inl (fun _ => 0)))] H := hP
  have hD : va_D (fun q => q = a ∨ s.heap.size ≤ q) [(a, .inr (7, [.int 0, .ref b, .int 0])), (b, .inl (G 1, 16, .inl (fun _ => 0)))] := hD
  refine lv_aload_n hx hb dX8_init_12 rfl (lv_at hl 0 rfl) ?_
  refine lv_iload_n hx hb dX8_init_13 rfl (lv_at hl 1 rfl) ?_
  refine va_putF (D := D) (ci := 7) (v := .int num) (ty := .int) (C := RX13) (T := TX13) (N := 3) hx hb hts in_X13 tyX13 tyX13_ok nmX13 hown hK hP hD hS 0 rfl rfl 0 (by decide) (hts _ q808) (fun _ h9 => h9) rfl hin2 rfl (by decide +kernel) rfl rfl (Nat.le_of_ble_eq_true rfl) dX8_init_14 (fun H locs hP hD hS => ?_)
  have hP : va_P D vcl [(a, .inr (7, [.int num, .ref b, .int 0])), (b, .inl (G 1, 16, .inl (fun _ => 0)))] H := hP
  refine W.widen (k := 1) (n := 16) (Nat.le_of_ble_eq_true rfl) (Nat.le_of_ble_eq_true rfl) ?_
  exact W.vret hx hb hr (fun t ht hW => ⟨⟨b, rfl, hb2, by show va_P _ _ _ t.heap; rw [ht]; exact hP⟩, hS.F ht⟩) hS.2.2 dX8_init_17 hlk

set_option maxHeartbeats 4000000 in
theorem tX9_init_5 (l : Launch) (D : va_G) (G : Nat → Nat) (a sz : Nat) (num : Int32) : Met l yX9_init (ws_ yX9_init cX9_init 2 none) { frames := 2, cells := 1, slots := 16, locals := 33 } (va_Pc [.ref a, .int num] (wiP D G a 7 sz)) (wiQ D G a 7 sz num) 1 16 (fun q => q = a ∨ sz ≤ q) := by
  refine g_entry (by decide) (Nat.le_of_ble_eq_true rfl) ?_
  intro p e s m args below meth c ls hx hb hml hown hts hlk hr hB hl hnm
  obtain ⟨⟨hsz, hP⟩, hK⟩ := hB
  subst hsz
  have hl : lv_has ls 2 [(0, .ref a), (1, .int num)] := hl
  have hown : s.vm.findClass RX9 = some m.cls := hown
  refine lv_aload_n hx hb dX9_init_0 rfl (lv_at hl 0 rfl) ?_
  refine lv_iload_n hx hb dX9_init_1 rfl (lv_at hl 1 rfl) ?_
  refine va_callv (va_runI (As := [.int num]) (rest := []) ⟨hx, hb, hml, hown, hts⟩ (tX8_init_5 l D G a s.heap.size num) (cwI 1 hts (lw_meth q806) rfl rfl rfl (hts _ q89) (hts _ q826) (hts _ q805) rfl (by decide +kernel) ⟨Nat.le_of_ble_eq_true rfl, Nat.le_of_ble_eq_true rfl⟩) ⟨wi_blind, fun U hU hW => ⟨rfl, ⟨by rw [hU], by rw [hU]; exact hP⟩, va_K.moved hW.alike hK⟩⟩ rfl rfl hl.1 rfl (lv_room (Nat.le_of_ble_eq_true rfl)) dX9_init_2 ⟨Nat.le_of_ble_eq_true rfl, Nat.le_of_ble_eq_true rfl⟩) (va_S.rf (A := fun q => q = a ∨ s.heap.size ≤ q)) (fun q _ h => h) (fun q h => h) (fun b t H1 locs1 ht hvm hb2 hB _ _ hS => ?_)
  refine W.widen (k := 1) (n := 16) (Nat.le_of_ble_eq_true rfl) (Nat.le_of_ble_eq_true rfl) ?_
  exact W.vret hx hb hr (fun t2 ht2 hW => ⟨⟨b, rfl, hb2, by show va_P _ _ _ t2.heap; rw [ht2, ← ht]; exact hB⟩, hS.F ht2⟩) hS.2.2 dX9_init_5 hlk

set_option maxHeartbeats 4000000 in
theorem tX13_init_5 (l : Launch) (D : va_G) (G : Nat → Nat) (a sz : Nat) (num : Int32) : Met l yX13_init (ws_ yX13_init cX13_init 2 none) { frames := 3, cells := 1, slots := 16, locals := 54 } (va_Pc [.ref a, .int num] (wiP D G a 7 sz)) (wiQ D G a 7 sz num) 1 16 (fun q => q = a ∨ sz ≤ q) := by
  refine g_entry (by decide) (Nat.le_of_ble_eq_true rfl) ?_
  intro p e s m args below meth c ls hx hb hml hown hts hlk hr hB hl hnm
  obtain ⟨⟨hsz, hP⟩, hK⟩ := hB
  subst hsz
  have hl : lv_has ls 2 [(0, .ref a), (1, .int num)] := hl
  have hown : s.vm.findClass RX13 = some m.cls := hown
  refine lv_aload_n hx hb dX13_init_0 rfl (lv_at hl 0 rfl) ?_
  refine lv_iload_n hx hb dX13_init_1 rfl (lv_at hl 1 rfl) ?_
  refine va_callv (va_runI (As := [.int num]) (rest := []) ⟨hx, hb, hml, hown, hts⟩ (tX9_init_5 l D G a s.heap.size num) (cwI 1 hts (lw_meth q825) rfl rfl rfl (hts _ q90) (hts _ q866) (hts _ q824) rfl (by decide +kernel) ⟨Nat.le_of_ble_eq_true rfl, Nat.le_of_ble_eq_true rfl⟩) ⟨wi_blind, fun U hU hW => ⟨rfl, ⟨by rw [hU], by rw [hU]; exact hP⟩, va_K.moved hW.alike hK⟩⟩ rfl rfl hl.1 rfl (lv_room (Nat.le_of_ble_eq_true rfl)) dX13_init_2 ⟨Nat.le_of_ble_eq_true rfl, Nat.le_of_ble_eq_true rfl⟩) (va_S.rf (A := fun q => q = a ∨ s.heap.size ≤ q)) (fun q _ h => h) (fun q h => h) (fun b t H1 locs1 ht hvm hb2 hB _ _ hS => ?_)
  refine W.widen (k := 1) (n := 16) (Nat.le_of_ble_eq_true rfl) (Nat.le_of_ble_eq_true rfl) ?_
  exact W.vret hx hb hr (fun t2 ht2 hW => ⟨⟨b, rfl, hb2, by show va_P _ _ _ t2.heap; rw [ht2, ← ht]; exact hB⟩, hS.F ht2⟩) hS.2.2 dX13_init_5 hlk

def mdQ (D : va_G) (G : Nat → Nat) (kd sz : Nat) (num : Int32) : Array Value → State → Outcome → State → Prop := va_Qr (fun _ : Nat => True) (fun b a t => va_P D vcl [(a, .inr (2 + kd, [.int num, .ref b, .int 0])), (b, .inl (G 1, 16, .inl (fun _ => 0)))] t.heap ∧ sz ≤ a ∧ sz ≤ b ∧ a ≠ b) (fun q => sz ≤ q)
def mdP (D : va_G) (G : Nat → Nat) (sz : Nat) (V : State) : Prop := V.heap.size = sz ∧ va_K D vcl [(G 1, .byte)] V
theorem md_blind {as : List Value} {D : va_G} {G : Nat → Nat} {sz : Nat} : FrameBlind (va_Pc as (mdP D G sz)) := fun a V g mk q => ⟨q.1, q.2.1, va_K.moved (u := V) (U := V.calling g mk a) (Vm.Alike.refl V.vm) q.2.2⟩
set_option maxHeartbeats 4000000 in
theorem tX0_made_0 (l : Launch) (D : va_G) (G : Nat → Nat) (sz : Nat) (num : Int32) : Met l yX0_made (ws_ yX0_made cX0_made 2 (some (.object "GateRoad$Way"))) { frames := 4, cells := 2, slots := 19, locals := 75 } (va_Pc [.int 0, .int num] (mdP D G sz)) (mdQ D G 0 sz num) 2 19 (fun q => sz ≤ q) := by
  refine g_entry (by decide) (Nat.le_of_ble_eq_true rfl) ?_
  intro p e s m args below meth c ls hx hb hml hown hts hlk hr hB hl hnm
  obtain ⟨hsz, hK⟩ := hB
  subst hsz
  have hl : lv_has ls 2 [(0, .int 0), (1, .int num)] := hl
  have hown : s.vm.findClass RX0 = some m.cls := hown
  have hA : ∀ q, s.heap.size ≤ q → s.heap.size ≤ q := fun q h => h
  have hS : va_S (fun q => s.heap.size ≤ q) s.heap s.heap [] := va_S.rf
  have hPz : va_P D vcl [] s.heap := fun k q h => by cases h
  have hDz : va_D (fun q => s.heap.size ≤ q) [] := ⟨fun i j p q h => by simp at h, fun k q h => by simp at h⟩
  refine lv_iload_n hx hb dX0_made_0 rfl (lv_at hl 0 rfl) ?_
  refine ts_in (off := 35) (tgt := 36) hx hb dX0_made_1 0 rfl (by decide) (by decide) ?_
  refine va_new (ci := 2) (fs := [.int 0, .null, .int 0]) (C := RX8) (T := TX8) (N := 3) hx hb hts in_X8 tyX8 tyX8_ok hown (hts _ q136) (hts _ q803) (hts _ q89) hK hPz hDz hS hA rfl (fun j hj => by rcases (show j = 0 ∨ j = 1 ∨ j = 2 by omega) with rfl | rfl | rfl <;> rfl) (Nat.le_of_ble_eq_true rfl) (Nat.le_of_ble_eq_true rfl) dX0_made_36 (fun a H hP hD hS => ?_)
  have hP : va_P D vcl [(a, .inr (2, [.int 0, .null, .int 0]))] H := hP
  have hD : va_D (fun q => s.heap.size ≤ q) [(a, .inr (2, [.int 0, .null, .int 0]))] := hD
  have ha : s.heap.size ≤ a := hD.2 0 _ rfl
  have hz : s.heap.size ≤ H.size := hS.1
  have haz : a < H.size := (hP 0 _ rfl).lt
  refine lv_dup hx hb dX0_made_39 rfl ?_
  refine lv_iload_n hx hb dX0_made_40 rfl (lv_at hl 1 rfl) ?_
  refine va_callv (va_runI (As := [.int num]) (rest := [.ref a]) ⟨hx, hb, hml, hown, hts⟩ (tX8_init_0 l D G a H.size num) (cwI 1 hts (lw_meth q806) rfl rfl rfl (hts _ q89) (hts _ q804) (hts _ q805) rfl (by decide +kernel) ⟨Nat.le_of_ble_eq_true rfl, Nat.le_of_ble_eq_true rfl⟩) ⟨wi_blind, fun U hU hW => ⟨rfl, ⟨by rw [hU], by rw [hU]; exact hP⟩, va_K.moved hW.alike hK⟩⟩ rfl rfl hl.1 rfl (lv_room (Nat.le_of_ble_eq_true rfl)) dX0_made_41 ⟨Nat.le_of_ble_eq_true rfl, Nat.le_of_ble_eq_true rfl⟩) hS (fun q _ h => h.elim (fun z => by rw [z]; exact ha) (fun z => Nat.le_trans hz z)) (fun q h => h.elim (fun z => by rw [z]; exact ha) (fun z => Nat.le_trans hz z)) (fun b t H1 locs1 ht hvm hb2 hB _ _ hS => ?_)
  refine W.widen (k := 2) (n := 19) (Nat.le_of_ble_eq_true rfl) (Nat.le_of_ble_eq_true rfl) ?_
  exact W.aret hx hb hr (Or.inl ⟨_, rfl⟩) (Or.inr ⟨a, rfl⟩) (fun t2 ht2 hW => ⟨⟨b, a, rfl, trivial, by show va_P _ _ _ t2.heap; rw [ht2, ← ht]; exact hB, ha, Nat.le_trans hz hb2, by intro z; omega⟩, hS.F ht2⟩) hS.2.2 dX0_made_44 hlk

set_option maxHeartbeats 4000000 in
theorem tX0_made_1 (l : Launch) (D : va_G) (G : Nat → Nat) (sz : Nat) (num : Int32) : Met l yX0_made (ws_ yX0_made cX0_made 2 (some (.object "GateRoad$Way"))) { frames := 4, cells := 2, slots := 19, locals := 75 } (va_Pc [.int 1, .int num] (mdP D G sz)) (mdQ D G 1 sz num) 2 19 (fun q => sz ≤ q) := by
  refine g_entry (by decide) (Nat.le_of_ble_eq_true rfl) ?_
  intro p e s m args below meth c ls hx hb hml hown hts hlk hr hB hl hnm
  obtain ⟨hsz, hK⟩ := hB
  subst hsz
  have hl : lv_has ls 2 [(0, .int 1), (1, .int num)] := hl
  have hown : s.vm.findClass RX0 = some m.cls := hown
  have hA : ∀ q, s.heap.size ≤ q → s.heap.size ≤ q := fun q h => h
  have hS : va_S (fun q => s.heap.size ≤ q) s.heap s.heap [] := va_S.rf
  have hPz : va_P D vcl [] s.heap := fun k q h => by cases h
  have hDz : va_D (fun q => s.heap.size ≤ q) [] := ⟨fun i j p q h => by simp at h, fun k q h => by simp at h⟩
  refine lv_iload_n hx hb dX0_made_0 rfl (lv_at hl 0 rfl) ?_
  refine ts_in (off := 44) (tgt := 45) hx hb dX0_made_1 1 rfl (by decide) (by decide) ?_
  refine va_new (ci := 3) (fs := [.int 0, .null, .int 0]) (C := RX9) (T := TX9) (N := 3) hx hb hts in_X9 tyX9 tyX9_ok hown (hts _ q821) (hts _ q822) (hts _ q90) hK hPz hDz hS hA rfl (fun j hj => by rcases (show j = 0 ∨ j = 1 ∨ j = 2 by omega) with rfl | rfl | rfl <;> rfl) (Nat.le_of_ble_eq_true rfl) (Nat.le_of_ble_eq_true rfl) dX0_made_45 (fun a H hP hD hS => ?_)
  have hP : va_P D vcl [(a, .inr (3, [.int 0, .null, .int 0]))] H := hP
  have hD : va_D (fun q => s.heap.size ≤ q) [(a, .inr (3, [.int 0, .null, .int 0]))] := hD
  have ha : s.heap.size ≤ a := hD.2 0 _ rfl
  have hz : s.heap.size ≤ H.size := hS.1
  have haz : a < H.size := (hP 0 _ rfl).lt
  refine lv_dup hx hb dX0_made_48 rfl ?_
  refine lv_iload_n hx hb dX0_made_49 rfl (lv_at hl 1 rfl) ?_
  refine va_callv (va_runI (As := [.int num]) (rest := [.ref a]) ⟨hx, hb, hml, hown, hts⟩ (tX9_init_1 l D G a H.size num) (cwI 1 hts (lw_meth q825) rfl rfl rfl (hts _ q90) (hts _ q823) (hts _ q824) rfl (by decide +kernel) ⟨Nat.le_of_ble_eq_true rfl, Nat.le_of_ble_eq_true rfl⟩) ⟨wi_blind, fun U hU hW => ⟨rfl, ⟨by rw [hU], by rw [hU]; exact hP⟩, va_K.moved hW.alike hK⟩⟩ rfl rfl hl.1 rfl (lv_room (Nat.le_of_ble_eq_true rfl)) dX0_made_50 ⟨Nat.le_of_ble_eq_true rfl, Nat.le_of_ble_eq_true rfl⟩) hS (fun q _ h => h.elim (fun z => by rw [z]; exact ha) (fun z => Nat.le_trans hz z)) (fun q h => h.elim (fun z => by rw [z]; exact ha) (fun z => Nat.le_trans hz z)) (fun b t H1 locs1 ht hvm hb2 hB _ _ hS => ?_)
  refine W.widen (k := 2) (n := 19) (Nat.le_of_ble_eq_true rfl) (Nat.le_of_ble_eq_true rfl) ?_
  exact W.aret hx hb hr (Or.inl ⟨_, rfl⟩) (Or.inr ⟨a, rfl⟩) (fun t2 ht2 hW => ⟨⟨b, a, rfl, trivial, by show va_P _ _ _ t2.heap; rw [ht2, ← ht]; exact hB, ha, Nat.le_trans hz hb2, by intro z; omega⟩, hS.F ht2⟩) hS.2.2 dX0_made_53 hlk

set_option maxHeartbeats 4000000 in
theorem tX0_made_2 (l : Launch) (D : va_G) (G : Nat → Nat) (sz : Nat) (num : Int32) : Met l yX0_made (ws_ yX0_made cX0_made 2 (some (.object "GateRoad$Way"))) { frames := 4, cells := 2, slots := 19, locals := 75 } (va_Pc [.int 2, .int num] (mdP D G sz)) (mdQ D G 2 sz num) 2 19 (fun q => sz ≤ q) := by
  refine g_entry (by decide) (Nat.le_of_ble_eq_true rfl) ?_
  intro p e s m args below meth c ls hx hb hml hown hts hlk hr hB hl hnm
  obtain ⟨hsz, hK⟩ := hB
  subst hsz
  have hl : lv_has ls 2 [(0, .int 2), (1, .int num)] := hl
  have hown : s.vm.findClass RX0 = some m.cls := hown
  have hA : ∀ q, s.heap.size ≤ q → s.heap.size ≤ q := fun q h => h
  have hS : va_S (fun q => s.heap.size ≤ q) s.heap s.heap [] := va_S.rf
  have hPz : va_P D vcl [] s.heap := fun k q h => by cases h
  have hDz : va_D (fun q => s.heap.size ≤ q) [] := ⟨fun i j p q h => by simp at h, fun k q h => by simp at h⟩
  refine lv_iload_n hx hb dX0_made_0 rfl (lv_at hl 0 rfl) ?_
  refine ts_in (off := 53) (tgt := 54) hx hb dX0_made_1 2 rfl (by decide) (by decide) ?_
  refine va_new (ci := 4) (fs := [.int 0, .null, .int 0]) (C := RX10) (T := TX10) (N := 3) hx hb hts in_X10 tyX10 tyX10_ok hown (hts _ q831) (hts _ q832) (hts _ q91) hK hPz hDz hS hA rfl (fun j hj => by rcases (show j = 0 ∨ j = 1 ∨ j = 2 by omega) with rfl | rfl | rfl <;> rfl) (Nat.le_of_ble_eq_true rfl) (Nat.le_of_ble_eq_true rfl) dX0_made_54 (fun a H hP hD hS => ?_)
  have hP : va_P D vcl [(a, .inr (4, [.int 0, .null, .int 0]))] H := hP
  have hD : va_D (fun q => s.heap.size ≤ q) [(a, .inr (4, [.int 0, .null, .int 0]))] := hD
  have ha : s.heap.size ≤ a := hD.2 0 _ rfl
  have hz : s.heap.size ≤ H.size := hS.1
  have haz : a < H.size := (hP 0 _ rfl).lt
  refine lv_dup hx hb dX0_made_57 rfl ?_
  refine lv_iload_n hx hb dX0_made_58 rfl (lv_at hl 1 rfl) ?_
  refine va_callv (va_runI (As := [.int num]) (rest := [.ref a]) ⟨hx, hb, hml, hown, hts⟩ (tX10_init_2 l D G a H.size num) (cwI 1 hts (lw_meth q835) rfl rfl rfl (hts _ q91) (hts _ q833) (hts _ q834) rfl (by decide +kernel) ⟨Nat.le_of_ble_eq_true rfl, Nat.le_of_ble_eq_true rfl⟩) ⟨wi_blind, fun U hU hW => ⟨rfl, ⟨by rw [hU], by rw [hU]; exact hP⟩, va_K.moved hW.alike hK⟩⟩ rfl rfl hl.1 rfl (lv_room (Nat.le_of_ble_eq_true rfl)) dX0_made_59 ⟨Nat.le_of_ble_eq_true rfl, Nat.le_of_ble_eq_true rfl⟩) hS (fun q _ h => h.elim (fun z => by rw [z]; exact ha) (fun z => Nat.le_trans hz z)) (fun q h => h.elim (fun z => by rw [z]; exact ha) (fun z => Nat.le_trans hz z)) (fun b t H1 locs1 ht hvm hb2 hB _ _ hS => ?_)
  refine W.widen (k := 2) (n := 19) (Nat.le_of_ble_eq_true rfl) (Nat.le_of_ble_eq_true rfl) ?_
  exact W.aret hx hb hr (Or.inl ⟨_, rfl⟩) (Or.inr ⟨a, rfl⟩) (fun t2 ht2 hW => ⟨⟨b, a, rfl, trivial, by show va_P _ _ _ t2.heap; rw [ht2, ← ht]; exact hB, ha, Nat.le_trans hz hb2, by intro z; omega⟩, hS.F ht2⟩) hS.2.2 dX0_made_62 hlk

set_option maxHeartbeats 4000000 in
theorem tX0_made_3 (l : Launch) (D : va_G) (G : Nat → Nat) (sz : Nat) (num : Int32) : Met l yX0_made (ws_ yX0_made cX0_made 2 (some (.object "GateRoad$Way"))) { frames := 4, cells := 2, slots := 19, locals := 75 } (va_Pc [.int 3, .int num] (mdP D G sz)) (mdQ D G 3 sz num) 2 19 (fun q => sz ≤ q) := by
  refine g_entry (by decide) (Nat.le_of_ble_eq_true rfl) ?_
  intro p e s m args below meth c ls hx hb hml hown hts hlk hr hB hl hnm
  obtain ⟨hsz, hK⟩ := hB
  subst hsz
  have hl : lv_has ls 2 [(0, .int 3), (1, .int num)] := hl
  have hown : s.vm.findClass RX0 = some m.cls := hown
  have hA : ∀ q, s.heap.size ≤ q → s.heap.size ≤ q := fun q h => h
  have hS : va_S (fun q => s.heap.size ≤ q) s.heap s.heap [] := va_S.rf
  have hPz : va_P D vcl [] s.heap := fun k q h => by cases h
  have hDz : va_D (fun q => s.heap.size ≤ q) [] := ⟨fun i j p q h => by simp at h, fun k q h => by simp at h⟩
  refine lv_iload_n hx hb dX0_made_0 rfl (lv_at hl 0 rfl) ?_
  refine ts_in (off := 62) (tgt := 63) hx hb dX0_made_1 3 rfl (by decide) (by decide) ?_
  refine va_new (ci := 5) (fs := [.int 0, .null, .int 0]) (C := RX11) (T := TX11) (N := 3) hx hb hts in_X11 tyX11 tyX11_ok hown (hts _ q841) (hts _ q842) (hts _ q92) hK hPz hDz hS hA rfl (fun j hj => by rcases (show j = 0 ∨ j = 1 ∨ j = 2 by omega) with rfl | rfl | rfl <;> rfl) (Nat.le_of_ble_eq_true rfl) (Nat.le_of_ble_eq_true rfl) dX0_made_63 (fun a H hP hD hS => ?_)
  have hP : va_P D vcl [(a, .inr (5, [.int 0, .null, .int 0]))] H := hP
  have hD : va_D (fun q => s.heap.size ≤ q) [(a, .inr (5, [.int 0, .null, .int 0]))] := hD
  have ha : s.heap.size ≤ a := hD.2 0 _ rfl
  have hz : s.heap.size ≤ H.size := hS.1
  have haz : a < H.size := (hP 0 _ rfl).lt
  refine lv_dup hx hb dX0_made_66 rfl ?_
  refine lv_iload_n hx hb dX0_made_67 rfl (lv_at hl 1 rfl) ?_
  refine va_callv (va_runI (As := [.int num]) (rest := [.ref a]) ⟨hx, hb, hml, hown, hts⟩ (tX11_init_3 l D G a H.size num) (cwI 1 hts (lw_meth q845) rfl rfl rfl (hts _ q92) (hts _ q843) (hts _ q844) rfl (by decide +kernel) ⟨Nat.le_of_ble_eq_true rfl, Nat.le_of_ble_eq_true rfl⟩) ⟨wi_blind, fun U hU hW => ⟨rfl, ⟨by rw [hU], by rw [hU]; exact hP⟩, va_K.moved hW.alike hK⟩⟩ rfl rfl hl.1 rfl (lv_room (Nat.le_of_ble_eq_true rfl)) dX0_made_68 ⟨Nat.le_of_ble_eq_true rfl, Nat.le_of_ble_eq_true rfl⟩) hS (fun q _ h => h.elim (fun z => by rw [z]; exact ha) (fun z => Nat.le_trans hz z)) (fun q h => h.elim (fun z => by rw [z]; exact ha) (fun z => Nat.le_trans hz z)) (fun b t H1 locs1 ht hvm hb2 hB _ _ hS => ?_)
  refine W.widen (k := 2) (n := 19) (Nat.le_of_ble_eq_true rfl) (Nat.le_of_ble_eq_true rfl) ?_
  exact W.aret hx hb hr (Or.inl ⟨_, rfl⟩) (Or.inr ⟨a, rfl⟩) (fun t2 ht2 hW => ⟨⟨b, a, rfl, trivial, by show va_P _ _ _ t2.heap; rw [ht2, ← ht]; exact hB, ha, Nat.le_trans hz hb2, by intro z; omega⟩, hS.F ht2⟩) hS.2.2 dX0_made_71 hlk

set_option maxHeartbeats 4000000 in
theorem tX0_made_4 (l : Launch) (D : va_G) (G : Nat → Nat) (sz : Nat) (num : Int32) : Met l yX0_made (ws_ yX0_made cX0_made 2 (some (.object "GateRoad$Way"))) { frames := 4, cells := 2, slots := 19, locals := 75 } (va_Pc [.int 4, .int num] (mdP D G sz)) (mdQ D G 4 sz num) 2 19 (fun q => sz ≤ q) := by
  refine g_entry (by decide) (Nat.le_of_ble_eq_true rfl) ?_
  intro p e s m args below meth c ls hx hb hml hown hts hlk hr hB hl hnm
  obtain ⟨hsz, hK⟩ := hB
  subst hsz
  have hl : lv_has ls 2 [(0, .int 4), (1, .int num)] := hl
  have hown : s.vm.findClass RX0 = some m.cls := hown
  have hA : ∀ q, s.heap.size ≤ q → s.heap.size ≤ q := fun q h => h
  have hS : va_S (fun q => s.heap.size ≤ q) s.heap s.heap [] := va_S.rf
  have hPz : va_P D vcl [] s.heap := fun k q h => by cases h
  have hDz : va_D (fun q => s.heap.size ≤ q) [] := ⟨fun i j p q h => by simp at h, fun k q h => by simp at h⟩
  refine lv_iload_n hx hb dX0_made_0 rfl (lv_at hl 0 rfl) ?_
  refine ts_in (off := 71) (tgt := 72) hx hb dX0_made_1 4 rfl (by decide) (by decide) ?_
  refine va_new (ci := 6) (fs := [.int 0, .null, .int 0]) (C := RX12) (T := TX12) (N := 3) hx hb hts in_X12 tyX12 tyX12_ok hown (hts _ q851) (hts _ q852) (hts _ q93) hK hPz hDz hS hA rfl (fun j hj => by rcases (show j = 0 ∨ j = 1 ∨ j = 2 by omega) with rfl | rfl | rfl <;> rfl) (Nat.le_of_ble_eq_true rfl) (Nat.le_of_ble_eq_true rfl) dX0_made_72 (fun a H hP hD hS => ?_)
  have hP : va_P D vcl [(a, .inr (6, [.int 0, .null, .int 0]))] H := hP
  have hD : va_D (fun q => s.heap.size ≤ q) [(a, .inr (6, [.int 0, .null, .int 0]))] := hD
  have ha : s.heap.size ≤ a := hD.2 0 _ rfl
  have hz : s.heap.size ≤ H.size := hS.1
  have haz : a < H.size := (hP 0 _ rfl).lt
  refine lv_dup hx hb dX0_made_75 rfl ?_
  refine lv_iload_n hx hb dX0_made_76 rfl (lv_at hl 1 rfl) ?_
  refine va_callv (va_runI (As := [.int num]) (rest := [.ref a]) ⟨hx, hb, hml, hown, hts⟩ (tX12_init_4 l D G a H.size num) (cwI 1 hts (lw_meth q855) rfl rfl rfl (hts _ q93) (hts _ q853) (hts _ q854) rfl (by decide +kernel) ⟨Nat.le_of_ble_eq_true rfl, Nat.le_of_ble_eq_true rfl⟩) ⟨wi_blind, fun U hU hW => ⟨rfl, ⟨by rw [hU], by rw [hU]; exact hP⟩, va_K.moved hW.alike hK⟩⟩ rfl rfl hl.1 rfl (lv_room (Nat.le_of_ble_eq_true rfl)) dX0_made_77 ⟨Nat.le_of_ble_eq_true rfl, Nat.le_of_ble_eq_true rfl⟩) hS (fun q _ h => h.elim (fun z => by rw [z]; exact ha) (fun z => Nat.le_trans hz z)) (fun q h => h.elim (fun z => by rw [z]; exact ha) (fun z => Nat.le_trans hz z)) (fun b t H1 locs1 ht hvm hb2 hB _ _ hS => ?_)
  refine W.widen (k := 2) (n := 19) (Nat.le_of_ble_eq_true rfl) (Nat.le_of_ble_eq_true rfl) ?_
  exact W.aret hx hb hr (Or.inl ⟨_, rfl⟩) (Or.inr ⟨a, rfl⟩) (fun t2 ht2 hW => ⟨⟨b, a, rfl, trivial, by show va_P _ _ _ t2.heap; rw [ht2, ← ht]; exact hB, ha, Nat.le_trans hz hb2, by intro z; omega⟩, hS.F ht2⟩) hS.2.2 dX0_made_80 hlk

set_option maxHeartbeats 4000000 in
theorem tX0_made_5 (l : Launch) (D : va_G) (G : Nat → Nat) (sz : Nat) (num : Int32) : Met l yX0_made (ws_ yX0_made cX0_made 2 (some (.object "GateRoad$Way"))) { frames := 4, cells := 2, slots := 19, locals := 75 } (va_Pc [.int 5, .int num] (mdP D G sz)) (mdQ D G 5 sz num) 2 19 (fun q => sz ≤ q) := by
  refine g_entry (by decide) (Nat.le_of_ble_eq_true rfl) ?_
  intro p e s m args below meth c ls hx hb hml hown hts hlk hr hB hl hnm
  obtain ⟨hsz, hK⟩ := hB
  subst hsz
  have hl : lv_has ls 2 [(0, .int 5), (1, .int num)] := hl
  have hown : s.vm.findClass RX0 = some m.cls := hown
  have hA : ∀ q, s.heap.size ≤ q → s.heap.size ≤ q := fun q h => h
  have hS : va_S (fun q => s.heap.size ≤ q) s.heap s.heap [] := va_S.rf
  have hPz : va_P D vcl [] s.heap := fun k q h => by cases h
  have hDz : va_D (fun q => s.heap.size ≤ q) [] := ⟨fun i j p q h => by simp at h, fun k q h => by simp at h⟩
  refine lv_iload_n hx hb dX0_made_0 rfl (lv_at hl 0 rfl) ?_
  refine lv_tableOut (tgt := 81) hx hb dX0_made_1 (by decide) (by decide) ?_
  refine va_new (ci := 7) (fs := [.int 0, .null, .int 0]) (C := RX13) (T := TX13) (N := 3) hx hb hts in_X13 tyX13 tyX13_ok hown (hts _ q861) (hts _ q862) (hts _ q94) hK hPz hDz hS hA rfl (fun j hj => by rcases (show j = 0 ∨ j = 1 ∨ j = 2 by omega) with rfl | rfl | rfl <;> rfl) (Nat.le_of_ble_eq_true rfl) (Nat.le_of_ble_eq_true rfl) dX0_made_81 (fun a H hP hD hS => ?_)
  have hP : va_P D vcl [(a, .inr (7, [.int 0, .null, .int 0]))] H := hP
  have hD : va_D (fun q => s.heap.size ≤ q) [(a, .inr (7, [.int 0, .null, .int 0]))] := hD
  have ha : s.heap.size ≤ a := hD.2 0 _ rfl
  have hz : s.heap.size ≤ H.size := hS.1
  have haz : a < H.size := (hP 0 _ rfl).lt
  refine lv_dup hx hb dX0_made_84 rfl ?_
  refine lv_iload_n hx hb dX0_made_85 rfl (lv_at hl 1 rfl) ?_
  refine va_callv (va_runI (As := [.int num]) (rest := [.ref a]) ⟨hx, hb, hml, hown, hts⟩ (tX13_init_5 l D G a H.size num) (cwI 1 hts (lw_meth q865) rfl rfl rfl (hts _ q94) (hts _ q863) (hts _ q864) rfl (by decide +kernel) ⟨Nat.le_of_ble_eq_true rfl, Nat.le_of_ble_eq_true rfl⟩) ⟨wi_blind, fun U hU hW => ⟨rfl, ⟨by rw [hU], by rw [hU]; exact hP⟩, va_K.moved hW.alike hK⟩⟩ rfl rfl hl.1 rfl (lv_room (Nat.le_of_ble_eq_true rfl)) dX0_made_86 ⟨Nat.le_of_ble_eq_true rfl, Nat.le_of_ble_eq_true rfl⟩) hS (fun q _ h => h.elim (fun z => by rw [z]; exact ha) (fun z => Nat.le_trans hz z)) (fun q h => h.elim (fun z => by rw [z]; exact ha) (fun z => Nat.le_trans hz z)) (fun b t H1 locs1 ht hvm hb2 hB _ _ hS => ?_)
  refine W.widen (k := 2) (n := 19) (Nat.le_of_ble_eq_true rfl) (Nat.le_of_ble_eq_true rfl) ?_
  exact W.aret hx hb hr (Or.inl ⟨_, rfl⟩) (Or.inr ⟨a, rfl⟩) (fun t2 ht2 hW => ⟨⟨b, a, rfl, trivial, by show va_P _ _ _ t2.heap; rw [ht2, ← ht]; exact hB, ha, Nat.le_trans hz hb2, by intro z; omega⟩, hS.F ht2⟩) hS.2.2 dX0_made_89 hlk

